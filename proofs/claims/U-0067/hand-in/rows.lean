section
/-! rows pasted from kit/rows (PURE-ROWS, BITS) -/
theorem pk_us {f : Nat → Int32} {k : Nat} {x : Int32} : upd f k x k = x := if_pos rfl
theorem pk_un {f : Nat → Int32} {k j : Nat} {x : Int32} (h : j ≠ k) : upd f k x j = f j := if_neg h
theorem pk_sub {a b : Nat} (h : b ≤ a) : nI a - nI b = nI (a - b) := by
  obtain ⟨c, rfl⟩ : ∃ c, a = c + b := ⟨a - b, by omega⟩
  rw [← nI_add, Int32.add_sub_cancel, Nat.add_sub_cancel]
theorem pk_m1 (n : Nat) : nI (n + 1) + (-1) = nI n := by
  rw [← nI_1, Int32.add_assoc, show (1 : Int32) + (-1) = 0 from rfl, Int32.add_zero]
theorem pk_mul (a b : Nat) : nI a * nI b = nI (a * b) := (Int32.ofNat_mul a b).symm
theorem pk_ix (x : Int32) {n : Nat} (hn : n < 2 ^ 31) : x < 0 ∨ nI n ≤ x ∨ ∃ j : Nat, j < n ∧ x = nI j := by
  by_cases h : x < 0
  · exact Or.inl h
  · obtain ⟨j, hj, rfl⟩ := nI_of h
    by_cases h2 : j < n
    · exact Or.inr (Or.inr ⟨j, h2, rfl⟩)
    · exact Or.inr (Or.inl (nI_le (by omega) hj))
theorem pk_le {x y : Int32} {A B : Prop} (a b : Nat) (f : a ≤ b → A) (g : b < a → B) (hx : x = nI a := by rfl) (hy : y = nI b := by rfl) (ha : a < 2 ^ 31 := by omega) (hb : b < 2 ^ 31 := by omega) : (x ≤ y → A) ∧ (¬ x ≤ y → B) := by
  subst hx hy
  rw [nI_leI ha hb]
  exact ⟨f, fun z => g (by omega)⟩
theorem pk_lt {x y : Int32} {A B : Prop} (a b : Nat) (f : a < b → A) (g : b ≤ a → B) (hx : x = nI a := by rfl) (hy : y = nI b := by rfl) (ha : a < 2 ^ 31 := by omega) (hb : b < 2 ^ 31 := by omega) : (x < y → A) ∧ (¬ x < y → B) := by
  subst hx hy
  rw [nI_ltI ha hb]
  exact ⟨f, fun z => g (by omega)⟩
theorem pk_eq {x y : Int32} {A B : Prop} (a b : Nat) (f : a = b → A) (g : a ≠ b → B) (hx : x = nI a := by rfl) (hy : y = nI b := by rfl) (ha : a < 2 ^ 31 := by omega) (hb : b < 2 ^ 31 := by omega) : (x = y → A) ∧ (¬ x = y → B) := by
  subst hx hy
  rw [nI_eq ha hb]
  exact ⟨f, g⟩
theorem pk_in {x : Int32} (n N : Nat) (h : n < N) (hx : x = nI n := by rfl) (hN : N < 2 ^ 31 := by omega) : vp_in x N := by
  subst hx
  exact vp_in_nI h hN
theorem pk_cl {x : Int32} (n : Nat) (hx : x = nI n := by rfl) (h : n < 2 ^ 31 := by omega) : x.toNatClampNeg = n := by
  subst hx
  exact nI_clamp h
theorem pk_tn {n : Nat} (h : n < 2 ^ 32) : (nI n).toBitVec.toNat = n := Nat.mod_eq_of_lt h
theorem pk_shl (a s : Int32) (k : Nat) (hs : (s.toBitVec.smod 32).toNat = k) : (a <<< s).toBitVec.toNat = a.toBitVec.toNat * 2 ^ k % 2 ^ 32 := by
  show (a.toBitVec <<< (s.toBitVec.smod 32).toNat).toNat = _
  rw [hs, BitVec.toNat_shiftLeft, Nat.shiftLeft_eq]
theorem pk_shlN {n : Nat} (s : Int32) (k : Nat) (hs : (s.toBitVec.smod 32).toNat = k) (h : n * 2 ^ k < 2 ^ 32) : nI n <<< s = nI (n * 2 ^ k) := by
  apply Int32.toBitVec_inj.mp
  apply BitVec.eq_of_toNat_eq
  have hn : n < 2 ^ 32 := Nat.lt_of_le_of_lt (Nat.le_mul_of_pos_right n (Nat.two_pow_pos k)) h
  rw [pk_shl _ _ k hs, pk_tn hn, pk_tn h, Nat.mod_eq_of_lt h]
theorem pk_shr (a s : Int32) (k : Nat) (hs : (s.toBitVec.smod 32).toNat = k) : (a >>> s).toInt = a.toInt >>> k := by
  show (a.toBitVec.sshiftRight (s.toBitVec.smod 32).toNat).toInt = _
  rw [hs, BitVec.toInt_sshiftRight]
  rfl
theorem pk_shrN {n : Nat} (h : n < 2 ^ 31) (s : Int32) (k : Nat) (hs : (s.toBitVec.smod 32).toNat = k) : nI n >>> s = nI (n / 2 ^ k) := by
  apply Int32.toInt_inj.mp
  have h2 : n / 2 ^ k ≤ n := Nat.div_le_self _ _
  rw [pk_shr _ _ k hs, nI_toInt h, nI_toInt (by omega), Int.shiftRight_eq_div_pow]
  rfl
def bt (x : Int32) (i : Nat) : Bool := x.toBitVec.getLsbD i
theorem b_ext {x y : Int32} (h : ∀ i, i < 32 → bt x i = bt y i) : x = y := Int32.toBitVec_inj.mp (BitVec.eq_of_getLsbD_eq (fun i hi => h i hi))
theorem b_or (x y : Int32) (i : Nat) : bt (x ||| y) i = (bt x i || bt y i) := by unfold bt; rw [Int32.toBitVec_or, BitVec.getLsbD_or]
theorem b_and (x y : Int32) (i : Nat) : bt (x &&& y) i = (bt x i && bt y i) := by unfold bt; rw [Int32.toBitVec_and, BitVec.getLsbD_and]
theorem b_xor (x y : Int32) (i : Nat) : bt (x ^^^ y) i = (bt x i ^^ bt y i) := by unfold bt; rw [Int32.toBitVec_xor, BitVec.getLsbD_xor]
theorem b_big {x : Int32} {i : Nat} (h : 32 ≤ i) : bt x i = false := BitVec.getLsbD_of_ge _ _ h
theorem b_m1 : ∀ i, i < 32 → bt (-1) i = true := by decide +kernel
theorem b_0 (i : Nat) : bt 0 i = false := BitVec.getLsbD_zero
theorem s_l : ∀ n, n < 32 → ((nI n &&& 31).toBitVec.smod 32).toNat = n := by decide +kernel
theorem b_shl (n : Nat) (hn : n < 32) (x : Int32) {i : Nat} (hi : i < 32) : bt (x <<< (nI n &&& 31)) i = (decide (n ≤ i) && bt x (i - n)) := by
  unfold bt
  rw [Int32.toBitVec_shiftLeft]
  show (x.toBitVec <<< ((nI n &&& 31).toBitVec.smod 32).toNat).getLsbD i = _
  rw [s_l n hn, BitVec.getLsbD_shiftLeft]
  rcases Nat.lt_or_ge i n with h | h
  · simp [h, Nat.not_le.mpr h]
  · simp [hi, h, Nat.not_lt.mpr h]
theorem b_sshr (n : Nat) (hn : n < 32) (x : Int32) {i : Nat} (hi : i < 32) : bt (x >>> (nI n &&& 31)) i = if n + i < 32 then bt x (n + i) else bt x 31 := by
  unfold bt
  rw [Int32.toBitVec_shiftRight]
  show (x.toBitVec.sshiftRight ((nI n &&& 31).toBitVec.smod 32).toNat).getLsbD i = _
  rw [s_l n hn, BitVec.getLsbD_sshiftRight, BitVec.msb_eq_getLsbD_last]
  simp [hi]
theorem nx_and (a b : Nat) : nI a &&& nI b = nI (a &&& b) := by
  apply Int32.toBitVec_inj.1
  show BitVec.ofNat 32 a &&& BitVec.ofNat 32 b = BitVec.ofNat 32 (a &&& b)
  apply BitVec.eq_of_getLsbD_eq
  intro i hi
  simp [hi]
/-! own rows: numbers and bits -/
theorem sa_b1 : ∀ i, i < 32 → bt 1 i = decide (i = 0) := by decide +kernel
theorem sa_bit (x : Int32) {c : Nat} (hc : c < 32) : (x >>> (nI c &&& 31)) &&& 1 = if bt x c = true then 1 else 0 := by
  apply b_ext
  intro i hi
  rw [b_and, b_sshr c hc x hi, sa_b1 i hi]
  by_cases h0 : i = 0
  · subst h0
    rw [if_pos (by omega : c + 0 < 32), Nat.add_zero]
    cases hb : bt x c
    · rw [if_neg (by decide), b_0]; rfl
    · rw [if_pos rfl, sa_b1 0 (by decide)]; rfl
  · rw [decide_eq_false h0, Bool.and_false]
    cases hb : bt x c
    · rw [if_neg (by decide), b_0]
    · rw [if_pos rfl, sa_b1 i hi, decide_eq_false h0]
theorem sa_bz (x : Int32) {c : Nat} (hc : c < 32) : ((x >>> (nI c &&& 31)) &&& 1) = 0 ↔ bt x c = false := by
  rw [sa_bit x hc]
  cases bt x c
  · exact ⟨fun _ => rfl, fun _ => rfl⟩
  · exact ⟨fun z => absurd z (by decide), fun z => absurd z (by decide)⟩
theorem sa_bo (x : Int32) {c : Nat} (hc : c < 32) : ((x >>> (nI c &&& 31)) &&& 1) = 1 ↔ bt x c = true := by
  rw [sa_bit x hc]
  cases bt x c
  · exact ⟨fun z => absurd z (by decide), fun z => absurd z (by decide)⟩
  · exact ⟨fun _ => rfl, fun _ => rfl⟩
theorem sa_bsh : ∀ i, i < 32 → ∀ j, j < 32 → bt ((1 : Int32) <<< (nI i &&& 31)) j = decide (j = i) := by decide +kernel
theorem sa_s1 : ∀ i, i < 31 → (1 : Int32) <<< (nI i &&& 31) = nI (2 ^ i) := by decide +kernel
theorem sa_btn {m i : Nat} (hi : i < 32) : bt (nI m) i = m.testBit i := by
  show (BitVec.ofNat 32 m).getLsbD i = _
  rw [BitVec.getLsbD_ofNat]
  simp [hi]
theorem sa_m3 (a : Nat) : nI a * 3 = nI (3 * a) := by rw [Nat.mul_comm]; exact pk_mul a 3
theorem sa_m16 (a : Nat) : nI a * 16 = nI (16 * a) := by rw [Nat.mul_comm]; exact pk_mul a 16
theorem sa_m8 (a : Nat) : nI a * 8 = nI (8 * a) := by rw [Nat.mul_comm]; exact pk_mul a 8
theorem sa_s {n : Nat} (h : 0 < n) : nI n - 1 = nI (n - 1) := by
  obtain ⟨m, rfl⟩ : ∃ m, n = m + 1 := ⟨n - 1, by omega⟩
  exact nI_pred m
theorem sa_c2 (a : Nat) : nI a + 2 = nI (a + 2) := nI_add a 2
theorem sa_64 (a : Nat) : 64 + nI a = nI (64 + a) := nI_add 64 a
theorem sa_eq0 {a : Nat} (h : a < 2 ^ 31) : nI a = 0 ↔ a = 0 := by
  rw [← nI_0, nI_eq h (by omega)]
theorem sa_le0 {a : Nat} (h : a < 2 ^ 31) : nI a ≤ 0 ↔ a = 0 := by
  rw [← nI_0, nI_leI h (by omega)]; omega
theorem sa_vb0 : vp_nar .boolean 0 = 0 := by decide
theorem sa_vb1 : vp_nar .boolean 1 = 1 := by decide
theorem sa_us {f : Nat → Int32} {k j : Nat} {x : Int32} (h : j = k) : upd f k x j = x := if_pos h
theorem sa_or0 (x : Int32) : (0 : Int32) ||| x = x := by
  apply b_ext; intro i _; rw [b_or, b_0, Bool.false_or]
end
section
/-! bodies as stacks of attributes: sk_l the height, sk_a the stack of an algebra f, sk_v the value of a node -/
def sk_l (o : Nat → Nat) : Nat → Nat
  | 0 => 0
  | p + 1 => sk_l o p - o p + 1
def sk_a {A : Type} (o : Nat → Nat) (f : Nat → (Nat → A) → A) (z : A) : Nat → Nat → A
  | 0 => fun _ => z
  | p + 1 => fun k => if k = sk_l o p - o p then f p (fun i => sk_a o f z p (sk_l o p - o p + i)) else sk_a o f z p k
def sk_v {A : Type} (o : Nat → Nat) (f : Nat → (Nat → A) → A) (z : A) (p : Nat) : A := f p (fun i => sk_a o f z p (sk_l o p - o p + i))
def sk_r (o : Nat → Nat) (p k : Nat) : Nat := sk_a o (fun q _ => q) 0 p k
def sk_c (o : Nat → Nat) (p i : Nat) : Nat := sk_r o p (sk_l o p - o p + i)
def sk_ok (o : Nat → Nat) (p : Nat) : Prop := ∀ q, q < p → o q ≤ sk_l o q
theorem sk_l_s (o : Nat → Nat) (p : Nat) : sk_l o (p + 1) = sk_l o p - o p + 1 := rfl
theorem sk_a_t {A : Type} {o : Nat → Nat} {f : Nat → (Nat → A) → A} {z : A} {p k : Nat} (h : k = sk_l o p - o p) : sk_a o f z (p + 1) k = sk_v o f z p := if_pos h
theorem sk_a_n {A : Type} {o : Nat → Nat} {f : Nat → (Nat → A) → A} {z : A} {p k : Nat} (h : k ≠ sk_l o p - o p) : sk_a o f z (p + 1) k = sk_a o f z p k := if_neg h
theorem sk_r_t {o : Nat → Nat} {p k : Nat} (h : k = sk_l o p - o p) : sk_r o (p + 1) k = p := if_pos h
theorem sk_r_n {o : Nat → Nat} {p k : Nat} (h : k ≠ sk_l o p - o p) : sk_r o (p + 1) k = sk_r o p k := if_neg h
theorem sk_root {A : Type} {o : Nat → Nat} (f : Nat → (Nat → A) → A) (z : A) : ∀ p, sk_ok o p → ∀ k, k < sk_l o p → sk_a o f z p k = sk_v o f z (sk_r o p k) ∧ sk_r o p k < p := by
  intro p
  induction p with
  | zero => intro _ k hk; exact absurd hk (Nat.not_lt_zero _)
  | succ p ih =>
    intro hv k hk
    have hk' : k < sk_l o p - o p + 1 := hk
    have ho := hv p (by omega)
    by_cases e : k = sk_l o p - o p
    · rw [sk_a_t e, sk_r_t e]; exact ⟨rfl, by omega⟩
    · rw [sk_a_n e, sk_r_n e]
      have h := ih (fun q hq => hv q (by omega)) k (by omega)
      exact ⟨h.1, by omega⟩
theorem sk_child {A : Type} {o : Nat → Nat} (f : Nat → (Nat → A) → A) (z : A) {p i : Nat} (hv : sk_ok o (p + 1)) (hi : i < o p) : sk_a o f z p (sk_l o p - o p + i) = sk_v o f z (sk_c o p i) ∧ sk_c o p i < p := by
  have h := hv p (by omega)
  exact sk_root f z p (fun q hq => hv q (by omega)) _ (by omega)
theorem sk_v_eq {A : Type} {o : Nat → Nat} {f : Nat → (Nat → A) → A} {z : A} {p : Nat} (hv : sk_ok o (p + 1)) (hc : ∀ a a' : Nat → A, (∀ i, i < o p → a i = a' i) → f p a = f p a') : sk_v o f z p = f p (fun i => sk_v o f z (sk_c o p i)) :=
  hc _ _ (fun _ hi => (sk_child f z hv hi).1)
theorem sk_ok_m {o : Nat → Nat} {p q : Nat} (h : sk_ok o p) (hq : q ≤ p) : sk_ok o q := fun r hr => h r (by omega)
theorem sk_l_c {o o' : Nat → Nat} : ∀ p, (∀ q, q < p → o q = o' q) → sk_l o p = sk_l o' p := by
  intro p
  induction p with
  | zero => intro _; rfl
  | succ p ih => intro h; rw [sk_l_s, sk_l_s, ih (fun q hq => h q (by omega)), h p (by omega)]
theorem sk_a_c {A : Type} {o o' : Nat → Nat} {f f' : Nat → (Nat → A) → A} {z : A} : ∀ p, (∀ q, q < p → o q = o' q) → (∀ q, q < p → f q = f' q) → sk_a o f z p = sk_a o' f' z p := by
  intro p
  induction p with
  | zero => intro _ _; rfl
  | succ p ih =>
    intro h hf
    funext k
    have e := ih (fun q hq => h q (by omega)) (fun q hq => hf q (by omega))
    have el := sk_l_c p (fun q hq => h q (by omega))
    show (if k = sk_l o p - o p then f p (fun i => sk_a o f z p (sk_l o p - o p + i)) else sk_a o f z p k) = (if k = sk_l o' p - o' p then f' p (fun i => sk_a o' f' z p (sk_l o' p - o' p + i)) else sk_a o' f' z p k)
    rw [e, el, h p (by omega), hf p (by omega)]
theorem sk_v_c {A : Type} {o o' : Nat → Nat} {f f' : Nat → (Nat → A) → A} {z : A} {p : Nat} (h : ∀ q, q ≤ p → o q = o' q) (hf : ∀ q, q ≤ p → f q = f' q) : sk_v o f z p = sk_v o' f' z p := by
  unfold sk_v
  rw [sk_a_c p (fun q hq => h q (by omega)) (fun q hq => hf q (by omega)), sk_l_c p (fun q hq => h q (by omega)), h p (by omega), hf p (by omega)]
theorem sk_r_c {o o' : Nat → Nat} {p : Nat} (k : Nat) (h : ∀ q, q < p → o q = o' q) : sk_r o p k = sk_r o' p k := by
  unfold sk_r
  rw [sk_a_c p h (fun _ _ => rfl)]
theorem sk_c_c {o o' : Nat → Nat} {p : Nat} (i : Nat) (h : ∀ q, q ≤ p → o q = o' q) : sk_c o p i = sk_c o' p i := by
  unfold sk_c
  rw [sk_r_c _ (fun q hq => h q (by omega)), sk_l_c p (fun q hq => h q (by omega)), h p (by omega)]
/-! sums -/
def su (f : Nat → Nat) : Nat → Nat
  | 0 => 0
  | n + 1 => su f n + f n
theorem su_s (f : Nat → Nat) (n : Nat) : su f (n + 1) = su f n + f n := rfl
theorem su_c {f g : Nat → Nat} : ∀ n, (∀ i, i < n → f i = g i) → su f n = su g n := by
  intro n
  induction n with
  | zero => intro _; rfl
  | succ n ih => intro h; rw [su_s, su_s, ih (fun i hi => h i (by omega)), h n (by omega)]
theorem su_le {f g : Nat → Nat} : ∀ n, (∀ i, i < n → f i ≤ g i) → su f n ≤ su g n := by
  intro n
  induction n with
  | zero => intro _; exact Nat.le_refl _
  | succ n ih => intro h; rw [su_s, su_s]; have := ih (fun i hi => h i (by omega)); have := h n (by omega); omega
theorem su_add {f g h : Nat → Nat} : ∀ n, (∀ i, i < n → f i = g i + h i) → su f n = su g n + su h n := by
  intro n
  induction n with
  | zero => intro _; rfl
  | succ n ih => intro e; rw [su_s, su_s, su_s, ih (fun i hi => e i (by omega)), e n (by omega)]; omega
theorem su_app (f : Nat → Nat) (a : Nat) : ∀ b, su f (a + b) = su f a + su (fun i => f (a + i)) b := by
  intro b
  induction b with
  | zero => rfl
  | succ b ih => rw [← Nat.add_assoc, su_s, su_s, ih]; omega
theorem su_z {f : Nat → Nat} : ∀ n, (∀ i, i < n → f i = 0) → su f n = 0 := by
  intro n
  induction n with
  | zero => intro _; rfl
  | succ n ih => intro e; rw [su_s, ih (fun i hi => e i (by omega)), e n (by omega)]
theorem su_k (c : Nat) : ∀ n, su (fun _ => c) n = c * n := by
  intro n
  induction n with
  | zero => rfl
  | succ n ih => rw [su_s, ih, Nat.mul_succ]
theorem su_mu (c : Nat) (f : Nat → Nat) : ∀ n, su (fun i => f i * c) n = su f n * c := by
  intro n
  induction n with
  | zero => exact (Nat.zero_mul c).symm
  | succ n ih => rw [su_s, su_s, ih, Nat.add_mul]
theorem su_one {f : Nat → Nat} {j : Nat} : ∀ n, j < n → f j ≤ su f n := by
  intro n
  induction n with
  | zero => intro h; exact absurd h (Nat.not_lt_zero _)
  | succ n ih =>
    intro h
    rw [su_s]
    by_cases e : j = n
    · subst e; omega
    · have := ih (by omega); omega
/-- the sum changed at one place -/
theorem su_upd {f g : Nat → Nat} {j : Nat} : ∀ n, j < n → (∀ i, i < n → i ≠ j → f i = g i) → su f n + g j = su g n + f j := by
  intro n
  induction n with
  | zero => intro h; exact absurd h (Nat.not_lt_zero _)
  | succ n ih =>
    intro h e
    rw [su_s, su_s]
    by_cases ej : j = n
    · subst ej
      rw [su_c j (fun i hi => e i (by omega) (by omega))]
      omega
    · have := ih (by omega) (fun i hi => e i (by omega))
      rw [e n (by omega) (by omega)]
      omega
/-! weights: sk_w o w p sums w over the nodes below p -/
def sk_w (o w : Nat → Nat) (p : Nat) : Nat := sk_v o (fun q a => w q + su a (o q)) 0 p
theorem sk_w_eq {o w : Nat → Nat} {p : Nat} (hv : sk_ok o (p + 1)) : sk_w o w p = w p + su (fun i => sk_w o w (sk_c o p i)) (o p) :=
  sk_v_eq (f := fun q a => w q + su a (o q)) hv (fun _ _ h => congrArg (w p + ·) (su_c _ h))
theorem sk_w_sum {o w : Nat → Nat} : ∀ p, sk_ok o p → su (fun k => sk_w o w (sk_r o p k)) (sk_l o p) = su w p := by
  intro p
  induction p with
  | zero => intro _; rfl
  | succ p ih =>
    intro hv
    have h0 := ih (sk_ok_m hv (by omega))
    have ho := hv p (by omega)
    obtain ⟨m, hm⟩ : ∃ m, sk_l o p = m + o p := ⟨sk_l o p - o p, by omega⟩
    have hm' : sk_l o p - o p = m := by omega
    rw [hm, su_app] at h0
    rw [sk_l_s, hm', su_s, su_s, sk_r_t hm'.symm, sk_w_eq hv, ← h0]
    have e1 : su (fun k => sk_w o w (sk_r o (p + 1) k)) m = su (fun k => sk_w o w (sk_r o p k)) m := su_c m (fun i hi => by
      show sk_w o w (sk_r o (p + 1) i) = sk_w o w (sk_r o p i)
      rw [sk_r_n (by omega)])
    have e2 : su (fun i => sk_w o w (sk_c o p i)) (o p) = su (fun i => sk_w o w (sk_r o p (m + i))) (o p) := su_c _ (fun i _ => by
      show sk_w o w (sk_r o p (sk_l o p - o p + i)) = _
      rw [hm'])
    rw [e1, e2]
    omega
theorem sk_w_root {o w : Nat → Nat} {p : Nat} (hv : sk_ok o (p + 1)) (h1 : sk_l o (p + 1) = 1) : sk_w o w p = su w (p + 1) := by
  have h := sk_w_sum (w := w) (p + 1) hv
  rw [h1, su_s] at h
  have e : sk_r o (p + 1) 0 = p := sk_r_t (by have := sk_l_s o p; omega)
  rw [e] at h
  have e0 : su (fun k => sk_w o w (sk_r o (p + 1) k)) 0 = 0 := rfl
  omega
end
section
/-! what a run computes: a quad (defined, value, needs, thunks) a node -/
abbrev QQ : Type := Bool × Int32 × Int32 × Nat
def q_u : QQ := (false, 0, 0, 0)
def q_tr (n : Nat) (a : Nat → QQ) : Nat → QQ := fun i => if i < n then a i else q_u
def q_cb (k x y : Int32) : Int32 := if k = 1 then x + y else if k = 2 then x - y else if k = 3 then x * y else if k = 4 then x / y else if k = 5 then (if y ≤ x then 0 else 1) else if k = 6 then (if x = y then 1 else 0) else y
def q_b (k : Int32) (x y : QQ) : QQ := if y.1 = false then q_u else if k = 4 ∧ y.2.1 = 0 then q_u else (true, q_cb k x.2.1 y.2.1, x.2.2.1 ||| y.2.2.1, x.2.2.2 + y.2.2.2)
def q_or (c : Nat → Bool) (f : Nat → Int32) (z : Int32) : Nat → Int32
  | 0 => z
  | i + 1 => if c i = true then q_or c f z i ||| f i else q_or c f z i
def q_su (c : Nat → Bool) (f : Nat → Nat) (z : Nat) : Nat → Nat
  | 0 => z
  | i + 1 => if c i = true then q_su c f z i + f i else q_su c f z i
theorem q_or_b (c : Nat → Bool) (f : Nat → Int32) (z : Int32) (j : Nat) : ∀ n, bt (q_or c f z n) j = true ↔ bt z j = true ∨ ∃ i, i < n ∧ c i = true ∧ bt (f i) j = true := by
  intro n
  induction n with
  | zero => exact ⟨Or.inl, fun h => h.elim id (fun ⟨i, hi, _⟩ => absurd hi (Nat.not_lt_zero i))⟩
  | succ n ih =>
    show bt (if c n = true then q_or c f z n ||| f n else q_or c f z n) j = true ↔ _
    by_cases hc : c n = true
    · rw [if_pos hc, b_or, Bool.or_eq_true, ih]
      constructor
      · rintro ((h | ⟨i, hi, h⟩) | h)
        · exact Or.inl h
        · exact Or.inr ⟨i, by omega, h⟩
        · exact Or.inr ⟨n, by omega, hc, h⟩
      · rintro (h | ⟨i, hi, h1, h2⟩)
        · exact Or.inl (Or.inl h)
        · by_cases e : i = n
          · subst e; exact Or.inr h2
          · exact Or.inl (Or.inr ⟨i, by omega, h1, h2⟩)
    · rw [if_neg hc, ih]
      constructor
      · rintro (h | ⟨i, hi, h⟩)
        · exact Or.inl h
        · exact Or.inr ⟨i, by omega, h⟩
      · rintro (h | ⟨i, hi, h1, h2⟩)
        · exact Or.inl h
        · by_cases e : i = n
          · subst e; exact absurd h1 hc
          · exact Or.inr ⟨i, by omega, h1, h2⟩
theorem q_su_e (c : Nat → Bool) (f : Nat → Nat) (z : Nat) : ∀ n, q_su c f z n = z + su (fun i => if c i = true then f i else 0) n := by
  intro n
  induction n with
  | zero => rfl
  | succ n ih =>
    show (if c n = true then q_su c f z n + f n else q_su c f z n) = _
    rw [su_s, ih]
    by_cases hc : c n = true
    · rw [if_pos hc, if_pos hc]; omega
    · rw [if_neg hc, if_neg hc]; omega
section
variable (kd dt : Nat → Int32) (ar sz : Nat → Nat) (eg : Nat → Nat → Bool)
def q_on (j : Nat) : Nat := if kd j = 0 then 0 else if kd j = 8 then 0 else if kd j = 9 then 0 else if kd j = 10 then ar (dt j).toNatClampNeg else if kd j = 7 then 3 else 2
def q_o (b p : Nat) : Nat := q_on kd dt ar (b + p)
def q_f (cal : Nat → (Nat → QQ) → QQ) (env : Nat → QQ) (j : Nat) (a : Nat → QQ) : QQ :=
  if kd j = 8 then (true, dt j, 0, 0)
  else if kd j = 9 then (if (env (dt j).toNatClampNeg).1 = true then (true, (env (dt j).toNatClampNeg).2.1, (1 : Int32) <<< (dt j &&& 31), 0) else q_u)
  else if kd j = 0 then q_u
  else if kd j = 10 then cal (dt j).toNatClampNeg (q_tr (ar (dt j).toNatClampNeg) a)
  else if (a 0).1 = false then q_u
  else q_b (kd j) (a 0) (if kd j = 7 ∧ (a 0).2.1 = 0 then a 2 else a 1)
def q_set (h : Nat) (b : QQ) : Int32 := q_or (eg h) (fun i => (1 : Int32) <<< (nI i &&& 31)) b.2.2.1 (ar h)
def q_nd (h : Nat) (a : Nat → QQ) (b : QQ) : Int32 := q_or (fun i => bt (q_set ar eg h b) i) (fun i => (a i).2.2.1) 0 (ar h)
def q_ct (h : Nat) (a : Nat → QQ) (b : QQ) : Nat := q_su (fun i => bt (q_set ar eg h b) i) (fun i => (a i).2.2.2) (q_su (fun i => !eg h i) (fun _ => 1) b.2.2.2 (ar h)) (ar h)
/-- is an eager argument undefined? -/
def q_st (h : Nat) (a : Nat → QQ) : Nat → Bool
  | 0 => false
  | i + 1 => q_st h a i || (eg h i && !(a i).1)
def q_cv (h : Nat) (a : Nat → QQ) (b : QQ) : QQ := if b.1 = true then (true, b.2.1, q_nd ar eg h a b, q_ct ar eg h a b) else q_u
def q_cr (bv : Nat → (Nat → QQ) → QQ) (h : Nat) (a : Nat → QQ) : QQ :=
  if sz h = 0 then q_u else if q_st eg h a (ar h) = true then q_u else q_cv ar eg h a (bv h a)
def q_bd : Nat → Nat → (Nat → QQ) → QQ
  | 0 => fun _ _ => q_u
  | d + 1 => fun h env => if sz h = 0 then q_u else sk_v (q_o kd dt ar (16 * h)) (fun p => q_f kd dt ar (q_cr ar sz eg (q_bd d)) env (16 * h + p)) q_u (sz h - 1)
/-- node p of function h at depth d (of this frame) -/
def q_n (d h : Nat) (env : Nat → QQ) (p : Nat) : QQ := sk_v (q_o kd dt ar (16 * h)) (fun p => q_f kd dt ar (q_cr ar sz eg (q_bd kd dt ar sz eg (d - 1))) env (16 * h + p)) q_u p
theorem q_bd_s (d h : Nat) (env : Nat → QQ) (hs : 0 < sz h) : q_bd kd dt ar sz eg (d + 1) h env = q_n kd dt ar sz eg (d + 1) h env (sz h - 1) := by
  show (if sz h = 0 then q_u else _) = _
  rw [if_neg (by omega)]
  rfl
theorem q_f_c (cal : Nat → (Nat → QQ) → QQ) (env : Nat → QQ) (j : Nat) {a a' : Nat → QQ} (h : ∀ i, i < q_on kd dt ar j → a i = a' i) : q_f kd dt ar cal env j a = q_f kd dt ar cal env j a' := by
  unfold q_f
  by_cases h8 : kd j = 8
  · rw [if_pos h8, if_pos h8]
  · rw [if_neg h8, if_neg h8]
    by_cases h9 : kd j = 9
    · rw [if_pos h9, if_pos h9]
    · rw [if_neg h9, if_neg h9]
      by_cases h0 : kd j = 0
      · rw [if_pos h0, if_pos h0]
      · rw [if_neg h0, if_neg h0]
        unfold q_on at h
        rw [if_neg h0, if_neg h8, if_neg h9] at h
        by_cases h10 : kd j = 10
        · rw [if_pos h10, if_pos h10]
          rw [if_pos h10] at h
          have e : q_tr (ar (dt j).toNatClampNeg) a = q_tr (ar (dt j).toNatClampNeg) a' := by
            funext i
            unfold q_tr
            by_cases hi : i < ar (dt j).toNatClampNeg
            · rw [if_pos hi, if_pos hi, h i hi]
            · rw [if_neg hi, if_neg hi]
          rw [e]
        · rw [if_neg h10, if_neg h10]
          rw [if_neg h10] at h
          by_cases h7 : kd j = 7
          · rw [if_pos h7] at h
            rw [h 0 (by omega), h 1 (by omega), h 2 (by omega)]
          · rw [if_neg h7] at h
            have e1 : ∀ x y : QQ, (if kd j = 7 ∧ (a' 0).2.1 = 0 then x else y) = y := fun x y => if_neg (fun z => h7 z.1)
            rw [h 0 (by omega), h 1 (by omega), e1, e1]
theorem q_n_eq {d h : Nat} {env : Nat → QQ} {p : Nat} (hv : sk_ok (q_o kd dt ar (16 * h)) (p + 1)) :
    q_n kd dt ar sz eg d h env p = q_f kd dt ar (q_cr ar sz eg (q_bd kd dt ar sz eg (d - 1))) env (16 * h + p) (fun i => q_n kd dt ar sz eg d h env (sk_c (q_o kd dt ar (16 * h)) p i)) :=
  sk_v_eq (f := fun p => q_f kd dt ar (q_cr ar sz eg (q_bd kd dt ar sz eg (d - 1))) env (16 * h + p)) hv (fun _ _ e => q_f_c kd dt ar _ _ _ e)
theorem q_st_e (h : Nat) (a : Nat → QQ) : ∀ n, q_st eg h a n = true ↔ ∃ i, i < n ∧ eg h i = true ∧ (a i).1 = false := by
  intro n
  induction n with
  | zero => exact ⟨fun z => absurd (show false = true from z) (by decide), fun ⟨i, hi, _⟩ => absurd hi (Nat.not_lt_zero i)⟩
  | succ n ih =>
    show (q_st eg h a n || (eg h n && !(a n).1)) = true ↔ _
    rw [Bool.or_eq_true, ih, Bool.and_eq_true, Bool.not_eq_true']
    constructor
    · rintro (⟨i, hi, z⟩ | z)
      · exact ⟨i, by omega, z⟩
      · exact ⟨n, by omega, z⟩
    · rintro ⟨i, hi, z⟩
      by_cases e : i = n
      · subst e; exact Or.inr z
      · exact Or.inl ⟨i, by omega, z⟩
/-- the set's bits below the arity -/
theorem q_set_b {h : Nat} {b : QQ} {j : Nat} (hj : j < ar h) (ha : ar h ≤ 3) : bt (q_set ar eg h b) j = (eg h j || bt b.2.2.1 j) := by
  apply Bool.eq_iff_iff.mpr
  unfold q_set
  rw [q_or_b, Bool.or_eq_true]
  constructor
  · rintro (z | ⟨i, hi, z1, z2⟩)
    · exact Or.inr z
    · rw [sa_bsh i (by omega) j (by omega), decide_eq_true_eq] at z2
      subst z2
      exact Or.inl z1
  · rintro (z | z)
    · exact Or.inr ⟨j, hj, z, by rw [sa_bsh j (by omega) j (by omega)]; exact decide_eq_true rfl⟩
    · exact Or.inl z
theorem q_set_b3 {h : Nat} {b : QQ} {j : Nat} (hj : j < 3) (ha : ar h ≤ 3) : bt (q_set ar eg h b) j = true ↔ bt b.2.2.1 j = true ∨ (j < ar h ∧ eg h j = true) := by
  unfold q_set
  rw [q_or_b]
  constructor
  · rintro (z | ⟨i, hi, z1, z2⟩)
    · exact Or.inl z
    · rw [sa_bsh i (by omega) j (by omega), decide_eq_true_eq] at z2
      subst z2
      exact Or.inr ⟨hi, z1⟩
  · rintro (z | ⟨z, z1⟩)
    · exact Or.inl z
    · exact Or.inr ⟨j, z, z1, by rw [sa_bsh j (by omega) j (by omega)]; exact decide_eq_true rfl⟩
theorem q_nd_b {h : Nat} {a : Nat → QQ} {b : QQ} (ha : ar h ≤ 3) (i : Nat) : bt (q_nd ar eg h a b) i = true ↔ ∃ j, j < ar h ∧ (eg h j = true ∨ bt b.2.2.1 j = true) ∧ bt (a j).2.2.1 i = true := by
  unfold q_nd
  rw [q_or_b, b_0]
  constructor
  · rintro (z | ⟨j, hj, z1, z2⟩)
    · exact absurd z (by decide)
    · rw [q_set_b ar eg hj ha, Bool.or_eq_true] at z1
      exact ⟨j, hj, z1, z2⟩
  · rintro ⟨j, hj, z1, z2⟩
    refine Or.inr ⟨j, hj, ?_, z2⟩
    rw [q_set_b ar eg hj ha, Bool.or_eq_true]
    exact z1
theorem q_ct_e {h : Nat} {a : Nat → QQ} {b : QQ} (ha : ar h ≤ 3) : q_ct ar eg h a b = b.2.2.2 + su (fun i => if eg h i = true then 0 else 1) (ar h) + su (fun i => if eg h i = true then (a i).2.2.2 else 0) (ar h) + su (fun i => if eg h i = false ∧ bt b.2.2.1 i = true then (a i).2.2.2 else 0) (ar h) := by
  unfold q_ct
  rw [q_su_e, q_su_e]
  have e1 : su (fun i => if (!eg h i) = true then 1 else 0) (ar h) = su (fun i => if eg h i = true then 0 else 1) (ar h) := su_c _ (fun i _ => by
    show (if (!eg h i) = true then 1 else 0) = (if eg h i = true then 0 else 1)
    cases eg h i <;> rfl)
  have e2 := su_add (f := fun i => if bt (q_set ar eg h b) i = true then (a i).2.2.2 else 0) (g := fun i => if eg h i = true then (a i).2.2.2 else 0) (h := fun i => if eg h i = false ∧ bt b.2.2.1 i = true then (a i).2.2.2 else 0) (ar h) (fun i hi => by
    show (if bt (q_set ar eg h b) i = true then (a i).2.2.2 else 0) = (if eg h i = true then (a i).2.2.2 else 0) + (if eg h i = false ∧ bt b.2.2.1 i = true then (a i).2.2.2 else 0)
    rw [q_set_b ar eg hi ha]
    cases eg h i <;> cases bt b.2.2.1 i <;> simp)
  rw [e1, e2]
  omega
end
end
section
/-! the lazy machine, abstractly: heap states HS, frame records FR, chains of frames -/
abbrev FR : Type := Nat × Nat × Nat × (Nat → QQ) × (Nat → Nat)
abbrev HS : Type := Nat × Nat × Nat × Int32 × (Nat → Int32) × (Nat → Int32) × (Nat → Int32) × (Nat → Int32) × (Nat → Int32)
abbrev TK : Type := Nat × Nat × Nat
def fr_i (f : FR) : Nat := f.1
def fr_f (f : FR) : Nat := f.2.1
def fr_d (f : FR) : Nat := f.2.2.1
def fr_e (f : FR) : Nat → QQ := f.2.2.2.1
def fr_n (f : FR) : Nat → Nat := f.2.2.2.2
def h_fc (s : HS) : Nat := s.1
def h_x (s : HS) : Nat := s.2.1
def h_tc (s : HS) : Nat := s.2.2.1
def h_dm (s : HS) : Int32 := s.2.2.2.1
def h_fd (s : HS) : Nat → Int32 := s.2.2.2.2.1
def h_ss (s : HS) : Nat → Int32 := s.2.2.2.2.2.1
def h_sv (s : HS) : Nat → Int32 := s.2.2.2.2.2.2.1
def h_sn (s : HS) : Nat → Int32 := s.2.2.2.2.2.2.2.1
def h_sf (s : HS) : Nat → Int32 := s.2.2.2.2.2.2.2.2
def hs_t (s : HS) : HS := (s.1, s.2.1 + 1, s.2.2)
def hs_dem (s : HS) (fr i : Nat) : HS := (s.1, s.2.1 + 1, s.2.2.1, if fr = 0 then h_dm s ||| ((1 : Int32) <<< (nI i &&& 31)) else h_dm s, s.2.2.2.2)
def hs_fill (s : HS) (k : Nat) (v : Int32) : HS := (h_fc s, h_x s + 1, h_tc s, h_dm s, h_fd s, upd (h_ss s) k 2, upd (h_sv s) k v, h_sn s, h_sf s)
theorem i2_1 : ¬ (2 : Int32) = 1 := by decide
theorem i0_1 : ¬ (0 : Int32) = 1 := by decide
theorem i1_2 : ¬ (1 : Int32) = 2 := by decide
theorem i0_2 : ¬ (0 : Int32) = 2 := by decide
theorem i1_0 : ¬ (1 : Int32) = 0 := by decide
theorem i2_0 : ¬ (2 : Int32) = 0 := by decide
/-- is slot i of f done? for the outermost frame: demanded -/
def c_rd (s : HS) (f : FR) (i : Nat) : Prop := if fr_i f = 0 then bt (h_dm s) i = true else h_ss s (3 * fr_i f + i) = 2
theorem c_rd_0 {s : HS} {f : FR} {i : Nat} (h : fr_i f = 0) : c_rd s f i ↔ bt (h_dm s) i = true := by unfold c_rd; rw [if_pos h]
theorem c_rd_n {s : HS} {f : FR} {i : Nat} (h : fr_i f ≠ 0) : c_rd s f i ↔ h_ss s (3 * fr_i f + i) = 2 := by unfold c_rd; rw [if_neg h]
def c_mo (c : List FR) (s s' : HS) : Prop := ∀ g, g ∈ c → ∀ i, i < 3 → h_ss s' (3 * fr_i g + i) = h_ss s (3 * fr_i g + i) ∨ (h_ss s (3 * fr_i g + i) = 1 ∧ h_ss s' (3 * fr_i g + i) = 2)
def c_un (c : List FR) (s s' : HS) : Prop := (∀ k, k < h_fc s → h_fd s' k = h_fd s k) ∧ ∀ k, k < h_fc s → (∀ g, g ∈ c → fr_i g ≠ k) → ∀ i, i < 3 → h_ss s' (3 * k + i) = h_ss s (3 * k + i) ∧ h_sv s' (3 * k + i) = h_sv s (3 * k + i) ∧ h_sn s' (3 * k + i) = h_sn s (3 * k + i) ∧ h_sf s' (3 * k + i) = h_sf s (3 * k + i)
theorem c_mo_t {c : List FR} {s s1 s2 : HS} (h1 : c_mo c s s1) (h2 : c_mo c s1 s2) : c_mo c s s2 := by
  intro g hg i hi
  rcases h1 g hg i hi with a | ⟨a, b⟩
  · rcases h2 g hg i hi with a' | ⟨a', b'⟩
    · exact Or.inl (a'.trans a)
    · exact Or.inr ⟨a ▸ a', b'⟩
  · rcases h2 g hg i hi with a' | ⟨a', b'⟩
    · exact Or.inr ⟨a, a'.trans b⟩
    · exact absurd (b.symm.trans a') i2_1
theorem c_un_t {c : List FR} {s s1 s2 : HS} (h1 : c_un c s s1) (h2 : c_un c s1 s2) (hf : h_fc s ≤ h_fc s1) : c_un c s s2 := by
  refine ⟨fun k hk => (h2.1 k (by omega)).trans (h1.1 k hk), fun k hk hg i hi => ?_⟩
  obtain ⟨a1, a2, a3, a4⟩ := h1.2 k hk hg i hi
  obtain ⟨b1, b2, b3, b4⟩ := h2.2 k (by omega) hg i hi
  exact ⟨b1.trans a1, b2.trans a2, b3.trans a3, b4.trans a4⟩
section
variable (ar : Nat → Nat)
def c_cl (s s' : HS) : List FR → Prop
  | [] => True
  | [_] => True
  | f :: f' :: c => (∀ i, i < 3 → (c_rd s' f' i ↔ c_rd s f' i ∨ ∃ j, j < ar (fr_f f) ∧ ¬ c_rd s f j ∧ c_rd s' f j ∧ bt (fr_e f j).2.2.1 i = true)) ∧ c_cl s s' (f' :: c)
theorem c_cl_c {ar : Nat → Nat} (har : ∀ h, ar h ≤ 3) {s s' t t' : HS} : ∀ c : List FR, (∀ g, g ∈ c → ∀ i, i < 3 → (c_rd t g i ↔ c_rd s g i)) → (∀ g, g ∈ c → ∀ i, i < 3 → (c_rd t' g i ↔ c_rd s' g i)) → c_cl ar s s' c → c_cl ar t t' c := by
  intro c
  induction c with
  | nil => intro _ _ _; trivial
  | cons f c ih =>
    cases c with
    | nil => intro _ _ _; trivial
    | cons f' c =>
      intro h h' hc
      refine ⟨fun i hi => ?_, ih (fun g hg => h g (List.mem_cons_of_mem _ hg)) (fun g hg => h' g (List.mem_cons_of_mem _ hg)) hc.2⟩
      have hf : f ∈ f :: f' :: c := List.mem_cons_self
      have hf' : f' ∈ f :: f' :: c := List.mem_cons_of_mem _ List.mem_cons_self
      rw [h' f' hf' i hi, hc.1 i hi, h f' hf' i hi]
      have e : (∃ j, j < ar (fr_f f) ∧ ¬ c_rd s f j ∧ c_rd s' f j ∧ bt (fr_e f j).2.2.1 i = true) ↔ (∃ j, j < ar (fr_f f) ∧ ¬ c_rd t f j ∧ c_rd t' f j ∧ bt (fr_e f j).2.2.1 i = true) := by
        constructor
        · rintro ⟨j, hj, z1, z2, z3⟩
          have := har (fr_f f)
          exact ⟨j, hj, fun z => z1 ((h f hf j (by omega)).mp z), (h' f hf j (by omega)).mpr z2, z3⟩
        · rintro ⟨j, hj, z1, z2, z3⟩
          have := har (fr_f f)
          exact ⟨j, hj, fun z => z1 ((h f hf j (by omega)).mpr z), (h' f hf j (by omega)).mp z2, z3⟩
      rw [e]
theorem c_cl_r {ar : Nat → Nat} {s : HS} : ∀ c : List FR, c_cl ar s s c := by
  intro c
  induction c with
  | nil => trivial
  | cons f c ih =>
    cases c with
    | nil => trivial
    | cons f' c => exact ⟨fun i _ => ⟨Or.inl, fun h => h.elim id (fun ⟨j, _, z1, z2, _⟩ => absurd z2 z1)⟩, ih⟩
theorem c_cl_t {ar : Nat → Nat} (har : ∀ h, ar h ≤ 3) {s s1 s2 : HS} : ∀ (c : List FR) (f : FR), (∀ j, j < 3 → c_rd s f j → c_rd s1 f j) → (∀ j, j < 3 → c_rd s1 f j → c_rd s2 f j) → c_cl ar s s1 (f :: c) → c_cl ar s1 s2 (f :: c) → c_cl ar s s2 (f :: c) := by
  intro c
  induction c with
  | nil => intro f _ _ _ _; trivial
  | cons f' c ih =>
    intro f m1 m2 h1 h2
    have hr := har (fr_f f)
    refine ⟨fun i hi => ?_, ih f' (fun j hj z => (h1.1 j hj).mpr (Or.inl z)) (fun j hj z => (h2.1 j hj).mpr (Or.inl z)) h1.2 h2.2⟩
    rw [h2.1 i hi, h1.1 i hi]
    constructor
    · rintro ((z | ⟨j, hj, z1, z2, z3⟩) | ⟨j, hj, z1, z2, z3⟩)
      · exact Or.inl z
      · exact Or.inr ⟨j, hj, z1, m2 j (by omega) z2, z3⟩
      · exact Or.inr ⟨j, hj, fun z => z1 (m1 j (by omega) z), z2, z3⟩
    · rintro (z | ⟨j, hj, z1, z2, z3⟩)
      · exact Or.inl (Or.inl z)
      · rcases Classical.em (c_rd s1 f j) with z4 | z4
        · exact Or.inl (Or.inr ⟨j, hj, z1, z4, z3⟩)
        · exact Or.inr ⟨j, hj, z4, z2, z3⟩
/-! potentials of the delayed slots of a chain -/
def c_pt (w : FR → FR → Nat → Nat) (s : HS) : List FR → Nat
  | [] => 0
  | [_] => 0
  | f :: f' :: c => su (fun i => if h_ss s (3 * fr_i f + i) = 1 then w f f' i else 0) (ar (fr_f f)) + c_pt w s (f' :: c)
theorem c_pt_c {ar : Nat → Nat} (har : ∀ h, ar h ≤ 3) {w : FR → FR → Nat → Nat} {s s' : HS} : ∀ c : List FR, (∀ g, g ∈ c → ∀ i, i < 3 → h_ss s' (3 * fr_i g + i) = h_ss s (3 * fr_i g + i)) → c_pt ar w s' c = c_pt ar w s c := by
  intro c
  induction c with
  | nil => intro _; rfl
  | cons f c ih =>
    cases c with
    | nil => intro _; rfl
    | cons f' c =>
      intro h
      show su _ _ + _ = su _ _ + _
      rw [ih (fun g hg => h g (List.mem_cons_of_mem _ hg))]
      have hr := har (fr_f f)
      rw [su_c (f := fun i => if h_ss s' (3 * fr_i f + i) = 1 then w f f' i else 0) (g := fun i => if h_ss s (3 * fr_i f + i) = 1 then w f f' i else 0) (ar (fr_f f)) (fun i hi => by
        show (if h_ss s' (3 * fr_i f + i) = 1 then w f f' i else 0) = (if h_ss s (3 * fr_i f + i) = 1 then w f f' i else 0)
        rw [h f List.mem_cons_self i (by omega)])]
theorem c_pt_m {ar : Nat → Nat} (har : ∀ h, ar h ≤ 3) {w : FR → FR → Nat → Nat} {s s' : HS} : ∀ c : List FR, c_mo c s s' → c_pt ar w s' c ≤ c_pt ar w s c := by
  intro c
  induction c with
  | nil => intro _; exact Nat.le_refl _
  | cons f c ih =>
    cases c with
    | nil => intro _; exact Nat.le_refl _
    | cons f' c =>
      intro h
      have h1 := ih (fun g hg => h g (List.mem_cons_of_mem _ hg))
      have hr := har (fr_f f)
      have h2 := su_le (f := fun i => if h_ss s' (3 * fr_i f + i) = 1 then w f f' i else 0) (g := fun i => if h_ss s (3 * fr_i f + i) = 1 then w f f' i else 0) (ar (fr_f f)) (fun i hi => by
        show (if h_ss s' (3 * fr_i f + i) = 1 then w f f' i else 0) ≤ (if h_ss s (3 * fr_i f + i) = 1 then w f f' i else 0)
        rcases h f List.mem_cons_self i (by omega) with e | ⟨_, e⟩
        · rw [e]; exact Nat.le_refl _
        · rw [e, if_neg i2_1]; exact Nat.zero_le _)
      exact Nat.add_le_add h2 h1
/-! what a chain finds in the heap -/
def c_ck (s : HS) (f : FR) : Prop := h_fd s (fr_i f) = nI (fr_d f) ∧ ∀ i, i < ar (fr_f f) → (h_ss s (3 * fr_i f + i) = 2 ∧ (fr_e f i).1 = true ∧ h_sv s (3 * fr_i f + i) = (fr_e f i).2.1) ∨ h_ss s (3 * fr_i f + i) = 1 ∨ (h_ss s (3 * fr_i f + i) = 0 ∧ (fr_e f i).1 = false)
def c_cd (s : HS) : List FR → Prop
  | [] => True
  | [f] => c_ck ar s f ∧ ∀ i, i < ar (fr_f f) → h_ss s (3 * fr_i f + i) ≠ 1
  | f :: f' :: c => c_ck ar s f ∧ (∀ i, i < ar (fr_f f) → h_ss s (3 * fr_i f + i) = 1 → h_sn s (3 * fr_i f + i) = nI (16 * fr_f f' + fr_n f i) ∧ h_sf s (3 * fr_i f + i) = nI (fr_i f')) ∧ c_cd s (f' :: c)
/-- s' looks like s at frame g -/
def c_sm (s s' : HS) (g : FR) : Prop := h_fd s' (fr_i g) = h_fd s (fr_i g) ∧ ∀ i, i < 3 → h_ss s' (3 * fr_i g + i) = h_ss s (3 * fr_i g + i) ∧ h_sv s' (3 * fr_i g + i) = h_sv s (3 * fr_i g + i) ∧ h_sn s' (3 * fr_i g + i) = h_sn s (3 * fr_i g + i) ∧ h_sf s' (3 * fr_i g + i) = h_sf s (3 * fr_i g + i)
theorem c_ck_c {ar : Nat → Nat} (har : ∀ h, ar h ≤ 3) {s s' : HS} {f : FR} (h : c_sm s s' f) (hk : c_ck ar s f) : c_ck ar s' f := by
  have hr := har (fr_f f)
  refine ⟨h.1.trans hk.1, fun i hi => ?_⟩
  obtain ⟨a1, a2, _, _⟩ := h.2 i (by omega)
  rw [a1, a2]
  exact hk.2 i hi
theorem c_cd_c {ar : Nat → Nat} (har : ∀ h, ar h ≤ 3) {s s' : HS} : ∀ c : List FR, (∀ g, g ∈ c → c_sm s s' g) → c_cd ar s c → c_cd ar s' c := by
  intro c
  induction c with
  | nil => intro _ _; trivial
  | cons f c ih =>
    have hr := har (fr_f f)
    cases c with
    | nil =>
      intro h hc
      have hf := h f List.mem_cons_self
      exact ⟨c_ck_c har hf hc.1, fun i hi => by rw [(hf.2 i (by omega)).1]; exact hc.2 i hi⟩
    | cons f' c =>
      intro h hc
      have hf := h f List.mem_cons_self
      refine ⟨c_ck_c har hf hc.1, fun i hi => ?_, ih (fun g hg => h g (List.mem_cons_of_mem _ hg)) hc.2.2⟩
      obtain ⟨a1, _, a3, a4⟩ := hf.2 i (by omega)
      rw [a1, a3, a4]
      exact hc.2.1 i hi
theorem c_cd_t {ar : Nat → Nat} {s : HS} {f f' : FR} {c : List FR} (h : c_cd ar s (f :: f' :: c)) : c_cd ar s (f' :: c) := h.2.2
theorem c_cd_k {ar : Nat → Nat} {s : HS} {f : FR} {c : List FR} (h : c_cd ar s (f :: c)) : c_ck ar s f := by
  cases c with
  | nil => exact h.1
  | cons f' c => exact h.1
end
section
variable (kd dt : Nat → Int32) (ar sz : Nat → Nat) (eg : Nat → Nat → Bool)
/-! the chain itself -/
def c_sc : List FR → Prop
  | [] => False
  | [f] => fr_i f = 0 ∧ fr_f f < 4 ∧ 1 ≤ fr_d f ∧ 0 < sz (fr_f f)
  | f :: f' :: c => (fr_f f < 4 ∧ 1 ≤ fr_d f ∧ 0 < sz (fr_f f)) ∧ fr_i f' < fr_i f ∧ fr_d f' = fr_d f + 1 ∧ (∀ i, i < ar (fr_f f) → fr_n f i < sz (fr_f f') ∧ fr_e f i = q_n kd dt ar sz eg (fr_d f') (fr_f f') (fr_e f') (fr_n f i)) ∧ c_sc (f' :: c)
theorem c_sc_b {kd dt : Nat → Int32} {ar sz : Nat → Nat} {eg : Nat → Nat → Bool} {f : FR} {c : List FR} (h : c_sc kd dt ar sz eg (f :: c)) : fr_f f < 4 ∧ 1 ≤ fr_d f ∧ 0 < sz (fr_f f) := by
  cases c with
  | nil => exact h.2
  | cons f' c => exact h.1
theorem c_sc_lt {kd dt : Nat → Int32} {ar sz : Nat → Nat} {eg : Nat → Nat → Bool} : ∀ (c : List FR) (f : FR), c_sc kd dt ar sz eg (f :: c) → ∀ g, g ∈ c → fr_i g < fr_i f := by
  intro c
  induction c with
  | nil => intro f _ g hg; exact absurd hg (List.not_mem_nil)
  | cons f' c ih =>
    intro f h g hg
    have h1 := h.2.1
    rcases List.mem_cons.mp hg with e | e
    · rw [e]; exact h1
    · have := ih f' h.2.2.2.2 g e
      omega
theorem c_sc_le {kd dt : Nat → Int32} {ar sz : Nat → Nat} {eg : Nat → Nat → Bool} {c : List FR} {f : FR} (h : c_sc kd dt ar sz eg (f :: c)) {g : FR} (hg : g ∈ f :: c) : fr_i g ≤ fr_i f := by
  rcases List.mem_cons.mp hg with e | e
  · rw [e]; exact Nat.le_refl _
  · exact Nat.le_of_lt (c_sc_lt c f h g e)
def kk (a : Nat) : Nat → Nat
  | 0 => 0
  | d + 1 => a + 2 * kk a d
def w_w (al a d g : Nat) (p : Nat) : Nat := sk_w (q_o kd dt ar (16 * g)) (fun q => al + if kd (16 * g + q) = 10 then kk a (d - 1) else 0) p
def wt_c : FR → FR → Nat → Nat := fun f _ i => (fr_e f i).2.2.2
def wt_s (al a e : Nat) : FR → FR → Nat → Nat := fun f f' i => w_w kd dt ar al a (fr_d f') (fr_f f') (fr_n f i) + e
/-- progress on the chain f :: c: needs P, thunks C, frames F, steps S -/
def c_st (f : FR) (c : List FR) (P : Nat → Prop) (C F S : Nat) (s s' : HS) : Prop :=
  h_fc s ≤ h_fc s' ∧ c_un (f :: c) s s' ∧ c_mo (f :: c) s s' ∧ c_cd ar s' (f :: c) ∧ (∀ i, i < 3 → (c_rd s' f i ↔ c_rd s f i ∨ P i)) ∧ c_cl ar s s' (f :: c)
  ∧ h_tc s' + c_pt ar wt_c s' (f :: c) = h_tc s + c_pt ar wt_c s (f :: c) + C
  ∧ h_fc s' + c_pt ar (wt_s kd dt ar 0 1 0) s' (f :: c) ≤ h_fc s + c_pt ar (wt_s kd dt ar 0 1 0) s (f :: c) + F
  ∧ h_x s' + c_pt ar (wt_s kd dt ar 2 34 1) s' (f :: c) ≤ h_x s + c_pt ar (wt_s kd dt ar 2 34 1) s (f :: c) + S
theorem c_st_t {kd dt : Nat → Int32} {ar : Nat → Nat} (har : ∀ h, ar h ≤ 3) {f : FR} {c : List FR} {P1 P2 : Nat → Prop} {C1 C2 F1 F2 S1 S2 : Nat} {s s1 s2 : HS} (h1 : c_st kd dt ar f c P1 C1 F1 S1 s s1) (h2 : c_st kd dt ar f c P2 C2 F2 S2 s1 s2) : c_st kd dt ar f c (fun i => P1 i ∨ P2 i) (C1 + C2) (F1 + F2) (S1 + S2) s s2 := by
  obtain ⟨a1, a2, a3, a4, a5, a6, a7, a8, a9⟩ := h1
  obtain ⟨b1, b2, b3, b4, b5, b6, b7, b8, b9⟩ := h2
  refine ⟨Nat.le_trans a1 b1, c_un_t a2 b2 a1, c_mo_t a3 b3, b4, fun i hi => ?_, c_cl_t har c f (fun j hj z => (a5 j hj).mpr (Or.inl z)) (fun j hj z => (b5 j hj).mpr (Or.inl z)) a6 b6, ?_, ?_, ?_⟩
  · rw [b5 i hi, a5 i hi, or_assoc]
  · omega
  · omega
  · omega
theorem c_st_w {kd dt : Nat → Int32} {ar : Nat → Nat} {f : FR} {c : List FR} {P P' : Nat → Prop} {C C' F F' S S' : Nat} {s s' : HS} (h : c_st kd dt ar f c P C F S s s') (hP : ∀ i, i < 3 → (P i ↔ P' i)) (hC : C = C') (hF : F ≤ F') (hS : S ≤ S') : c_st kd dt ar f c P' C' F' S' s s' := by
  obtain ⟨a1, a2, a3, a4, a5, a6, a7, a8, a9⟩ := h
  exact ⟨a1, a2, a3, a4, fun i hi => by rw [a5 i hi, hP i hi], a6, by omega, by omega, by omega⟩
/-- a step that leaves the heap alone -/
theorem c_st_k {kd dt : Nat → Int32} {ar : Nat → Nat} {f : FR} {c : List FR} {s : HS} (h : c_cd ar s (f :: c)) (har : ∀ h, ar h ≤ 3) : c_st kd dt ar f c (fun _ => False) 0 0 1 s (hs_t s) := by
  have hp : ∀ w, c_pt ar w (hs_t s) (f :: c) = c_pt ar w s (f :: c) := fun w => c_pt_c har _ (fun _ _ _ _ => rfl)
  have hx : h_x (hs_t s) = h_x s + 1 := rfl
  refine ⟨Nat.le_refl _, ⟨fun _ _ => rfl, fun _ _ _ _ _ => ⟨rfl, rfl, rfl, rfl⟩⟩, fun _ _ _ _ => Or.inl rfl, c_cd_c (s := s) har _ (fun _ _ => ⟨rfl, fun _ _ => ⟨rfl, rfl, rfl, rfl⟩⟩) h, fun i _ => ⟨Or.inl, fun z => z.elim id False.elim⟩, c_cl_c har _ (s := s) (s' := s) (fun _ _ _ _ => Iff.rfl) (fun _ _ _ _ => Iff.rfl) (c_cl_r _), ?_, ?_, ?_⟩
  · rw [hp]; rfl
  · rw [hp]; exact Nat.le_refl _
  · rw [hp, hx]; omega
/-- a parameter that is done already -/
theorem c_st_d {kd dt : Nat → Int32} {ar sz : Nat → Nat} {eg : Nat → Nat → Bool} {f : FR} {c : List FR} {s : HS} (h : c_cd ar s (f :: c)) (hs : c_sc kd dt ar sz eg (f :: c)) (har : ∀ h, ar h ≤ 3) {i : Nat} (hi : i < 3) (hr : h_ss s (3 * fr_i f + i) = 2) : c_st kd dt ar f c (fun k => k = i) 0 0 1 s (hs_dem s (fr_i f) i) := by
  have hp : ∀ w, c_pt ar w (hs_dem s (fr_i f) i) (f :: c) = c_pt ar w s (f :: c) := fun w => c_pt_c har _ (fun _ _ _ _ => rfl)
  have hx : h_x (hs_dem s (fr_i f) i) = h_x s + 1 := rfl
  have hsm : ∀ g : FR, c_sm s (hs_dem s (fr_i f) i) g := fun g => ⟨rfl, fun _ _ => ⟨rfl, rfl, rfl, rfl⟩⟩
  refine ⟨Nat.le_refl _, ⟨fun _ _ => rfl, fun _ _ _ _ _ => ⟨rfl, rfl, rfl, rfl⟩⟩, fun _ _ _ _ => Or.inl rfl, c_cd_c har _ (fun g _ => hsm g) h, fun k hk => ?_, ?_, ?_, ?_, ?_⟩
  · by_cases h0 : fr_i f = 0
    · rw [c_rd_0 h0, c_rd_0 h0]
      have e : h_dm (hs_dem s (fr_i f) i) = h_dm s ||| ((1 : Int32) <<< (nI i &&& 31)) := if_pos h0
      rw [e, b_or, Bool.or_eq_true, sa_bsh i (by omega) k (by omega), decide_eq_true_eq]
    · rw [c_rd_n h0, c_rd_n h0]
      show h_ss s _ = 2 ↔ _
      constructor
      · exact Or.inl
      · rintro (z | rfl)
        · exact z
        · exact hr
  · cases c with
    | nil => trivial
    | cons f' c =>
      have h0 : fr_i f ≠ 0 := by have := hs.2.1; omega
      have e : h_dm (hs_dem s (fr_i f) i) = h_dm s := if_neg h0
      have er : ∀ g : FR, ∀ k, c_rd (hs_dem s (fr_i f) i) g k ↔ c_rd s g k := by
        intro g k
        unfold c_rd
        rw [e]
        exact Iff.rfl
      exact c_cl_c har _ (s := s) (s' := s) (fun _ _ _ _ => Iff.rfl) (fun g _ k _ => er g k) (c_cl_r _)
  · rw [hp]; rfl
  · rw [hp]; exact Nat.le_refl _
  · rw [hp, hx]; omega
end
end
section
/-! a delayed argument worked out in the parent's frame, then updated -/
theorem c_st_f {kd dt : Nat → Int32} {ar sz : Nat → Nat} {eg : Nat → Nat → Bool} (har : ∀ h, ar h ≤ 3) {f f' : FR} {c : List FR} {s s1 : HS} {i : Nat} {v : Int32}
    (h : c_cd ar s (f :: f' :: c)) (hs : c_sc kd dt ar sz eg (f :: f' :: c)) (hfc : fr_i f < h_fc s) (hi : i < ar (fr_f f)) (h1 : h_ss s (3 * fr_i f + i) = 1)
    (hd : (fr_e f i).1 = true) (hv : (fr_e f i).2.1 = v)
    (hst : c_st kd dt ar f' c (fun k => bt (fr_e f i).2.2.1 k = true) (fr_e f i).2.2.2 (w_w kd dt ar 0 1 (fr_d f') (fr_f f') (fr_n f i)) (w_w kd dt ar 2 34 (fr_d f') (fr_f f') (fr_n f i)) (hs_t s) s1) :
    c_st kd dt ar f (f' :: c) (fun k => k = i) 0 0 1 s (hs_fill s1 (3 * fr_i f + i) v) := by
  obtain ⟨a1, a2, a3, a4, a5, a6, a7, a8, a9⟩ := hst
  have hr := har (fr_f f)
  have hff : fr_i f' < fr_i f := hs.2.1
  have h0 : fr_i f ≠ 0 := by omega
  have hlt := c_sc_lt (f' :: c) f hs
  have hne : ∀ g, g ∈ f' :: c → fr_i g ≠ fr_i f := fun g hg => by have := hlt g hg; omega
  have hnf : ∀ g, g ∈ f' :: c → ∀ k, k < 3 → 3 * fr_i g + k ≠ 3 * fr_i f + i := fun g hg k hk => by have := hlt g hg; omega
  have e1 : ∀ j, j ≠ 3 * fr_i f + i → h_ss (hs_fill s1 (3 * fr_i f + i) v) j = h_ss s1 j := fun j hj => pk_un hj
  have e2 : ∀ j, j ≠ 3 * fr_i f + i → h_sv (hs_fill s1 (3 * fr_i f + i) v) j = h_sv s1 j := fun j hj => pk_un hj
  have e3 : h_ss (hs_fill s1 (3 * fr_i f + i) v) (3 * fr_i f + i) = 2 := pk_us
  have e4 : h_sv (hs_fill s1 (3 * fr_i f + i) v) (3 * fr_i f + i) = v := pk_us
  have un1 := a2.2 (fr_i f) hfc hne
  have un2 : ∀ k, k < 3 → h_ss s1 (3 * fr_i f + k) = h_ss s (3 * fr_i f + k) := fun k hk => (un1 k hk).1
  have sm1 : ∀ g, g ∈ f' :: c → c_sm s1 (hs_fill s1 (3 * fr_i f + i) v) g := fun g hg => ⟨rfl, fun k hk => ⟨e1 _ (hnf g hg k hk), e2 _ (hnf g hg k hk), rfl, rfl⟩⟩
  have rd1 : ∀ g, g ∈ f' :: c → ∀ k, k < 3 → (c_rd (hs_fill s1 (3 * fr_i f + i) v) g k ↔ c_rd s1 g k) := by
    intro g hg k hk
    unfold c_rd
    rw [e1 _ (hnf g hg k hk)]
    exact Iff.rfl
  have rdf : ∀ k, k < 3 → (c_rd (hs_fill s1 (3 * fr_i f + i) v) f k ↔ c_rd s f k ∨ k = i) := by
    intro k hk
    rw [c_rd_n h0, c_rd_n h0]
    by_cases e : k = i
    · subst e
      rw [e3]
      exact ⟨fun _ => Or.inr rfl, fun _ => rfl⟩
    · rw [e1 _ (by omega), un2 k hk]
      exact ⟨Or.inl, fun z => z.elim id (fun z => absurd z e)⟩
  have nri : ¬ c_rd s f i := by
    rw [c_rd_n h0, h1]
    exact i1_2
  have fcs : h_fc (hs_fill s1 (3 * fr_i f + i) v) = h_fc s1 := rfl
  have fct : h_fc (hs_t s) = h_fc s := rfl
  have xs : h_x (hs_fill s1 (3 * fr_i f + i) v) = h_x s1 + 1 := rfl
  have xt : h_x (hs_t s) = h_x s + 1 := rfl
  have tcs : h_tc (hs_fill s1 (3 * fr_i f + i) v) = h_tc s1 := rfl
  have tct : h_tc (hs_t s) = h_tc s := rfl
  have ptt : ∀ w, c_pt ar w (hs_t s) (f' :: c) = c_pt ar w s (f' :: c) := fun w => c_pt_c har _ (fun _ _ _ _ => rfl)
  have pts : ∀ w, c_pt ar w (hs_fill s1 (3 * fr_i f + i) v) (f' :: c) = c_pt ar w s1 (f' :: c) := fun w => c_pt_c har _ (fun g hg k hk => e1 _ (hnf g hg k hk))
  have ptf : ∀ w : FR → FR → Nat → Nat, su (fun k => if h_ss s (3 * fr_i f + k) = 1 then w f f' k else 0) (ar (fr_f f)) = su (fun k => if h_ss (hs_fill s1 (3 * fr_i f + i) v) (3 * fr_i f + k) = 1 then w f f' k else 0) (ar (fr_f f)) + w f f' i := by
    intro w
    have z := su_upd (f := fun k => if h_ss s (3 * fr_i f + k) = 1 then w f f' k else 0) (g := fun k => if h_ss (hs_fill s1 (3 * fr_i f + i) v) (3 * fr_i f + k) = 1 then w f f' k else 0) (j := i) (ar (fr_f f)) hi (fun k hk hki => by
      show (if h_ss s (3 * fr_i f + k) = 1 then w f f' k else 0) = (if h_ss (hs_fill s1 (3 * fr_i f + i) v) (3 * fr_i f + k) = 1 then w f f' k else 0)
      rw [e1 _ (by omega), un2 k (by omega)])
    have z1 : (if h_ss s (3 * fr_i f + i) = 1 then w f f' i else 0) = w f f' i := if_pos h1
    have z2 : (if h_ss (hs_fill s1 (3 * fr_i f + i) v) (3 * fr_i f + i) = 1 then w f f' i else 0) = 0 := if_neg (by rw [e3]; exact i2_1)
    rw [z1, z2] at z
    omega
  refine ⟨a1, ⟨fun k hk => a2.1 k hk, fun k hk hg j hj => ?_⟩, fun g hg k hk => ?_, ⟨⟨?_, fun k hk => ?_⟩, fun k hk hk1 => ?_, c_cd_c har _ sm1 a4⟩, rdf, ⟨fun k hk => ?_, ?_⟩, ?_, ?_, ?_⟩
  · have hkf : fr_i f ≠ k := hg f List.mem_cons_self
    obtain ⟨b1, b2, b3, b4⟩ := a2.2 k hk (fun g hg' => hg g (List.mem_cons_of_mem _ hg')) j hj
    exact ⟨(e1 _ (by omega)).trans b1, (e2 _ (by omega)).trans b2, b3, b4⟩
  · rcases List.mem_cons.mp hg with e | e
    · rw [e]
      by_cases ek : k = i
      · subst ek; exact Or.inr ⟨h1, e3⟩
      · exact Or.inl ((e1 _ (by omega)).trans (un2 k hk))
    · rw [e1 _ (hnf g e k hk)]
      exact a3 g e k hk
  · exact (a2.1 _ hfc).trans h.1.1
  · by_cases ek : k = i
    · subst ek; exact Or.inl ⟨e3, hd, e4.trans hv.symm⟩
    · rw [e1 _ (by omega), e2 _ (by omega), un2 k (by omega), (un1 k (by omega)).2.1]
      exact h.1.2 k hk
  · by_cases ek : k = i
    · subst ek; rw [e3] at hk1; exact absurd hk1 i2_1
    · rw [e1 _ (by omega), un2 k (by omega)] at hk1
      obtain ⟨b3, b4⟩ := h.2.1 k hk hk1
      exact ⟨((un1 k (by omega)).2.2.1).trans b3, ((un1 k (by omega)).2.2.2).trans b4⟩
  · rw [rd1 f' List.mem_cons_self k hk, a5 k hk]
    have ert : c_rd (hs_t s) f' k ↔ c_rd s f' k := Iff.rfl
    rw [ert]
    constructor
    · rintro (z | z)
      · exact Or.inl z
      · exact Or.inr ⟨i, hi, nri, (rdf i (by omega)).mpr (Or.inr rfl), z⟩
    · rintro (z | ⟨j, hj, z1, z2, z3⟩)
      · exact Or.inl z
      · rcases (rdf j (by omega)).mp z2 with z | z
        · exact absurd z z1
        · subst z; exact Or.inr z3
  · exact c_cl_c har _ (s := hs_t s) (s' := s1) (fun _ _ _ _ => Iff.rfl) (fun g hg k hk => rd1 g hg k hk) a6
  · show _ + (su _ _ + _) = _ + (su _ _ + _) + 0
    rw [pts, ptf wt_c, tcs]
    rw [ptt, tct] at a7
    have ew : wt_c f f' i = (fr_e f i).2.2.2 := rfl
    omega
  · show _ + (su _ _ + _) ≤ _ + (su _ _ + _) + 0
    rw [pts, ptf (wt_s kd dt ar 0 1 0), fcs]
    rw [ptt, fct] at a8
    have ew : wt_s kd dt ar 0 1 0 f f' i = w_w kd dt ar 0 1 (fr_d f') (fr_f f') (fr_n f i) + 0 := rfl
    omega
  · show _ + (su _ _ + _) ≤ _ + (su _ _ + _) + 1
    rw [pts, ptf (wt_s kd dt ar 2 34 1), xs]
    rw [ptt, xt] at a9
    have ew : wt_s kd dt ar 2 34 1 f f' i = w_w kd dt ar 2 34 (fr_d f') (fr_f f') (fr_n f i) + 1 := rfl
    omega
end
section
/-! entering a call: the new frame, its slots, the tasks of its eager arguments -/
def ca_ss (eg : Nat → Nat → Bool) (h fc : Nat) (ss : Nat → Int32) : Nat → Nat → Int32
  | 0 => ss
  | i + 1 => upd (ca_ss eg h fc ss i) (3 * fc + i) (if eg h i = true then 0 else 1)
def ca_sn (eg : Nat → Nat → Bool) (h fc : Nat) (cn : Nat → Nat) (sn : Nat → Int32) : Nat → Nat → Int32
  | 0 => sn
  | i + 1 => if eg h i = true then ca_sn eg h fc cn sn i else upd (ca_sn eg h fc cn sn i) (3 * fc + i) (nI (cn i))
def ca_tl (eg : Nat → Nat → Bool) (h fc fr : Nat) (cn : Nat → Nat) (T0 : List TK) : Nat → List TK
  | 0 => T0
  | i + 1 => if eg h i = true then (0, cn i, fr) :: (4, 3 * fc + i, 0) :: ca_tl eg h fc fr cn T0 i else ca_tl eg h fc fr cn T0 i
def hs_call (eg : Nat → Nat → Bool) (s : HS) (h fr d n : Nat) (cn : Nat → Nat) : HS :=
  (h_fc s + 1, h_x s + 1, h_tc s + su (fun i => if eg h i = true then 0 else 1) n, h_dm s, upd (h_fd s) (h_fc s) (nI (d - 1)), ca_ss eg h (h_fc s) (h_ss s) n, h_sv s, ca_sn eg h (h_fc s) cn (h_sn s) n, ca_sn eg h (h_fc s) (fun _ => fr) (h_sf s) n)
theorem ca_ss_o {eg : Nat → Nat → Bool} {h fc : Nat} {ss : Nat → Int32} {j : Nat} (hj : j < 3 * fc) : ∀ n, ca_ss eg h fc ss n j = ss j := by
  intro n
  induction n with
  | zero => rfl
  | succ n ih => exact (pk_un (by omega)).trans ih
theorem ca_ss_i {eg : Nat → Nat → Bool} {h fc : Nat} {ss : Nat → Int32} {j : Nat} : ∀ n, j < n → ca_ss eg h fc ss n (3 * fc + j) = if eg h j = true then 0 else 1 := by
  intro n
  induction n with
  | zero => intro z; exact absurd z (Nat.not_lt_zero _)
  | succ n ih =>
    intro hj
    by_cases e : j = n
    · subst e; exact pk_us
    · exact (pk_un (by omega)).trans (ih (by omega))
theorem ca_sn_o {eg : Nat → Nat → Bool} {h fc : Nat} {cn : Nat → Nat} {ss : Nat → Int32} {j : Nat} (hj : j < 3 * fc) : ∀ n, ca_sn eg h fc cn ss n j = ss j := by
  intro n
  induction n with
  | zero => rfl
  | succ n ih =>
    show (if eg h n = true then ca_sn eg h fc cn ss n else upd (ca_sn eg h fc cn ss n) (3 * fc + n) (nI (cn n))) j = _
    by_cases e : eg h n = true
    · rw [if_pos e]; exact ih
    · rw [if_neg e]; exact (pk_un (by omega)).trans ih
theorem ca_sn_i {eg : Nat → Nat → Bool} {h fc : Nat} {cn : Nat → Nat} {ss : Nat → Int32} {j : Nat} (he : eg h j = false) : ∀ n, j < n → ca_sn eg h fc cn ss n (3 * fc + j) = nI (cn j) := by
  intro n
  induction n with
  | zero => intro z; exact absurd z (Nat.not_lt_zero _)
  | succ n ih =>
    intro hj
    show (if eg h n = true then ca_sn eg h fc cn ss n else upd (ca_sn eg h fc cn ss n) (3 * fc + n) (nI (cn n))) (3 * fc + j) = _
    by_cases ej : j = n
    · subst ej
      rw [if_neg (by rw [he]; decide)]; exact pk_us
    · by_cases e : eg h n = true
      · rw [if_pos e]; exact ih (by omega)
      · rw [if_neg e]; exact (pk_un (by omega)).trans (ih (by omega))
theorem ca_tl_l {eg : Nat → Nat → Bool} {h fc fr : Nat} {cn : Nat → Nat} {T0 : List TK} {g : Nat → Nat} (hg : ∀ i, eg h i = true → 2 ≤ g i) : ∀ n, (ca_tl eg h fc fr cn T0 n).length ≤ T0.length + su (fun i => if eg h i = true then g i else 0) n := by
  intro n
  induction n with
  | zero => exact Nat.le_refl _
  | succ n ih =>
    rw [su_s]
    show (if eg h n = true then (0, cn n, fr) :: (4, 3 * fc + n, 0) :: ca_tl eg h fc fr cn T0 n else ca_tl eg h fc fr cn T0 n).length ≤ _
    by_cases e : eg h n = true
    · rw [if_pos e, if_pos e]
      have := hg n e
      show (ca_tl eg h fc fr cn T0 n).length + 1 + 1 ≤ _
      omega
    · rw [if_neg e, if_neg e]; omega
/-- the step that makes the frame -/
theorem c_st_c {kd dt : Nat → Int32} {ar sz : Nat → Nat} {eg : Nat → Nat → Bool} (har : ∀ h, ar h ≤ 3) {f : FR} {c : List FR} {s : HS} {h d n fr : Nat} {cn : Nat → Nat}
    (hcd : c_cd ar s (f :: c)) (hs : c_sc kd dt ar sz eg (f :: c)) (hfc : fr_i f < h_fc s) :
    c_st kd dt ar f c (fun _ => False) (su (fun i => if eg h i = true then 0 else 1) n) 1 1 s (hs_call eg s h fr d n cn) := by
  have hle : ∀ g, g ∈ f :: c → fr_i g < h_fc s := fun g hg => by have := c_sc_le hs hg; omega
  have e1 : ∀ k, k < h_fc s → ∀ i, i < 3 → h_ss (hs_call eg s h fr d n cn) (3 * k + i) = h_ss s (3 * k + i) := fun k hk i hi => ca_ss_o (by omega) n
  have e2 : ∀ k, k < h_fc s → h_fd (hs_call eg s h fr d n cn) k = h_fd s k := fun k hk => pk_un (by omega)
  have e3 : ∀ k, k < h_fc s → ∀ i, i < 3 → h_sn (hs_call eg s h fr d n cn) (3 * k + i) = h_sn s (3 * k + i) := fun k hk i hi => ca_sn_o (by omega) n
  have e4 : ∀ k, k < h_fc s → ∀ i, i < 3 → h_sf (hs_call eg s h fr d n cn) (3 * k + i) = h_sf s (3 * k + i) := fun k hk i hi => ca_sn_o (by omega) n
  have er : ∀ g, g ∈ f :: c → ∀ i, i < 3 → (c_rd (hs_call eg s h fr d n cn) g i ↔ c_rd s g i) := by
    intro g hg i hi
    unfold c_rd
    rw [e1 _ (hle g hg) i hi]
    exact Iff.rfl
  have hp : ∀ w, c_pt ar w (hs_call eg s h fr d n cn) (f :: c) = c_pt ar w s (f :: c) := fun w => c_pt_c har _ (fun g hg i hi => e1 _ (hle g hg) i hi)
  have x1 : h_fc (hs_call eg s h fr d n cn) = h_fc s + 1 := rfl
  have x2 : h_x (hs_call eg s h fr d n cn) = h_x s + 1 := rfl
  have x3 : h_tc (hs_call eg s h fr d n cn) = h_tc s + su (fun i => if eg h i = true then 0 else 1) n := rfl
  refine ⟨by omega, ⟨e2, fun k hk _ i hi => ⟨e1 k hk i hi, rfl, e3 k hk i hi, e4 k hk i hi⟩⟩, fun g hg i hi => Or.inl (e1 _ (hle g hg) i hi),
    c_cd_c har _ (fun g hg => ⟨e2 _ (hle g hg), fun i hi => ⟨e1 _ (hle g hg) i hi, rfl, e3 _ (hle g hg) i hi, e4 _ (hle g hg) i hi⟩⟩) hcd,
    fun i hi => ?_, c_cl_c har _ (s := s) (s' := s) (fun _ _ _ _ => Iff.rfl) er (c_cl_r _), ?_, ?_, ?_⟩
  · rw [er f List.mem_cons_self i hi]
    exact ⟨Or.inl, fun z => z.elim id False.elim⟩
  · rw [hp, x3]; omega
  · rw [hp, x1]; omega
  · rw [hp, x2]; omega
/-- a value stored into a frame that is newer than the start -/
theorem c_st_o {kd dt : Nat → Int32} {ar sz : Nat → Nat} {eg : Nat → Nat → Bool} (har : ∀ h, ar h ≤ 3) {f : FR} {c : List FR} {P : Nat → Prop} {C F S : Nat} {s s1 : HS} {k : Nat} {v : Int32}
    (hs : c_sc kd dt ar sz eg (f :: c)) (hfc : fr_i f < h_fc s) (hk : 3 * h_fc s ≤ k) (h : c_st kd dt ar f c P C F S s s1) :
    c_st kd dt ar f c P C F (S + 1) s (hs_fill s1 k v) := by
  obtain ⟨a1, a2, a3, a4, a5, a6, a7, a8, a9⟩ := h
  have hle : ∀ g, g ∈ f :: c → fr_i g < h_fc s := fun g hg => by have := c_sc_le hs hg; omega
  have e1 : ∀ j, j < h_fc s → ∀ i, i < 3 → h_ss (hs_fill s1 k v) (3 * j + i) = h_ss s1 (3 * j + i) := fun j hj i hi => pk_un (by omega)
  have e2 : ∀ j, j < h_fc s → ∀ i, i < 3 → h_sv (hs_fill s1 k v) (3 * j + i) = h_sv s1 (3 * j + i) := fun j hj i hi => pk_un (by omega)
  have er : ∀ g, g ∈ f :: c → ∀ i, i < 3 → (c_rd (hs_fill s1 k v) g i ↔ c_rd s1 g i) := by
    intro g hg i hi
    unfold c_rd
    rw [e1 _ (hle g hg) i hi]
    exact Iff.rfl
  have hp : ∀ w, c_pt ar w (hs_fill s1 k v) (f :: c) = c_pt ar w s1 (f :: c) := fun w => c_pt_c har _ (fun g hg i hi => e1 _ (hle g hg) i hi)
  have x1 : h_fc (hs_fill s1 k v) = h_fc s1 := rfl
  have x2 : h_x (hs_fill s1 k v) = h_x s1 + 1 := rfl
  have x3 : h_tc (hs_fill s1 k v) = h_tc s1 := rfl
  refine ⟨a1, ⟨a2.1, fun j hj hg i hi => ?_⟩, fun g hg i hi => ?_, c_cd_c (s := s1) har _ (fun g hg => ⟨rfl, fun i hi => ⟨e1 _ (hle g hg) i hi, e2 _ (hle g hg) i hi, rfl, rfl⟩⟩) a4, fun i hi => ?_, c_cl_c har _ (s := s) (s' := s1) (fun _ _ _ _ => Iff.rfl) er a6, ?_, ?_, ?_⟩
  · obtain ⟨b1, b2, b3, b4⟩ := a2.2 j hj hg i hi
    exact ⟨(e1 j hj i hi).trans b1, (e2 j hj i hi).trans b2, b3, b4⟩
  · rw [e1 _ (hle g hg) i hi]
    exact a3 g hg i hi
  · rw [er f List.mem_cons_self i hi]
    exact a5 i hi
  · rw [hp, x3]; exact a7
  · rw [hp, x1]; exact a8
  · rw [hp, x2]; omega
/-- the slots of the new frame f2 at stage i of its eager arguments -/
def ca_fs (eg : Nat → Nat → Bool) (s : HS) (f f2 : FR) (n i : Nat) : Prop :=
  fr_i f2 < h_fc s ∧ h_fd s (fr_i f2) = nI (fr_d f2) ∧ ∀ j, j < n →
    (eg (fr_f f2) j = true → (i ≤ j → h_ss s (3 * fr_i f2 + j) = 2 ∧ (fr_e f2 j).1 = true ∧ h_sv s (3 * fr_i f2 + j) = (fr_e f2 j).2.1) ∧ (j < i → h_ss s (3 * fr_i f2 + j) = 0))
    ∧ (eg (fr_f f2) j = false → h_ss s (3 * fr_i f2 + j) = 1 ∧ h_sn s (3 * fr_i f2 + j) = nI (16 * fr_f f + fr_n f2 j) ∧ h_sf s (3 * fr_i f2 + j) = nI (fr_i f))
theorem ca_fs_c {eg : Nat → Nat → Bool} {s s' : HS} {f f2 : FR} {n i : Nat} (hn : n ≤ 3) (h : ca_fs eg s f f2 n i) (hs : c_sm s s' f2) (hf : h_fc s ≤ h_fc s') : ca_fs eg s' f f2 n i := by
  refine ⟨Nat.lt_of_lt_of_le h.1 hf, hs.1.trans h.2.1, fun j hj => ?_⟩
  obtain ⟨a1, a2, a3, a4⟩ := hs.2 j (by omega)
  rw [a1, a2, a3, a4]
  exact h.2.2 j hj
/-- the body's progress, seen from the caller's frame -/
theorem c_st_p {kd dt : Nat → Int32} {ar sz : Nat → Nat} {eg : Nat → Nat → Bool} (har : ∀ h, ar h ≤ 3) {f f2 : FR} {c : List FR} {P0 : Nat → Prop} {M : Int32} {C0 F0 S0 C F S : Nat} {s0 s1 s2 : HS}
    (hs : c_sc kd dt ar sz eg (f2 :: f :: c)) (hf2 : fr_i f2 = h_fc s0) (hfs : ca_fs eg s1 f f2 (ar (fr_f f2)) 0)
    (h0 : c_st kd dt ar f c P0 C0 F0 S0 s0 s1) (h1 : c_st kd dt ar f2 (f :: c) (fun k => bt M k = true) C F S s1 s2) :
    c_st kd dt ar f c (fun k => P0 k ∨ ∃ j, j < ar (fr_f f2) ∧ (eg (fr_f f2) j = false ∧ bt M j = true) ∧ bt (fr_e f2 j).2.2.1 k = true)
      (C0 + C + su (fun j => if eg (fr_f f2) j = false ∧ bt M j = true then (fr_e f2 j).2.2.2 else 0) (ar (fr_f f2)))
      (F0 + F + su (fun j => if eg (fr_f f2) j = true then 0 else wt_s kd dt ar 0 1 0 f2 f j) (ar (fr_f f2)))
      (S0 + S + su (fun j => if eg (fr_f f2) j = true then 0 else wt_s kd dt ar 2 34 1 f2 f j) (ar (fr_f f2))) s0 s2 := by
  obtain ⟨a1, a2, a3, a4, a5, a6, a7, a8, a9⟩ := h0
  obtain ⟨b1, b2, b3, b4, b5, b6, b7, b8, b9⟩ := h1
  have hr := har (fr_f f2)
  have hff : fr_i f < fr_i f2 := hs.2.1
  have hn0 : fr_i f2 ≠ 0 := by omega
  have q1 : ∀ j, j < ar (fr_f f2) → (c_rd s1 f2 j ↔ eg (fr_f f2) j = true) := by
    intro j hj
    rw [c_rd_n hn0]
    obtain ⟨z1, z2⟩ := hfs.2.2 j hj
    cases e : eg (fr_f f2) j
    · rw [(z2 e).1]
      exact ⟨fun z => absurd z i1_2, fun z => absurd z (by decide)⟩
    · exact ⟨fun _ => rfl, fun _ => ((z1 e).1 (Nat.zero_le _)).1⟩
  have q2 : ∀ j, j < ar (fr_f f2) → (h_ss s1 (3 * fr_i f2 + j) = 1 ↔ eg (fr_f f2) j = false) := by
    intro j hj
    obtain ⟨z1, z2⟩ := hfs.2.2 j hj
    cases e : eg (fr_f f2) j
    · exact ⟨fun _ => rfl, fun _ => (z2 e).1⟩
    · rw [((z1 e).1 (Nat.zero_le _)).1]
      exact ⟨fun z => absurd z i2_1, fun z => absurd z (by decide)⟩
  have q3 : ∀ j, j < ar (fr_f f2) → (h_ss s2 (3 * fr_i f2 + j) = 1 ↔ (eg (fr_f f2) j = false ∧ bt M j = false)) := by
    intro j hj
    have z := b5 j (by omega)
    rw [c_rd_n hn0, q1 j hj] at z
    rcases b3 f2 List.mem_cons_self j (by omega) with e | ⟨e, e'⟩
    · rw [e, q2 j hj]
      constructor
      · intro z1
        refine ⟨z1, ?_⟩
        cases e2 : bt M j
        · rfl
        · have := z.mpr (Or.inr e2)
          rw [e, (q2 j hj).mpr z1] at this
          exact absurd this i1_2
      · exact fun z1 => z1.1
    · rw [e']
      refine ⟨fun z1 => absurd z1 i2_1, fun z1 => ?_⟩
      rcases z.mp e' with z2 | z2
      · rw [z1.1] at z2; exact absurd z2 (by decide)
      · rw [z1.2] at z2; exact absurd z2 (by decide)
  have ps : ∀ w : FR → FR → Nat → Nat, su (fun i => if h_ss s1 (3 * fr_i f2 + i) = 1 then w f2 f i else 0) (ar (fr_f f2)) = su (fun j => if eg (fr_f f2) j = true then 0 else w f2 f j) (ar (fr_f f2)) := by
    intro w
    refine su_c _ (fun j hj => ?_)
    show (if h_ss s1 (3 * fr_i f2 + j) = 1 then w f2 f j else 0) = (if eg (fr_f f2) j = true then 0 else w f2 f j)
    cases e : eg (fr_f f2) j
    · rw [if_pos ((q2 j hj).mpr e), if_neg (by decide)]
    · rw [if_neg (fun z => by rw [(q2 j hj).mp z] at e; exact absurd e (by decide)), if_pos rfl]
  have pc : su (fun i => if h_ss s1 (3 * fr_i f2 + i) = 1 then wt_c f2 f i else 0) (ar (fr_f f2)) = su (fun i => if h_ss s2 (3 * fr_i f2 + i) = 1 then wt_c f2 f i else 0) (ar (fr_f f2)) + su (fun j => if eg (fr_f f2) j = false ∧ bt M j = true then (fr_e f2 j).2.2.2 else 0) (ar (fr_f f2)) := by
    refine su_add _ (fun j hj => ?_)
    show (if h_ss s1 (3 * fr_i f2 + j) = 1 then wt_c f2 f j else 0) = (if h_ss s2 (3 * fr_i f2 + j) = 1 then wt_c f2 f j else 0) + (if eg (fr_f f2) j = false ∧ bt M j = true then (fr_e f2 j).2.2.2 else 0)
    have ew : wt_c f2 f j = (fr_e f2 j).2.2.2 := rfl
    rw [ew]
    cases e : eg (fr_f f2) j
    · rw [if_pos ((q2 j hj).mpr e)]
      cases e2 : bt M j
      · rw [if_pos ((q3 j hj).mpr ⟨e, e2⟩), if_neg (fun z => absurd z.2 (by decide)), Nat.add_zero]
      · rw [if_neg (fun z => by rw [((q3 j hj).mp z).2] at e2; exact absurd e2 (by decide)), if_pos ⟨rfl, rfl⟩]; omega
    · rw [if_neg (fun z => by rw [(q2 j hj).mp z] at e; exact absurd e (by decide)), if_neg (fun z => by rw [((q3 j hj).mp z).1] at e; exact absurd e (by decide)), if_neg (fun z => absurd z.1 (by decide))]
  refine ⟨Nat.le_trans a1 b1, ⟨fun k hk => (b2.1 k (by omega)).trans (a2.1 k hk), fun k hk hg i hi => ?_⟩, c_mo_t a3 (fun g hg => b3 g (List.mem_cons_of_mem _ hg)), b4.2.2, fun i hi => ?_, ?_, ?_, ?_, ?_⟩
  · obtain ⟨y1, y2, y3, y4⟩ := a2.2 k hk hg i hi
    obtain ⟨x1, x2, x3, x4⟩ := b2.2 k (by omega) (fun g hg' => by
      rcases List.mem_cons.mp hg' with e | e
      · rw [e]; omega
      · exact hg g e) i hi
    exact ⟨x1.trans y1, x2.trans y2, x3.trans y3, x4.trans y4⟩
  · rw [b6.1 i hi, a5 i hi, or_assoc]
    have e : (∃ j, j < ar (fr_f f2) ∧ ¬ c_rd s1 f2 j ∧ c_rd s2 f2 j ∧ bt (fr_e f2 j).2.2.1 i = true) ↔ (∃ j, j < ar (fr_f f2) ∧ (eg (fr_f f2) j = false ∧ bt M j = true) ∧ bt (fr_e f2 j).2.2.1 i = true) := by
      constructor
      · rintro ⟨j, hj, z1, z2, z3⟩
        rw [q1 j hj] at z1
        rcases (b5 j (by omega)).mp z2 with z | z
        · exact absurd ((q1 j hj).mp z) z1
        · exact ⟨j, hj, ⟨Bool.eq_false_iff.mpr z1, z⟩, z3⟩
      · rintro ⟨j, hj, ⟨z1, z2⟩, z3⟩
        refine ⟨j, hj, fun z => ?_, (b5 j (by omega)).mpr (Or.inr z2), z3⟩
        rw [(q1 j hj).mp z] at z1
        exact absurd z1 (by decide)
    rw [e]
  · exact c_cl_t har c f (fun j hj z => (a5 j hj).mpr (Or.inl z)) (fun j hj z => (b6.1 j hj).mpr (Or.inl z)) a6 b6.2
  · have b7' : h_tc s2 + (su (fun i => if h_ss s2 (3 * fr_i f2 + i) = 1 then wt_c f2 f i else 0) (ar (fr_f f2)) + c_pt ar wt_c s2 (f :: c)) = h_tc s1 + (su (fun i => if h_ss s1 (3 * fr_i f2 + i) = 1 then wt_c f2 f i else 0) (ar (fr_f f2)) + c_pt ar wt_c s1 (f :: c)) + C := b7
    rw [pc] at b7'
    omega
  · have b8' : h_fc s2 + (su (fun i => if h_ss s2 (3 * fr_i f2 + i) = 1 then wt_s kd dt ar 0 1 0 f2 f i else 0) (ar (fr_f f2)) + c_pt ar (wt_s kd dt ar 0 1 0) s2 (f :: c)) ≤ h_fc s1 + (su (fun i => if h_ss s1 (3 * fr_i f2 + i) = 1 then wt_s kd dt ar 0 1 0 f2 f i else 0) (ar (fr_f f2)) + c_pt ar (wt_s kd dt ar 0 1 0) s1 (f :: c)) + F := b8
    rw [ps] at b8'
    omega
  · have b9' : h_x s2 + (su (fun i => if h_ss s2 (3 * fr_i f2 + i) = 1 then wt_s kd dt ar 2 34 1 f2 f i else 0) (ar (fr_f f2)) + c_pt ar (wt_s kd dt ar 2 34 1) s2 (f :: c)) ≤ h_x s1 + (su (fun i => if h_ss s1 (3 * fr_i f2 + i) = 1 then wt_s kd dt ar 2 34 1 f2 f i else 0) (ar (fr_f f2)) + c_pt ar (wt_s kd dt ar 2 34 1) s1 (f :: c)) + S := b9
    rw [ps] at b9'
    omega
end
section
/-! the machine's rules, and the evaluation of a node on a chain -/
section
variable (kd dt : Nat → Int32) (ar sz : Nat → Nat) (eg : Nat → Nat → Bool)
/-- a sound program: what the walks need of the bodies -/
def pg_nd (j n : Nat) : Prop := (∃ k, k ≤ 10 ∧ kd j = nI k) ∧ (kd j = 9 → ∃ i, i < n ∧ dt j = nI i) ∧ (kd j = 10 → ∃ h, h < 4 ∧ dt j = nI h)
def pg_ok : Prop := (∀ h, ar h ≤ 3) ∧ ∀ g, g < 4 → 0 < sz g → sz g ≤ 16 ∧ (∀ p, p < sz g → pg_nd kd dt (16 * g + p) (ar g)) ∧ sk_ok (q_o kd dt ar (16 * g)) (sz g) ∧ sk_l (q_o kd dt ar (16 * g)) (sz g) = 1 ∧ su (fun q => if kd (16 * g + q) = 10 then 1 else 0) (sz g) ≤ 2
/-- j is a node of some body -/
def vn (j : Nat) : Prop := j < 64 ∧ ∃ g p, g < 4 ∧ p < sz g ∧ j = 16 * g + p
def vm_ev (RM : HS → List TK → List Int32 → Prop) (RF : Prop) (cn : Nat → Nat → Nat) : Prop :=
  (∀ s T V j fr, vn sz j → h_x s < 4096 → kd j = 8 → V.length < 1024 → RM (hs_t s) T (dt j :: V) → RM s ((0, j, fr) :: T) V)
  ∧ (∀ s T V j fr i, vn sz j → h_x s < 4096 → kd j = 9 → dt j = nI i → i < 3 → fr < 63 → h_ss s (3 * fr + i) = 2 → V.length < 1024 → RM (hs_dem s fr i) T (h_sv s (3 * fr + i) :: V) → RM s ((0, j, fr) :: T) V)
  ∧ (∀ s T V j fr i cc pr, vn sz j → h_x s < 4096 → kd j = 9 → dt j = nI i → i < 3 → fr < 63 → h_ss s (3 * fr + i) = 1 → h_sn s (3 * fr + i) = nI cc → h_sf s (3 * fr + i) = nI pr → T.length + 2 ≤ 4096 → RM (hs_dem s fr i) ((0, cc, pr) :: (3, 3 * fr + i, 0) :: T) V → RM s ((0, j, fr) :: T) V)
  ∧ (∀ s T V j fr i, vn sz j → h_x s < 4096 → kd j = 9 → dt j = nI i → i < 3 → fr < 63 → h_ss s (3 * fr + i) = 0 → RF → RM s ((0, j, fr) :: T) V)
  ∧ (∀ s T V j fr, vn sz j → h_x s < 4096 → kd j = 0 → RF → RM s ((0, j, fr) :: T) V)
  ∧ (∀ s T V j fr h d, vn sz j → h_x s < 4096 → kd j = 10 → dt j = nI h → h < 4 → fr < 63 → h_fd s fr = nI d → 1 ≤ d → d ≤ 6 → (d = 1 ∨ sz h = 0) → RF → RM s ((0, j, fr) :: T) V)
  ∧ (∀ s T V j fr h d, vn sz j → h_x s < 4096 → kd j = 10 → dt j = nI h → h < 4 → fr < 63 → h_fd s fr = nI d → 2 ≤ d → d ≤ 6 → 0 < sz h → (∀ i, i < ar h → cn j i < 64) → h_fc s < 63 → T.length + 7 ≤ 4096 → RM (hs_call eg s h fr d (ar h) (cn j)) (ca_tl eg h (h_fc s) fr (cn j) ((0, 16 * h + (sz h - 1), h_fc s) :: T) (ar h)) V → RM s ((0, j, fr) :: T) V)
  ∧ (∀ s T V j fr, vn sz j → h_x s < 4096 → kd j = 7 → T.length + 2 ≤ 4096 → RM (hs_t s) ((0, cn j 0, fr) :: (2, j, fr) :: T) V → RM s ((0, j, fr) :: T) V)
  ∧ (∀ s T V j fr k, vn sz j → h_x s < 4096 → kd j = nI k → 1 ≤ k → k ≤ 6 → T.length + 3 ≤ 4096 → RM (hs_t s) ((0, cn j 0, fr) :: (0, cn j 1, fr) :: (1, j, fr) :: T) V → RM s ((0, j, fr) :: T) V)
def vm_tk (RM : HS → List TK → List Int32 → Prop) (RF : Prop) (cn : Nat → Nat → Nat) : Prop :=
  (∀ s T V j fr k x y, vn sz j → h_x s < 4096 → kd j = nI k → 1 ≤ k → k ≤ 6 → ¬ (kd j = 4 ∧ y = 0) → RM (hs_t s) T (q_cb (kd j) x y :: V) → RM s ((1, j, fr) :: T) (y :: x :: V))
  ∧ (∀ s T V j fr x, vn sz j → h_x s < 4096 → kd j = 4 → RF → RM s ((1, j, fr) :: T) (0 :: x :: V))
  ∧ (∀ s T V j fr v, vn sz j → h_x s < 4096 → kd j = 7 → RM (hs_t s) ((0, cn j (if v = 0 then 2 else 1), fr) :: T) V → RM s ((2, j, fr) :: T) (v :: V))
  ∧ (∀ s T V k v, k < 189 → h_x s < 4096 → RM (hs_fill s k v) T (v :: V) → RM s ((3, k, 0) :: T) (v :: V))
  ∧ (∀ s T V k v, k < 189 → h_x s < 4096 → RM (hs_fill s k v) T V → RM s ((4, k, 0) :: T) (v :: V))
def ex_b (f : FR) (c : List FR) (s : HS) (m k p : Nat) : Prop :=
  h_fc s + c_pt ar (wt_s kd dt ar 0 1 0) s (f :: c) + w_w kd dt ar 0 1 (fr_d f) (fr_f f) p ≤ 63
  ∧ h_x s + m + c_pt ar (wt_s kd dt ar 2 34 1) s (f :: c) + w_w kd dt ar 2 34 (fr_d f) (fr_f f) p ≤ 4096
  ∧ k + c_pt ar (wt_s kd dt ar 1 16 0) s (f :: c) + w_w kd dt ar 1 16 (fr_d f) (fr_f f) p ≤ 1024
def ex_q (f : FR) (p : Nat) : QQ := q_n kd dt ar sz eg (fr_d f) (fr_f f) (fr_e f) p
def ex_s (f : FR) (c : List FR) (p : Nat) (s s' : HS) : Prop := c_st kd dt ar f c (fun k => bt (ex_q kd dt ar sz eg f p).2.2.1 k = true) (ex_q kd dt ar sz eg f p).2.2.2 (w_w kd dt ar 0 1 (fr_d f) (fr_f f) p) (w_w kd dt ar 2 34 (fr_d f) (fr_f f) p) s s'
def ex_E (RM : HS → List TK → List Int32 → Prop) (RF : Prop) (f : FR) (c : List FR) (p : Nat) : Prop :=
  ∀ s T V, c_cd ar s (f :: c) → fr_i f < h_fc s → ex_b kd dt ar f c s T.length V.length p →
    ((ex_q kd dt ar sz eg f p).1 = false → RF)
    → ((ex_q kd dt ar sz eg f p).1 = true → ∀ s', ex_s kd dt ar sz eg f c p s s' → RM s' T ((ex_q kd dt ar sz eg f p).2.1 :: V))
    → RM s ((0, 16 * fr_f f + p, fr_i f) :: T) V
end
section
variable {kd dt : Nat → Int32} {ar sz : Nat → Nat} {eg : Nat → Nat → Bool} {RM : HS → List TK → List Int32 → Prop} {RF : Prop} {cn : Nat → Nat → Nat}
theorem w_w_eq (hp : pg_ok kd dt ar sz) {al a d g p : Nat} (hg : g < 4) (hp2 : p < sz g) : w_w kd dt ar al a d g p = (al + if kd (16 * g + p) = 10 then kk a (d - 1) else 0) + su (fun i => w_w kd dt ar al a d g (sk_c (q_o kd dt ar (16 * g)) p i)) (q_o kd dt ar (16 * g) p) :=
  sk_w_eq (sk_ok_m (hp.2 g hg (by omega)).2.2.1 (by omega))
theorem su_if (c : Nat → Prop) [∀ i, Decidable (c i)] (al K : Nat) : ∀ n, su (fun q => al + if c q then K else 0) n = al * n + (su (fun q => if c q then 1 else 0) n) * K := by
  intro n
  induction n with
  | zero => simp [su]
  | succ n ih =>
    rw [su_s, su_s, ih]
    by_cases h : c n
    · rw [if_pos h, if_pos h, Nat.mul_succ, Nat.add_mul]; omega
    · rw [if_neg h, if_neg h, Nat.mul_succ, Nat.add_zero, Nat.add_zero]; omega
/-- a body's whole weight -/
theorem w_w_root (hp : pg_ok kd dt ar sz) {al a d g : Nat} (hg : g < 4) (hs : 0 < sz g) : w_w kd dt ar al a d g (sz g - 1) ≤ 16 * al + 2 * kk a (d - 1) := by
  obtain ⟨h1, _, h2, h3, h4⟩ := hp.2 g hg hs
  have e : sz g - 1 + 1 = sz g := by omega
  unfold w_w
  rw [sk_w_root (by rw [e]; exact h2) (by rw [e]; exact h3), e, su_if (fun q => kd (16 * g + q) = 10) al (kk a (d - 1)) (sz g)]
  have m1 : al * sz g ≤ al * 16 := Nat.mul_le_mul_left _ h1
  have m2 := Nat.mul_le_mul_right (kk a (d - 1)) h4
  omega
theorem ch_lt (hp : pg_ok kd dt ar sz) {g p i : Nat} (hg : g < 4) (hp2 : p < sz g) (hi : i < q_o kd dt ar (16 * g) p) : sk_c (q_o kd dt ar (16 * g)) p i < p :=
  (sk_child (fun q _ => q) 0 (sk_ok_m (hp.2 g hg (by omega)).2.2.1 (by omega)) hi).2
theorem ex_q_eq (hp : pg_ok kd dt ar sz) {f : FR} {p : Nat} (hg : fr_f f < 4) (hp2 : p < sz (fr_f f)) : ex_q kd dt ar sz eg f p = q_f kd dt ar (q_cr ar sz eg (q_bd kd dt ar sz eg (fr_d f - 1))) (fr_e f) (16 * fr_f f + p) (fun i => ex_q kd dt ar sz eg f (sk_c (q_o kd dt ar (16 * fr_f f)) p i)) :=
  q_n_eq kd dt ar sz eg (sk_ok_m (hp.2 _ hg (by omega)).2.2.1 (by omega))
/-- the eager arguments, from the last to the first -/
theorem ex_loop (har : ∀ h, ar h ≤ 3) (hvt : vm_tk kd sz RM RF cn) {f f2 : FR} {c : List FR} {s0 : HS} {T0 : List TK} {V : List Int32} {C0 : Nat}
    (hs : c_sc kd dt ar sz eg (f :: c)) (hfc : fr_i f < h_fc s0) (hf2 : fr_i f2 = h_fc s0) (h63 : h_fc s0 < 63)
    (hE : ∀ i, i < ar (fr_f f2) → ex_E kd dt ar sz eg RM RF f c (fr_n f2 i)) (he : ∀ i, i < ar (fr_f f2) → fr_e f2 i = ex_q kd dt ar sz eg f (fr_n f2 i))
    (hw : ∀ i, i < ar (fr_f f2) → 1 ≤ w_w kd dt ar 2 34 (fr_d f) (fr_f f) (fr_n f2 i))
    (hbF : h_fc s0 + c_pt ar (wt_s kd dt ar 0 1 0) s0 (f :: c) + 1 + su (fun i => if eg (fr_f f2) i = true then w_w kd dt ar 0 1 (fr_d f) (fr_f f) (fr_n f2 i) else 0) (ar (fr_f f2)) ≤ 63)
    (hbS : h_x s0 + T0.length + c_pt ar (wt_s kd dt ar 2 34 1) s0 (f :: c) + 1 + su (fun i => if eg (fr_f f2) i = true then w_w kd dt ar 2 34 (fr_d f) (fr_f f) (fr_n f2 i) + 1 else 0) (ar (fr_f f2)) ≤ 4096)
    (hbN : ∀ i, i < ar (fr_f f2) → V.length + c_pt ar (wt_s kd dt ar 1 16 0) s0 (f :: c) + w_w kd dt ar 1 16 (fr_d f) (fr_f f) (fr_n f2 i) ≤ 1024) :
    ∀ i, i ≤ ar (fr_f f2) → ∀ s (C F S : Nat),
      c_st kd dt ar f c (fun k => ∃ j, (i ≤ j ∧ j < ar (fr_f f2)) ∧ eg (fr_f f2) j = true ∧ bt (fr_e f2 j).2.2.1 k = true) C F S s0 s →
      ca_fs eg s f f2 (ar (fr_f f2)) i →
      C + su (fun j => if eg (fr_f f2) j = true then (fr_e f2 j).2.2.2 else 0) i = C0 + su (fun j => if eg (fr_f f2) j = true then (fr_e f2 j).2.2.2 else 0) (ar (fr_f f2)) →
      F + su (fun j => if eg (fr_f f2) j = true then w_w kd dt ar 0 1 (fr_d f) (fr_f f) (fr_n f2 j) else 0) i = 1 + su (fun j => if eg (fr_f f2) j = true then w_w kd dt ar 0 1 (fr_d f) (fr_f f) (fr_n f2 j) else 0) (ar (fr_f f2)) →
      S + su (fun j => if eg (fr_f f2) j = true then w_w kd dt ar 2 34 (fr_d f) (fr_f f) (fr_n f2 j) + 1 else 0) i = 1 + su (fun j => if eg (fr_f f2) j = true then w_w kd dt ar 2 34 (fr_d f) (fr_f f) (fr_n f2 j) + 1 else 0) (ar (fr_f f2)) →
      (q_st eg (fr_f f2) (fr_e f2) i = true → RF) →
      (q_st eg (fr_f f2) (fr_e f2) i = false → ∀ s' C F S, c_st kd dt ar f c (fun k => ∃ j, (0 ≤ j ∧ j < ar (fr_f f2)) ∧ eg (fr_f f2) j = true ∧ bt (fr_e f2 j).2.2.1 k = true) C F S s0 s' →
        ca_fs eg s' f f2 (ar (fr_f f2)) 0 →
        C = C0 + su (fun j => if eg (fr_f f2) j = true then (fr_e f2 j).2.2.2 else 0) (ar (fr_f f2)) →
        F = 1 + su (fun j => if eg (fr_f f2) j = true then w_w kd dt ar 0 1 (fr_d f) (fr_f f) (fr_n f2 j) else 0) (ar (fr_f f2)) →
        S = 1 + su (fun j => if eg (fr_f f2) j = true then w_w kd dt ar 2 34 (fr_d f) (fr_f f) (fr_n f2 j) + 1 else 0) (ar (fr_f f2)) → RM s' T0 V) →
      RM s (ca_tl eg (fr_f f2) (h_fc s0) (fr_i f) (fun j => 16 * fr_f f + fr_n f2 j) T0 i) V := by
  intro i
  induction i with
  | zero =>
    intro _ s C F S h1 h2 h3 h4 h5 _ hk
    exact hk rfl s C F S h1 h2 h3 h4 h5
  | succ i ih =>
    intro hi s C F S h1 h2 h3 h4 h5 hRF hk
    have hr := har (fr_f f2)
    have hq : q_st eg (fr_f f2) (fr_e f2) (i + 1) = (q_st eg (fr_f f2) (fr_e f2) i || (eg (fr_f f2) i && !(fr_e f2 i).1)) := rfl
    show RM s (if eg (fr_f f2) i = true then (0, 16 * fr_f f + fr_n f2 i, fr_i f) :: (4, 3 * h_fc s0 + i, 0) :: ca_tl eg (fr_f f2) (h_fc s0) (fr_i f) (fun j => 16 * fr_f f + fr_n f2 j) T0 i else ca_tl eg (fr_f f2) (h_fc s0) (fr_i f) (fun j => 16 * fr_f f + fr_n f2 j) T0 i) V
    rw [su_s] at h3 h4 h5
    by_cases eb : eg (fr_f f2) i = true
    · rw [if_pos eb]
      rw [if_pos eb] at h3 h4 h5
      have l1 := ca_tl_l (eg := eg) (h := fr_f f2) (fc := h_fc s0) (fr := fr_i f) (cn := fun j => 16 * fr_f f + fr_n f2 j) (T0 := T0) (g := fun _ => 2) (fun _ _ => Nat.le_refl 2) i
      have l2 : su (fun j => if eg (fr_f f2) j = true then 2 else 0) i ≤ su (fun j => if eg (fr_f f2) j = true then w_w kd dt ar 2 34 (fr_d f) (fr_f f) (fr_n f2 j) + 1 else 0) i := su_le _ (fun j hj => by
        show (if eg (fr_f f2) j = true then 2 else 0) ≤ (if eg (fr_f f2) j = true then w_w kd dt ar 2 34 (fr_d f) (fr_f f) (fr_n f2 j) + 1 else 0)
        have := hw j (by omega)
        cases eg (fr_f f2) j
        · exact Nat.le_refl _
        · rw [if_pos rfl, if_pos rfl]; omega)
      have g8 := h1.2.2.2.2.2.2.2.1
      have g9 := h1.2.2.2.2.2.2.2.2
      have gN := c_pt_m har (w := wt_s kd dt ar 1 16 0) (f :: c) h1.2.2.1
      have gn := hbN i (by omega)
      have hb : ex_b kd dt ar f c s ((4, 3 * h_fc s0 + i, 0) :: ca_tl eg (fr_f f2) (h_fc s0) (fr_i f) (fun j => 16 * fr_f f + fr_n f2 j) T0 i).length V.length (fr_n f2 i) := by
        refine ⟨by omega, ?_, by omega⟩
        show h_x s + ((ca_tl eg (fr_f f2) (h_fc s0) (fr_i f) (fun j => 16 * fr_f f + fr_n f2 j) T0 i).length + 1) + _ + _ ≤ _
        omega
      have hfs : fr_i f < h_fc s := Nat.lt_of_lt_of_le hfc h1.1
      have e0 := he i (by omega)
      refine hE i (by omega) s ((4, 3 * h_fc s0 + i, 0) :: ca_tl eg (fr_f f2) (h_fc s0) (fr_i f) (fun j => 16 * fr_f f + fr_n f2 j) T0 i) V h1.2.2.2.1 hfs hb (fun ed => ?_) (fun ed s' hs' => ?_)
      · rw [← e0] at ed
        refine hRF ?_
        rw [hq, eb, ed]; simp
      · rw [← e0] at ed
        unfold ex_s at hs'
        rw [← e0] at hs' ⊢
        have hc2 := c_st_t har h1 hs'
        have hx' : h_x s' < 4096 := by
          have := hs'.2.2.2.2.2.2.2.2
          have := hc2.2.2.2.2.2.2.2.2
          omega
        refine hvt.2.2.2.2 s' _ V (3 * h_fc s0 + i) _ (by omega) hx' ?_
        have hne : ∀ g, g ∈ f :: c → fr_i g ≠ fr_i f2 := fun g hg => by have := c_sc_le hs hg; omega
        have hun := hs'.2.1.2 (fr_i f2) h2.1 hne
        have hsm : c_sm s s' f2 := ⟨hs'.2.1.1 _ h2.1, hun⟩
        have h2' := ca_fs_c hr h2 hsm hs'.1
        have hc3 := c_st_o (k := 3 * h_fc s0 + i) (v := (fr_e f2 i).2.1) har hs hfc (by omega) hc2
        refine ih (by omega) _ _ _ _ (c_st_w hc3 (fun k _ => ?_) rfl (Nat.le_refl _) (Nat.le_refl _)) ?_ (by omega) (by omega) (by omega) (fun z => hRF (by rw [hq, z]; rfl)) (fun z => hk (by rw [hq, z, ed]; simp))
        · constructor
          · rintro (⟨j, ⟨hj1, hj2⟩, z⟩ | z)
            · exact ⟨j, ⟨by omega, hj2⟩, z⟩
            · exact ⟨i, ⟨Nat.le_refl _, by omega⟩, eb, z⟩
          · rintro ⟨j, ⟨hj1, hj2⟩, z1, z2⟩
            by_cases ej : j = i
            · subst ej; exact Or.inr z2
            · exact Or.inl ⟨j, ⟨by omega, hj2⟩, z1, z2⟩
        · have k1 : ∀ j, j ≠ 3 * h_fc s0 + i → h_ss (hs_fill s' (3 * h_fc s0 + i) (fr_e f2 i).2.1) j = h_ss s' j := fun j hj => pk_un hj
          have k2 : ∀ j, j ≠ 3 * h_fc s0 + i → h_sv (hs_fill s' (3 * h_fc s0 + i) (fr_e f2 i).2.1) j = h_sv s' j := fun j hj => pk_un hj
          refine ⟨h2'.1, h2'.2.1, fun j hj => ?_⟩
          obtain ⟨y1, y2⟩ := h2'.2.2 j hj
          rw [hf2] at y1 y2 ⊢
          by_cases ej : j = i
          · subst ej
            refine ⟨fun _ => ⟨fun _ => ⟨pk_us, ed, pk_us⟩, fun z => absurd z (by omega)⟩, fun z => ?_⟩
            rw [eb] at z; exact absurd z (by decide)
          · rw [k1 _ (by omega), k2 _ (by omega)]
            exact ⟨fun z => ⟨fun z2 => (y1 z).1 (by omega), fun z2 => (y1 z).2 (by omega)⟩, y2⟩
    · rw [if_neg eb]
      rw [if_neg eb] at h3 h4 h5
      have eb' : eg (fr_f f2) i = false := Bool.eq_false_iff.mpr eb
      refine ih (by omega) s C F S (c_st_w h1 (fun k _ => ?_) rfl (Nat.le_refl _) (Nat.le_refl _)) ?_ (by omega) (by omega) (by omega) (fun z => hRF (by rw [hq, z]; rfl)) (fun z => hk (by rw [hq, z, eb']; rfl))
      · constructor
        · rintro ⟨j, ⟨hj1, hj2⟩, z⟩
          exact ⟨j, ⟨by omega, hj2⟩, z⟩
        · rintro ⟨j, ⟨hj1, hj2⟩, z1, z2⟩
          by_cases ej : j = i
          · subst ej; exact absurd z1 eb
          · exact ⟨j, ⟨by omega, hj2⟩, z1, z2⟩
      · refine ⟨h2.1, h2.2.1, fun j hj => ?_⟩
        obtain ⟨y1, y2⟩ := h2.2.2 j hj
        refine ⟨fun z => ⟨fun z2 => (y1 z).1 ?_, fun z2 => (y1 z).2 (by omega)⟩, y2⟩
        by_cases ej : j = i
        · subst ej; exact absurd z eb
        · omega
end
end
section
/-! the evaluation of every node on every sound chain -/
section
variable {kd dt : Nat → Int32} {ar sz : Nat → Nat} {eg : Nat → Nat → Bool} {RM : HS → List TK → List Int32 → Prop} {RF : Prop} {cn : Nat → Nat → Nat}
theorem ex_w1 (hp : pg_ok kd dt ar sz) {al a d g p : Nat} (hg : g < 4) (hp2 : p < sz g) : al ≤ w_w kd dt ar al a d g p := by
  rw [w_w_eq hp hg hp2]; omega
theorem ex_8 (hp : pg_ok kd dt ar sz) (hve : vm_ev kd dt ar sz eg RM RF cn) {f : FR} {c : List FR} {p : Nat} (hs : c_sc kd dt ar sz eg (f :: c)) (hp2 : p < sz (fr_f f)) (h8 : kd (16 * fr_f f + p) = 8) : ex_E kd dt ar sz eg RM RF f c p := by
  intro s T V hcd hfc hb hF hK
  have hg := (c_sc_b hs).1
  have h16 := (hp.2 _ hg (by omega)).1
  have hvn : vn sz (16 * fr_f f + p) := ⟨by omega, fr_f f, p, hg, hp2, rfl⟩
  have wS := ex_w1 hp (al := 2) (a := 34) (d := fr_d f) hg hp2
  have wN := ex_w1 hp (al := 1) (a := 16) (d := fr_d f) hg hp2
  obtain ⟨b1, b2, b3⟩ := hb
  have e : ex_q kd dt ar sz eg f p = (true, dt (16 * fr_f f + p), 0, 0) := by
    rw [ex_q_eq hp hg hp2]; unfold q_f; rw [if_pos h8]
  refine hve.1 s T V _ _ hvn (by omega) h8 (by omega) ?_
  have k := hK (by rw [e]) (hs_t s)
  unfold ex_s at k
  rw [e] at k
  refine k (c_st_w (c_st_k hcd hp.1) (fun i _ => ?_) rfl (Nat.zero_le _) (by omega))
  show False ↔ bt 0 i = true
  rw [b_0]
  exact ⟨False.elim, fun z => absurd z (by decide)⟩
theorem ex_0 (hp : pg_ok kd dt ar sz) (hve : vm_ev kd dt ar sz eg RM RF cn) {f : FR} {c : List FR} {p : Nat} (hs : c_sc kd dt ar sz eg (f :: c)) (hp2 : p < sz (fr_f f)) (h0 : kd (16 * fr_f f + p) = 0) : ex_E kd dt ar sz eg RM RF f c p := by
  intro s T V hcd hfc hb hF hK
  have hg := (c_sc_b hs).1
  have h16 := (hp.2 _ hg (by omega)).1
  have hvn : vn sz (16 * fr_f f + p) := ⟨by omega, fr_f f, p, hg, hp2, rfl⟩
  have wS := ex_w1 hp (al := 2) (a := 34) (d := fr_d f) hg hp2
  obtain ⟨b1, b2, b3⟩ := hb
  have e : ex_q kd dt ar sz eg f p = q_u := by
    rw [ex_q_eq hp hg hp2]; unfold q_f; rw [if_neg (by rw [h0]; decide), if_neg (by rw [h0]; decide), if_pos h0]
  exact hve.2.2.2.2.1 s T V _ _ hvn (by omega) h0 (hF (by rw [e]; rfl))
def ex_G (kd dt : Nat → Int32) (ar sz : Nat → Nat) (eg : Nat → Nat → Bool) (RM : HS → List TK → List Int32 → Prop) (RF : Prop) (f : FR) : List FR → Prop
  | [] => True
  | f' :: c => ∀ i, i < ar (fr_f f) → ex_E kd dt ar sz eg RM RF f' c (fr_n f i)
theorem ex_9 (hp : pg_ok kd dt ar sz) (hve : vm_ev kd dt ar sz eg RM RF cn) (hvt : vm_tk kd sz RM RF cn) {f : FR} {c : List FR} {p : Nat} (hs : c_sc kd dt ar sz eg (f :: c)) (hG : ex_G kd dt ar sz eg RM RF f c) (hp2 : p < sz (fr_f f)) (h9 : kd (16 * fr_f f + p) = 9) : ex_E kd dt ar sz eg RM RF f c p := by
  intro s T V hcd hfc hb hF hK
  have hg := (c_sc_b hs).1
  have hpg := hp.2 _ hg (by omega)
  have h16 := hpg.1
  have hvn : vn sz (16 * fr_f f + p) := ⟨by omega, fr_f f, p, hg, hp2, rfl⟩
  have har := hp.1 (fr_f f)
  obtain ⟨i, hi, hdt⟩ := (hpg.2.1 p hp2).2.1 h9
  have hcl : (dt (16 * fr_f f + p)).toNatClampNeg = i := by rw [hdt]; exact nI_clamp (by omega)
  have wS := ex_w1 hp (al := 2) (a := 34) (d := fr_d f) hg hp2
  have wN := ex_w1 hp (al := 1) (a := 16) (d := fr_d f) hg hp2
  obtain ⟨b1, b2, b3⟩ := hb
  have e : ex_q kd dt ar sz eg f p = if (fr_e f i).1 = true then (true, (fr_e f i).2.1, (1 : Int32) <<< (nI i &&& 31), 0) else q_u := by
    rw [ex_q_eq hp hg hp2]; unfold q_f; rw [if_neg (by rw [h9]; decide), if_pos h9, hcl, hdt]
  have hbit : ∀ k, k < 3 → (k = i ↔ bt ((1 : Int32) <<< (nI i &&& 31)) k = true) := by
    intro k hk
    rw [sa_bsh i (by omega) k (by omega), decide_eq_true_eq]
  rcases (c_cd_k hcd).2 i hi with ⟨z1, z2, z3⟩ | z1 | ⟨z1, z2⟩
  · rw [if_pos z2] at e
    refine hve.2.1 s T V _ _ i hvn (by omega) h9 hdt (by omega) (by omega) z1 (by omega) ?_
    rw [z3]
    have k := hK (by rw [e]) (hs_dem s (fr_i f) i)
    unfold ex_s at k
    rw [e] at k
    exact k (c_st_w (c_st_d hcd hs hp.1 (by omega) z1) (fun k hk => hbit k hk) rfl (Nat.zero_le _) (by omega))
  · cases c with
    | nil => exact absurd z1 (hcd.2 i hi)
    | cons f' c =>
      obtain ⟨n1, n2⟩ := hcd.2.1 i hi z1
      have hff : fr_i f' < fr_i f := hs.2.1
      obtain ⟨m1, m2⟩ := hs.2.2.2.1 i hi
      have m2' : fr_e f i = ex_q kd dt ar sz eg f' (fr_n f i) := m2
      have ht : hs_dem s (fr_i f) i = hs_t s := by
        unfold hs_dem
        rw [if_neg (by omega)]
        rfl
      refine hve.2.2.1 s T V _ _ i _ _ hvn (by omega) h9 hdt (by omega) (by omega) z1 n1 n2 (by omega) ?_
      rw [ht]
      have sw : ∀ w : FR → FR → Nat → Nat, w f f' i + c_pt ar w s (f' :: c) ≤ c_pt ar w s (f :: f' :: c) := by
        intro w
        show _ ≤ su _ _ + _
        have := su_one (f := fun i => if h_ss s (3 * fr_i f + i) = 1 then w f f' i else 0) (ar (fr_f f)) hi
        rw [if_pos z1] at this
        omega
      have sF := sw (wt_s kd dt ar 0 1 0)
      have sS := sw (wt_s kd dt ar 2 34 1)
      have sN := sw (wt_s kd dt ar 1 16 0)
      have xF : wt_s kd dt ar 0 1 0 f f' i = w_w kd dt ar 0 1 (fr_d f') (fr_f f') (fr_n f i) + 0 := rfl
      have xS : wt_s kd dt ar 2 34 1 f f' i = w_w kd dt ar 2 34 (fr_d f') (fr_f f') (fr_n f i) + 1 := rfl
      have xN : wt_s kd dt ar 1 16 0 f f' i = w_w kd dt ar 1 16 (fr_d f') (fr_f f') (fr_n f i) + 0 := rfl
      have ptt : ∀ w, c_pt ar w (hs_t s) (f' :: c) = c_pt ar w s (f' :: c) := fun w => c_pt_c hp.1 _ (fun _ _ _ _ => rfl)
      have y1 : h_fc (hs_t s) = h_fc s := rfl
      have y2 : h_x (hs_t s) = h_x s + 1 := rfl
      refine hG i hi (hs_t s) ((3, 3 * fr_i f + i, 0) :: T) V (c_cd_c (s := s) hp.1 _ (fun _ _ => ⟨rfl, fun _ _ => ⟨rfl, rfl, rfl, rfl⟩⟩) (c_cd_t hcd)) (by omega) ⟨by rw [ptt]; omega, ?_, by rw [ptt]; omega⟩ (fun z => ?_) (fun z s' hs' => ?_)
      · rw [ptt]
        show _ + (T.length + 1) + _ + _ ≤ _
        omega
      · rw [← m2'] at z
        rw [if_neg (by rw [z]; decide)] at e
        exact hF (by rw [e]; rfl)
      · unfold ex_s at hs'
        rw [← m2'] at z hs' ⊢
        rw [if_pos z] at e
        have hx' : h_x s' < 4096 := by
          have := hs'.2.2.2.2.2.2.2.2
          rw [ptt] at this
          omega
        refine hvt.2.2.2.1 s' T V _ _ (by omega) hx' ?_
        have k := hK (by rw [e]) (hs_fill s' (3 * fr_i f + i) (fr_e f i).2.1)
        unfold ex_s at k
        rw [e] at k
        exact k (c_st_w (c_st_f hp.1 hcd hs hfc hi z1 z rfl hs') (fun k hk => hbit k hk) rfl (Nat.zero_le _) (by omega))
  · rw [if_neg (by rw [z2]; decide)] at e
    exact hve.2.2.2.1 s T V _ _ i hvn (by omega) h9 hdt (by omega) (by omega) z1 (hF (by rw [e]; rfl))
/-- two nodes one after the other: the budget of the second -/
theorem ex_b2 (hp : pg_ok kd dt ar sz) {f : FR} {c : List FR} {s s' : HS} {P : Nat → Prop} {C F S m k p : Nat} (h : c_st kd dt ar f c P C F S s s')
    (h1 : h_fc s + c_pt ar (wt_s kd dt ar 0 1 0) s (f :: c) + F + w_w kd dt ar 0 1 (fr_d f) (fr_f f) p ≤ 63)
    (h2 : h_x s + m + c_pt ar (wt_s kd dt ar 2 34 1) s (f :: c) + S + w_w kd dt ar 2 34 (fr_d f) (fr_f f) p ≤ 4096)
    (h3 : k + c_pt ar (wt_s kd dt ar 1 16 0) s (f :: c) + w_w kd dt ar 1 16 (fr_d f) (fr_f f) p ≤ 1024) : ex_b kd dt ar f c s' m k p := by
  have g8 := h.2.2.2.2.2.2.2.1
  have g9 := h.2.2.2.2.2.2.2.2
  have gN := c_pt_m hp.1 (w := wt_s kd dt ar 1 16 0) (f :: c) h.2.2.1
  exact ⟨by omega, by omega, by omega⟩
theorem ex_bin (hp : pg_ok kd dt ar sz) (hve : vm_ev kd dt ar sz eg RM RF cn) (hvt : vm_tk kd sz RM RF cn) (hcn : ∀ g p, g < 4 → p < 16 → cn (16 * g + p) = fun i => 16 * g + sk_c (q_o kd dt ar (16 * g)) p i) {f : FR} {c : List FR} {p k : Nat} (hs : c_sc kd dt ar sz eg (f :: c)) (hp2 : p < sz (fr_f f)) (hk : kd (16 * fr_f f + p) = nI k) (hk1 : 1 ≤ k) (hk6 : k ≤ 6)
    (ih : ∀ i, i < q_o kd dt ar (16 * fr_f f) p → ex_E kd dt ar sz eg RM RF f c (sk_c (q_o kd dt ar (16 * fr_f f)) p i)) : ex_E kd dt ar sz eg RM RF f c p := by
  intro s T V hcd hfc hb hF hK
  have hg := (c_sc_b hs).1
  have hpg := hp.2 _ hg (by omega)
  have h16 := hpg.1
  have hvn : vn sz (16 * fr_f f + p) := ⟨by omega, fr_f f, p, hg, hp2, rfl⟩
  have d : ∀ l, l < 2 ^ 31 → l ≠ k → ¬ kd (16 * fr_f f + p) = nI l := fun l hl hne z => hne (((nI_eq (by omega) hl).mp (hk.symm.trans z)).symm)
  have d8 : ¬ kd (16 * fr_f f + p) = 8 := d 8 (by decide) (by omega)
  have d9 : ¬ kd (16 * fr_f f + p) = 9 := d 9 (by decide) (by omega)
  have d0 : ¬ kd (16 * fr_f f + p) = 0 := d 0 (by decide) (by omega)
  have d10 : ¬ kd (16 * fr_f f + p) = 10 := d 10 (by decide) (by omega)
  have d7 : ¬ kd (16 * fr_f f + p) = 7 := d 7 (by decide) (by omega)
  have on : q_o kd dt ar (16 * fr_f f) p = 2 := by
    unfold q_o q_on
    rw [if_neg d0, if_neg d8, if_neg d9, if_neg d10, if_neg d7]
  have ww : ∀ al a, w_w kd dt ar al a (fr_d f) (fr_f f) p = al + w_w kd dt ar al a (fr_d f) (fr_f f) (sk_c (q_o kd dt ar (16 * fr_f f)) p 0) + w_w kd dt ar al a (fr_d f) (fr_f f) (sk_c (q_o kd dt ar (16 * fr_f f)) p 1) := by
    intro al a
    rw [w_w_eq hp hg hp2, on, if_neg d10]
    show al + 0 + (0 + _ + _) = _
    dsimp only
    omega
  have c0 := ch_lt hp hg hp2 (i := 0) (by omega)
  have c1 := ch_lt hp hg hp2 (i := 1) (by omega)
  have wF := ww 0 1
  have wS := ww 2 34
  have wN := ww 1 16
  have v1 := ex_w1 hp (al := 2) (a := 34) (d := fr_d f) hg (p := sk_c (q_o kd dt ar (16 * fr_f f)) p 0) (by omega)
  have v2 := ex_w1 hp (al := 2) (a := 34) (d := fr_d f) hg (p := sk_c (q_o kd dt ar (16 * fr_f f)) p 1) (by omega)
  have v3 := ex_w1 hp (al := 1) (a := 16) (d := fr_d f) hg (p := sk_c (q_o kd dt ar (16 * fr_f f)) p 0) (by omega)
  obtain ⟨b1, b2, b3⟩ := hb
  have e : ex_q kd dt ar sz eg f p = if (ex_q kd dt ar sz eg f (sk_c (q_o kd dt ar (16 * fr_f f)) p 0)).1 = false then q_u else q_b (kd (16 * fr_f f + p)) (ex_q kd dt ar sz eg f (sk_c (q_o kd dt ar (16 * fr_f f)) p 0)) (ex_q kd dt ar sz eg f (sk_c (q_o kd dt ar (16 * fr_f f)) p 1)) := by
    have e1 : ∀ a b c : QQ, (if kd (16 * fr_f f + p) = 7 ∧ c.2.1 = 0 then a else b) = b := fun a b c => if_neg (fun z => d7 z.1)
    rw [ex_q_eq hp hg hp2]; unfold q_f; rw [if_neg d8, if_neg d9, if_neg d0, if_neg d10, e1]
  have E0 := ih 0 (by omega)
  have E1 := ih 1 (by omega)
  have hc := hcn (fr_f f) p hg (by omega)
  generalize hn0 : sk_c (q_o kd dt ar (16 * fr_f f)) p 0 = n0 at *
  generalize hn1 : sk_c (q_o kd dt ar (16 * fr_f f)) p 1 = n1 at *
  refine hve.2.2.2.2.2.2.2.2 s T V _ _ k hvn (by omega) hk hk1 hk6 (by omega) ?_
  rw [hc]
  dsimp only
  rw [hn0, hn1]
  have t0 : c_st kd dt ar f c (fun _ => False) 0 0 1 s (hs_t s) := c_st_k hcd hp.1
  refine E0 (hs_t s) _ V t0.2.2.2.1 hfc (ex_b2 hp t0 (by omega) ?_ (by omega)) (fun z => hF ?_) (fun z s1 hs1 => ?_)
  · show _ + (T.length + 1 + 1) + _ + _ + _ ≤ _
    omega
  · rw [e, if_pos z]; rfl
  · rw [if_neg (by rw [z]; decide)] at e
    have t1 := c_st_t hp.1 t0 hs1
    have f1 : h_fc s ≤ h_fc s1 := t1.1
    refine E1 s1 _ _ t1.2.2.2.1 (by omega) (ex_b2 hp t1 (by omega) ?_ ?_) (fun z2 => hF ?_) (fun z2 s2 hs2 => ?_)
    · show _ + (T.length + 1) + _ + _ + _ ≤ _
      omega
    · show V.length + 1 + _ + _ ≤ _
      omega
    · rw [e]; unfold q_b; rw [if_pos z2]; rfl
    · have t2 := c_st_t hp.1 t1 hs2
      have f2 : h_fc s1 ≤ h_fc s2 := hs2.1
      have x2 := t2.2.2.2.2.2.2.2.2
      unfold q_b at e
      rw [if_neg (by rw [z2]; decide)] at e
      by_cases hz : kd (16 * fr_f f + p) = 4 ∧ (ex_q kd dt ar sz eg f n1).2.1 = 0
      · rw [if_pos hz] at e
        rw [hz.2]
        exact hvt.2.1 s2 T V _ _ _ hvn (by omega) hz.1 (hF (by rw [e]; rfl))
      · rw [if_neg hz] at e
        refine hvt.1 s2 T V _ _ k _ _ hvn (by omega) hk hk1 hk6 hz ?_
        have t3 := c_st_t hp.1 t2 (c_st_k (kd := kd) (dt := dt) t2.2.2.2.1 hp.1)
        have kk := hK (by rw [e]) (hs_t s2)
        unfold ex_s at kk
        rw [e] at kk
        refine kk (c_st_w t3 (fun i _ => ?_) ?_ (by omega) (by omega))
        · show ((False ∨ _) ∨ _) ∨ False ↔ bt (_ ||| _) i = true
          rw [b_or, Bool.or_eq_true, or_false, false_or]
        · show 0 + _ + _ + 0 = (ex_q kd dt ar sz eg f n0).2.2.2 + (ex_q kd dt ar sz eg f n1).2.2.2
          omega
theorem ex_7 (hp : pg_ok kd dt ar sz) (hve : vm_ev kd dt ar sz eg RM RF cn) (hvt : vm_tk kd sz RM RF cn) (hcn : ∀ g p, g < 4 → p < 16 → cn (16 * g + p) = fun i => 16 * g + sk_c (q_o kd dt ar (16 * g)) p i) {f : FR} {c : List FR} {p : Nat} (hs : c_sc kd dt ar sz eg (f :: c)) (hp2 : p < sz (fr_f f)) (h7 : kd (16 * fr_f f + p) = 7)
    (ih : ∀ i, i < q_o kd dt ar (16 * fr_f f) p → ex_E kd dt ar sz eg RM RF f c (sk_c (q_o kd dt ar (16 * fr_f f)) p i)) : ex_E kd dt ar sz eg RM RF f c p := by
  intro s T V hcd hfc hb hF hK
  have hg := (c_sc_b hs).1
  have hpg := hp.2 _ hg (by omega)
  have h16 := hpg.1
  have hvn : vn sz (16 * fr_f f + p) := ⟨by omega, fr_f f, p, hg, hp2, rfl⟩
  have d8 : ¬ kd (16 * fr_f f + p) = 8 := by rw [h7]; decide
  have d9 : ¬ kd (16 * fr_f f + p) = 9 := by rw [h7]; decide
  have d0 : ¬ kd (16 * fr_f f + p) = 0 := by rw [h7]; decide
  have d10 : ¬ kd (16 * fr_f f + p) = 10 := by rw [h7]; decide
  have d4 : ¬ kd (16 * fr_f f + p) = 4 := by rw [h7]; decide
  have on : q_o kd dt ar (16 * fr_f f) p = 3 := by
    unfold q_o q_on
    rw [if_neg d0, if_neg d8, if_neg d9, if_neg d10, if_pos h7]
  have ww : ∀ al a, w_w kd dt ar al a (fr_d f) (fr_f f) p = al + w_w kd dt ar al a (fr_d f) (fr_f f) (sk_c (q_o kd dt ar (16 * fr_f f)) p 0) + w_w kd dt ar al a (fr_d f) (fr_f f) (sk_c (q_o kd dt ar (16 * fr_f f)) p 1) + w_w kd dt ar al a (fr_d f) (fr_f f) (sk_c (q_o kd dt ar (16 * fr_f f)) p 2) := by
    intro al a
    rw [w_w_eq hp hg hp2, on, if_neg d10]
    show al + 0 + (0 + _ + _ + _) = _
    dsimp only
    omega
  have wF := ww 0 1
  have wS := ww 2 34
  have wN := ww 1 16
  have c0 := ch_lt hp hg hp2 (i := 0) (by omega)
  have v1 := ex_w1 hp (al := 2) (a := 34) (d := fr_d f) hg (p := sk_c (q_o kd dt ar (16 * fr_f f)) p 0) (by omega)
  obtain ⟨b1, b2, b3⟩ := hb
  have e : ex_q kd dt ar sz eg f p = if (ex_q kd dt ar sz eg f (sk_c (q_o kd dt ar (16 * fr_f f)) p 0)).1 = false then q_u else q_b (kd (16 * fr_f f + p)) (ex_q kd dt ar sz eg f (sk_c (q_o kd dt ar (16 * fr_f f)) p 0)) (if (ex_q kd dt ar sz eg f (sk_c (q_o kd dt ar (16 * fr_f f)) p 0)).2.1 = 0 then ex_q kd dt ar sz eg f (sk_c (q_o kd dt ar (16 * fr_f f)) p 2) else ex_q kd dt ar sz eg f (sk_c (q_o kd dt ar (16 * fr_f f)) p 1)) := by
    have e1 : ∀ a b c : QQ, (if kd (16 * fr_f f + p) = 7 ∧ c.2.1 = 0 then a else b) = (if c.2.1 = 0 then a else b) := by
      intro a b c
      by_cases hv : c.2.1 = 0
      · rw [if_pos ⟨h7, hv⟩, if_pos hv]
      · rw [if_neg (fun z => hv z.2), if_neg hv]
    rw [ex_q_eq hp hg hp2]; unfold q_f; rw [if_neg d8, if_neg d9, if_neg d0, if_neg d10, e1]
  have E0 := ih 0 (by omega)
  have E1 := ih 1 (by omega)
  have E2 := ih 2 (by omega)
  have hc := hcn (fr_f f) p hg (by omega)
  generalize hn0 : sk_c (q_o kd dt ar (16 * fr_f f)) p 0 = n0 at *
  generalize hn1 : sk_c (q_o kd dt ar (16 * fr_f f)) p 1 = n1 at *
  generalize hn2 : sk_c (q_o kd dt ar (16 * fr_f f)) p 2 = n2 at *
  refine hve.2.2.2.2.2.2.2.1 s T V _ _ hvn (by omega) h7 (by omega) ?_
  rw [hc]
  dsimp only
  rw [hn0]
  have t0 : c_st kd dt ar f c (fun _ => False) 0 0 1 s (hs_t s) := c_st_k hcd hp.1
  refine E0 (hs_t s) _ V t0.2.2.2.1 hfc (ex_b2 hp t0 (by omega) ?_ (by omega)) (fun z => hF ?_) (fun z s1 hs1 => ?_)
  · show _ + (T.length + 1) + _ + _ + _ ≤ _
    omega
  · rw [e, if_pos z]; rfl
  · rw [if_neg (by rw [z]; decide)] at e
    have t1 := c_st_t hp.1 t0 hs1
    have f1 : h_fc s ≤ h_fc s1 := t1.1
    have x1 := t1.2.2.2.2.2.2.2.2
    refine hvt.2.2.1 s1 T V _ _ _ hvn (by omega) h7 ?_
    have t2 := c_st_t hp.1 t1 (c_st_k (kd := kd) (dt := dt) t1.2.2.2.1 hp.1)
    rw [hc]
    dsimp only
    have fin : ∀ n3, w_w kd dt ar 0 1 (fr_d f) (fr_f f) n0 + w_w kd dt ar 0 1 (fr_d f) (fr_f f) n3 ≤ w_w kd dt ar 0 1 (fr_d f) (fr_f f) p → 2 + w_w kd dt ar 2 34 (fr_d f) (fr_f f) n0 + w_w kd dt ar 2 34 (fr_d f) (fr_f f) n3 ≤ w_w kd dt ar 2 34 (fr_d f) (fr_f f) p → w_w kd dt ar 1 16 (fr_d f) (fr_f f) n3 ≤ w_w kd dt ar 1 16 (fr_d f) (fr_f f) p → ex_E kd dt ar sz eg RM RF f c n3 → ex_q kd dt ar sz eg f p = q_b (kd (16 * fr_f f + p)) (ex_q kd dt ar sz eg f n0) (ex_q kd dt ar sz eg f n3) → RM (hs_t s1) ((0, 16 * fr_f f + n3, fr_i f) :: T) V := by
      intro n3 y1 y2 y3 E3 e3
      unfold q_b at e3
      refine E3 (hs_t s1) _ _ t2.2.2.2.1 (Nat.lt_of_lt_of_le hfc t2.1) (ex_b2 hp t2 (by omega) (by omega) (by omega)) (fun z2 => hF ?_) (fun z2 s2 hs2 => ?_)
      · rw [e3, if_pos z2]; rfl
      · rw [if_neg (by rw [z2]; decide), if_neg (fun z => d4 z.1)] at e3
        have t3 := c_st_t hp.1 t2 hs2
        have hv : (ex_q kd dt ar sz eg f n3).2.1 = (ex_q kd dt ar sz eg f p).2.1 := by
          rw [e3]
          show _ = q_cb (kd (16 * fr_f f + p)) _ _
          rw [h7]
          rfl
        rw [hv]
        refine hK (by rw [e3]) s2 ?_
        unfold ex_s
        rw [e3]
        refine c_st_w t3 (fun i _ => ?_) ?_ (by omega) (by omega)
        · show ((False ∨ _) ∨ False) ∨ _ ↔ bt (_ ||| _) i = true
          rw [b_or, Bool.or_eq_true, or_false, false_or]
        · show 0 + _ + 0 + _ = (ex_q kd dt ar sz eg f n0).2.2.2 + (ex_q kd dt ar sz eg f n3).2.2.2
          omega
    by_cases hv : (ex_q kd dt ar sz eg f n0).2.1 = 0
    · rw [if_pos hv, hn2]
      rw [if_pos hv] at e
      exact fin n2 (by omega) (by omega) (by omega) E2 e
    · rw [if_neg hv, hn1]
      rw [if_neg hv] at e
      exact fin n1 (by omega) (by omega) (by omega) E1 e
end
end
section
/-! a call node; and all nodes -/
section
variable {kd dt : Nat → Int32} {ar sz : Nat → Nat} {eg : Nat → Nat → Bool} {RM : HS → List TK → List Int32 → Prop} {RF : Prop} {cn : Nat → Nat → Nat}
theorem kk_s (a d : Nat) (h : 2 ≤ d) : kk a (d - 1) = a + 2 * kk a (d - 1 - 1) := by
  obtain ⟨m, rfl⟩ : ∃ m, d = m + 2 := ⟨d - 2, by omega⟩
  rfl
theorem su_eg (b : Nat → Bool) (w : Nat → Nat) (n : Nat) : su w n = su (fun i => if b i = true then w i else 0) n + su (fun i => if b i = true then 0 else w i) n :=
  su_add n (fun i _ => by
    show w i = (if b i = true then w i else 0) + (if b i = true then 0 else w i)
    cases b i
    · rw [if_neg (by decide), if_neg (by decide)]; omega
    · rw [if_pos rfl, if_pos rfl]; omega)
theorem su_p1 (w : Nat → Nat) (n : Nat) : su (fun i => w i + 1) n = su w n + n := by
  have := su_add (f := fun i => w i + 1) (g := w) (h := fun _ => 1) n (fun _ _ => rfl)
  rw [this, su_k]; omega
theorem ex_10 (hp : pg_ok kd dt ar sz) (hve : vm_ev kd dt ar sz eg RM RF cn) (hvt : vm_tk kd sz RM RF cn) (hcn : ∀ g p, g < 4 → p < 16 → cn (16 * g + p) = fun i => 16 * g + sk_c (q_o kd dt ar (16 * g)) p i) {f : FR} {c : List FR} {p : Nat} (hs : c_sc kd dt ar sz eg (f :: c)) (hd6 : fr_d f ≤ 6) (hp2 : p < sz (fr_f f)) (h10 : kd (16 * fr_f f + p) = 10)
    (ih : ∀ i, i < q_o kd dt ar (16 * fr_f f) p → ex_E kd dt ar sz eg RM RF f c (sk_c (q_o kd dt ar (16 * fr_f f)) p i))
    (ihd : ∀ f2 : FR, fr_d f2 + 1 = fr_d f → c_sc kd dt ar sz eg (f2 :: f :: c) → ex_G kd dt ar sz eg RM RF f2 (f :: c) → ex_E kd dt ar sz eg RM RF f2 (f :: c) (sz (fr_f f2) - 1)) : ex_E kd dt ar sz eg RM RF f c p := by
  intro s T V hcd hfc hb hF hK
  have hg := (c_sc_b hs).1
  have hd1 := (c_sc_b hs).2.1
  have hpg := hp.2 _ hg (by omega)
  have h16 := hpg.1
  have hvn : vn sz (16 * fr_f f + p) := ⟨by omega, fr_f f, p, hg, hp2, rfl⟩
  obtain ⟨h, hh, hdt⟩ := (hpg.2.1 p hp2).2.2 h10
  have hcl : (dt (16 * fr_f f + p)).toNatClampNeg = h := by rw [hdt]; exact nI_clamp (by omega)
  have har := hp.1 h
  have d8 : ¬ kd (16 * fr_f f + p) = 8 := by rw [h10]; decide
  have d9 : ¬ kd (16 * fr_f f + p) = 9 := by rw [h10]; decide
  have d0 : ¬ kd (16 * fr_f f + p) = 0 := by rw [h10]; decide
  have on : q_o kd dt ar (16 * fr_f f) p = ar h := by
    unfold q_o q_on
    rw [if_neg d0, if_neg d8, if_neg d9, if_pos h10, hcl]
  have e : ex_q kd dt ar sz eg f p = q_cr ar sz eg (q_bd kd dt ar sz eg (fr_d f - 1)) h (q_tr (ar h) (fun i => ex_q kd dt ar sz eg f (sk_c (q_o kd dt ar (16 * fr_f f)) p i))) := by
    rw [ex_q_eq hp hg hp2]; unfold q_f; rw [if_neg d8, if_neg d9, if_neg d0, if_pos h10, hcl]
  have wS0 := ex_w1 hp (al := 2) (a := 34) (d := fr_d f) hg hp2
  have hfd := (c_cd_k hcd).1
  obtain ⟨b1, b2, b3⟩ := hb
  by_cases hz : sz h = 0
  · have e' : ex_q kd dt ar sz eg f p = q_u := by rw [e]; unfold q_cr; rw [if_pos hz]
    exact hve.2.2.2.2.2.1 s T V _ _ h (fr_d f) hvn (by omega) h10 hdt hh (by omega) hfd hd1 hd6 (Or.inr hz) (hF (by rw [e']; rfl))
  by_cases hd : fr_d f = 1
  · have e' : ex_q kd dt ar sz eg f p = q_u := by
      rw [e]; unfold q_cr; rw [if_neg hz, hd]
      by_cases hq : q_st eg h (q_tr (ar h) (fun i => ex_q kd dt ar sz eg f (sk_c (q_o kd dt ar (16 * fr_f f)) p i))) (ar h) = true
      · rw [if_pos hq]
      · rw [if_neg hq]; rfl
    exact hve.2.2.2.2.2.1 s T V _ _ h (fr_d f) hvn (by omega) h10 hdt hh (by omega) hfd hd1 hd6 (Or.inl hd) (hF (by rw [e']; rfl))
  have hd2 : 2 ≤ fr_d f := by omega
  have hc := hcn (fr_f f) p hg (by omega)
  have clt : ∀ i, i < ar h → sk_c (q_o kd dt ar (16 * fr_f f)) p i < p := fun i hi => ch_lt hp hg hp2 (by omega)
  have ih' : ∀ i, i < ar h → ex_E kd dt ar sz eg RM RF f c (sk_c (q_o kd dt ar (16 * fr_f f)) p i) := fun i hi => ih i (by omega)
  have ww : ∀ al a, w_w kd dt ar al a (fr_d f) (fr_f f) p = al + a + 2 * kk a (fr_d f - 1 - 1) + su (fun i => w_w kd dt ar al a (fr_d f) (fr_f f) (sk_c (q_o kd dt ar (16 * fr_f f)) p i)) (ar h) := by
    intro al a
    rw [w_w_eq hp hg hp2, on, if_pos h10, kk_s a _ hd2]
    omega
  generalize hch : sk_c (q_o kd dt ar (16 * fr_f f)) p = ch at *
  have hf2 : ∃ f2 : FR, fr_i f2 = h_fc s ∧ fr_f f2 = h ∧ fr_d f2 = fr_d f - 1 ∧ fr_e f2 = q_tr (ar h) (fun i => ex_q kd dt ar sz eg f (ch i)) ∧ fr_n f2 = ch := ⟨(h_fc s, h, fr_d f - 1, q_tr (ar h) (fun i => ex_q kd dt ar sz eg f (ch i)), ch), rfl, rfl, rfl, rfl, rfl⟩
  obtain ⟨f2, i1, i2, i3, i4, i5⟩ := hf2
  have ia : ar (fr_f f2) = ar h := by rw [i2]
  have he : ∀ i, i < ar h → fr_e f2 i = ex_q kd dt ar sz eg f (ch i) := fun i hi => by rw [i4]; exact if_pos hi
  rw [← i4] at e
  have wF := ww 0 1
  have wS := ww 2 34
  have wN := ww 1 16
  have rF := w_w_root hp (al := 0) (a := 1) (d := fr_d f - 1) hh (by omega)
  have rS := w_w_root hp (al := 2) (a := 34) (d := fr_d f - 1) hh (by omega)
  have rN := w_w_root hp (al := 1) (a := 16) (d := fr_d f - 1) hh (by omega)
  have gF := su_eg (eg h) (fun i => w_w kd dt ar 0 1 (fr_d f) (fr_f f) (ch i)) (ar h)
  have gS := su_eg (eg h) (fun i => w_w kd dt ar 2 34 (fr_d f) (fr_f f) (ch i) + 1) (ar h)
  rw [su_p1 (fun i => w_w kd dt ar 2 34 (fr_d f) (fr_f f) (ch i)) (ar h)] at gS
  have hsc2 : c_sc kd dt ar sz eg (f2 :: f :: c) := by
    refine ⟨⟨by omega, by omega, by rw [i2]; omega⟩, by omega, by omega, fun i hi => ?_, hs⟩
    rw [i2] at hi
    rw [i5]
    have := clt i hi
    exact ⟨by omega, he i hi⟩
  have hEb : ex_E kd dt ar sz eg RM RF f2 (f :: c) (sz (fr_f f2) - 1) := ihd f2 (by omega) hsc2 (fun i hi => by rw [i5]; exact ih' i (by omega))
  have hb0 : ex_q kd dt ar sz eg f2 (sz (fr_f f2) - 1) = q_bd kd dt ar sz eg (fr_d f - 1) h (fr_e f2) := by
    obtain ⟨m, hm⟩ : ∃ m, fr_d f - 1 = m + 1 := ⟨fr_d f - 2, by omega⟩
    rw [hm, q_bd_s kd dt ar sz eg m h (fr_e f2) (by omega), ← hm, ← i3]
    unfold ex_q
    rw [i2]
  rw [i2] at hEb hb0
  refine hve.2.2.2.2.2.2.1 s T V _ _ h (fr_d f) hvn (by omega) h10 hdt hh (by omega) hfd hd2 hd6 (by omega) (fun i hi => ?_) (by omega) (by omega) ?_
  · rw [hc]
    have := clt i hi
    show 16 * fr_f f + ch i < 64
    omega
  rw [hc]
  have t0 : c_st kd dt ar f c (fun _ => False) (su (fun i => if eg h i = true then 0 else 1) (ar h)) 1 1 s (hs_call eg s h (fr_i f) (fr_d f) (ar h) (fun i => 16 * fr_f f + ch i)) := c_st_c hp.1 hcd hs hfc
  have L := ex_loop (C0 := su (fun i => if eg h i = true then 0 else 1) (ar h)) (T0 := (0, 16 * h + (sz h - 1), h_fc s) :: T) (V := V) (f2 := f2) hp.1 hvt hs hfc i1 (by omega)
  rw [i2, i5] at L
  refine L (fun i hi => ih' i hi) (fun i hi => he i hi) (fun i hi => ?_) (by omega) ?_ (fun i hi => ?_) (ar h) (Nat.le_refl _) _ _ 1 1 (c_st_w t0 (fun k _ => ?_) rfl (Nat.le_refl _) (Nat.le_refl _)) ?_ rfl rfl rfl (fun z => hF ?_) ?_
  · have := ex_w1 hp (al := 2) (a := 34) (d := fr_d f) hg (p := ch i) (by have := clt i hi; omega)
    omega
  · show _ + (T.length + 1) + _ + _ + _ ≤ _
    omega
  · have := su_one (f := fun i => w_w kd dt ar 1 16 (fr_d f) (fr_f f) (ch i)) (ar h) hi
    omega
  · constructor
    · exact False.elim
    · rintro ⟨j, ⟨hj1, hj2⟩, _⟩
      omega
  · refine ⟨?_, ?_, fun j hj => ?_⟩
    · rw [i1]
      show h_fc s < h_fc s + 1
      omega
    · rw [i1, i3]
      exact pk_us
    · rw [i1, i2, i5]
      have es : h_ss (hs_call eg s h (fr_i f) (fr_d f) (ar h) (fun i => 16 * fr_f f + ch i)) (3 * h_fc s + j) = if eg h j = true then 0 else 1 := ca_ss_i (ar h) hj
      refine ⟨fun z => ⟨fun z2 => absurd z2 (by omega), fun _ => ?_⟩, fun z => ⟨?_, ca_sn_i z (ar h) hj, ca_sn_i z (ar h) hj⟩⟩
      · rw [es, if_pos z]
      · rw [es, if_neg (by rw [z]; decide)]
  · rw [e]; unfold q_cr; rw [if_neg hz, if_pos z]; rfl
  intro hq s' C F S hst hfs hC hFF hSS
  have e2 : ex_q kd dt ar sz eg f p = q_cv ar eg h (fr_e f2) (ex_q kd dt ar sz eg f2 (sz h - 1)) := by
    rw [e, hb0]; unfold q_cr; rw [if_neg hz, if_neg (by rw [hq]; decide)]
  have g8 := hst.2.2.2.2.2.2.2.1
  have g9 := hst.2.2.2.2.2.2.2.2
  have gN := c_pt_m hp.1 (w := wt_s kd dt ar 1 16 0) (f :: c) hst.2.2.1
  have ss1 : ∀ j, j < ar h → (h_ss s' (3 * fr_i f2 + j) = 1 ↔ eg h j = false) := by
    intro j hj
    obtain ⟨y1, y2⟩ := hfs.2.2 j hj
    rw [i2] at y1 y2
    cases ej : eg h j
    · exact ⟨fun _ => rfl, fun _ => (y2 ej).1⟩
    · rw [((y1 ej).1 (Nat.zero_le _)).1]
      exact ⟨fun z => absurd z i2_1, fun z => absurd z (by decide)⟩
  have psum : ∀ w : FR → FR → Nat → Nat, c_pt ar w s' (f2 :: f :: c) = su (fun j => if eg h j = true then 0 else w f2 f j) (ar h) + c_pt ar w s' (f :: c) := by
    intro w
    show su _ (ar (fr_f f2)) + _ = _
    rw [i2]
    congr 1
    refine su_c _ (fun j hj => ?_)
    show (if h_ss s' (3 * fr_i f2 + j) = 1 then w f2 f j else 0) = (if eg h j = true then 0 else w f2 f j)
    cases ej : eg h j
    · rw [if_pos ((ss1 j hj).mpr ej), if_neg (by decide)]
    · rw [if_neg (fun z => by rw [(ss1 j hj).mp z] at ej; exact absurd ej (by decide)), if_pos rfl]
  have pF := psum (wt_s kd dt ar 0 1 0)
  have pS := psum (wt_s kd dt ar 2 34 1)
  have pN := psum (wt_s kd dt ar 1 16 0)
  have qF : su (fun j => if eg h j = true then 0 else wt_s kd dt ar 0 1 0 f2 f j) (ar h) = su (fun i => if eg h i = true then 0 else w_w kd dt ar 0 1 (fr_d f) (fr_f f) (ch i)) (ar h) := su_c _ (fun j _ => by
    show (if eg h j = true then 0 else w_w kd dt ar 0 1 (fr_d f) (fr_f f) (fr_n f2 j) + 0) = _
    rw [i5]; rfl)
  have qS : su (fun j => if eg h j = true then 0 else wt_s kd dt ar 2 34 1 f2 f j) (ar h) = su (fun i => if eg h i = true then 0 else w_w kd dt ar 2 34 (fr_d f) (fr_f f) (ch i) + 1) (ar h) := su_c _ (fun j _ => by
    show (if eg h j = true then 0 else w_w kd dt ar 2 34 (fr_d f) (fr_f f) (fr_n f2 j) + 1) = _
    rw [i5])
  have qN : su (fun j => if eg h j = true then 0 else wt_s kd dt ar 1 16 0 f2 f j) (ar h) ≤ su (fun i => w_w kd dt ar 1 16 (fr_d f) (fr_f f) (ch i)) (ar h) := su_le _ (fun j _ => by
    show (if eg h j = true then 0 else w_w kd dt ar 1 16 (fr_d f) (fr_f f) (fr_n f2 j) + 0) ≤ w_w kd dt ar 1 16 (fr_d f) (fr_f f) (ch j)
    rw [i5]
    cases eg h j
    · rw [if_neg (by decide)]; exact Nat.le_refl _
    · rw [if_pos rfl]; exact Nat.zero_le _)
  have hcd2 : c_cd ar s' (f2 :: f :: c) := by
    refine ⟨⟨hfs.2.1, fun i hi => ?_⟩, fun i hi z => ?_, hst.2.2.2.1⟩
    · obtain ⟨y1, y2⟩ := hfs.2.2 i (by omega)
      cases ej : eg (fr_f f2) i
      · exact Or.inr (Or.inl (y2 ej).1)
      · exact Or.inl ((y1 ej).1 (Nat.zero_le _))
    · obtain ⟨y1, y2⟩ := hfs.2.2 i (by omega)
      have ej := (ss1 i (by omega)).mp z
      rw [i2] at y2
      exact (y2 ej).2
  have E := hEb s' T V hcd2 hfs.1 ⟨by rw [pF, qF, i3, i2]; omega, by rw [pS, qS, i3, i2]; omega, by rw [pN, i3, i2]; omega⟩
  rw [i1, i2] at E
  refine E (fun z => hF ?_) (fun z s3 hs3 => ?_)
  · rw [e2]; unfold q_cv; rw [if_neg (by rw [z]; decide)]; rfl
  · unfold q_cv at e2
    rw [if_pos z] at e2
    have k := hK (by rw [e2]) s3
    unfold ex_s at k
    rw [e2] at k
    refine k ?_
    unfold ex_s at hs3
    have hfs' : ca_fs eg s' f f2 (ar (fr_f f2)) 0 := by rw [i2]; exact hfs
    have P := c_st_p hp.1 hsc2 i1 hfs' hst hs3
    rw [i2, qF, qS] at P
    refine c_st_w P (fun i _ => ?_) ?_ ?_ ?_
    · show _ ↔ bt (q_nd ar eg h (fr_e f2) (ex_q kd dt ar sz eg f2 (sz h - 1))) i = true
      rw [q_nd_b ar eg har]
      constructor
      · rintro (⟨j, ⟨_, hj⟩, z1, z2⟩ | ⟨j, hj, ⟨z1, z3⟩, z2⟩)
        · exact ⟨j, hj, Or.inl z1, z2⟩
        · exact ⟨j, hj, Or.inr z3, z2⟩
      · rintro ⟨j, hj, z1, z2⟩
        cases ej : eg h j
        · rcases z1 with z1 | z1
          · rw [ej] at z1; exact absurd z1 (by decide)
          · exact Or.inr ⟨j, hj, ⟨ej, z1⟩, z2⟩
        · exact Or.inl ⟨j, ⟨Nat.zero_le _, hj⟩, ej, z2⟩
    · show _ = q_ct ar eg h (fr_e f2) (ex_q kd dt ar sz eg f2 (sz h - 1))
      rw [q_ct_e ar eg har]
      omega
    · rw [i3]; omega
    · rw [i3]; omega
theorem ex_main (hp : pg_ok kd dt ar sz) (hve : vm_ev kd dt ar sz eg RM RF cn) (hvt : vm_tk kd sz RM RF cn) (hcn : ∀ g p, g < 4 → p < 16 → cn (16 * g + p) = fun i => 16 * g + sk_c (q_o kd dt ar (16 * g)) p i) :
    ∀ d (f : FR) (c : List FR), fr_d f = d → d ≤ 6 → c_sc kd dt ar sz eg (f :: c) → ex_G kd dt ar sz eg RM RF f c → ∀ p, p < sz (fr_f f) → ex_E kd dt ar sz eg RM RF f c p := by
  intro d
  induction d with
  | zero =>
    intro f c hd _ hs
    have := (c_sc_b hs).2.1
    omega
  | succ d ihd =>
    intro f c hd hd6 hs hG p
    induction p using Nat.strongRecOn with
    | _ p ih =>
      intro hp2
      have hg := (c_sc_b hs).1
      have hpg := hp.2 _ hg (by omega)
      obtain ⟨k, hk, ek⟩ := (hpg.2.1 p hp2).1
      have ih' : ∀ i, i < q_o kd dt ar (16 * fr_f f) p → ex_E kd dt ar sz eg RM RF f c (sk_c (q_o kd dt ar (16 * fr_f f)) p i) := fun i hi => by
        have := ch_lt hp hg hp2 hi
        exact ih _ this (by omega)
      by_cases h8 : k = 8
      · subst h8; exact ex_8 hp hve hs hp2 ek
      by_cases h9 : k = 9
      · subst h9; exact ex_9 hp hve hvt hs hG hp2 ek
      by_cases h0 : k = 0
      · subst h0; exact ex_0 hp hve hs hp2 ek
      by_cases h10 : k = 10
      · subst h10
        refine ex_10 hp hve hvt hcn hs (by omega) hp2 ek ih' (fun f2 hf2 hs2 hG2 => ?_)
        exact ihd f2 (f :: c) (by omega) (by omega) hs2 hG2 _ (by have := hs2.1.2.2; omega)
      by_cases h7 : k = 7
      · subst h7; exact ex_7 hp hve hvt hcn hs hp2 ek ih'
      exact ex_bin hp hve hvt hcn hs hp2 ek (by omega) (by omega) ih'
end
end
section
/-! the reference's run, abstractly: levels of cells -/
abbrev YS : Type := Nat × Nat × Int32 × (Nat → Int32) × (Nat → Int32) × (Nat → Int32) × (Nat → Int32) × (Nat → Int32) × (Nat → Int32) × (Nat → Int32)
def y_x (s : YS) : Nat := s.1
def y_l (s : YS) : Nat := s.2.1
def y_ls (s : YS) : Int32 := s.2.2.1
def y_lf (s : YS) : Nat → Int32 := s.2.2.2.1
def y_la (s : YS) : Nat → Int32 := s.2.2.2.2.1
def y_lt (s : YS) : Nat → Int32 := s.2.2.2.2.2.1
def y_df (s : YS) : Nat → Int32 := s.2.2.2.2.2.2.1
def y_vl (s : YS) : Nat → Int32 := s.2.2.2.2.2.2.2.1
def y_ne (s : YS) : Nat → Int32 := s.2.2.2.2.2.2.2.2.1
def y_co (s : YS) : Nat → Int32 := s.2.2.2.2.2.2.2.2.2
def y_b (b : Bool) : Int32 := if b = true then 1 else 0
/-- cell k holds q -/
def y_c (s : YS) (k : Nat) (q : QQ) : Prop := y_df s k = y_b q.1 ∧ y_vl s k = q.2.1 ∧ y_ne s k = q.2.2.1 ∧ y_co s k = nI q.2.2.2
/-- a node (or a stopped call) at level l: its place p, the level's height t, its operands n, its quad -/
def y_nd (s : YS) (l p t n : Nat) (q : QQ) : YS :=
  (y_x s + 1, y_l s, y_ls s, y_lf s, upd (y_la s) l (nI (p + 1)), upd (y_lt s) l (nI (t - n + 1)), upd (y_df s) (8 * l + (t - n)) (y_b q.1), upd (y_vl s) (8 * l + (t - n)) q.2.1, upd (y_ne s) (8 * l + (t - n)) q.2.2.1, upd (y_co s) (8 * l + (t - n)) (nI q.2.2.2))
def y_en (s : YS) (l p h : Nat) : YS :=
  (y_x s + 1, l + 1, y_ls s, upd (y_lf s) (l + 1) (nI h), upd (upd (y_la s) l (nI (p + 1))) (l + 1) 0, upd (y_lt s) (l + 1) 0, y_df s, y_vl s, y_ne s, y_co s)
def y_lv (s : YS) (l t n : Nat) (st : Int32) (q : QQ) : YS :=
  (y_x s + 1, l, st, y_lf s, y_la s, upd (y_lt s) l (nI (t - n + 1)), upd (y_df s) (8 * l + (t - n)) (y_b q.1), upd (y_vl s) (8 * l + (t - n)) q.2.1, upd (y_ne s) (8 * l + (t - n)) q.2.2.1, upd (y_co s) (8 * l + (t - n)) (nI q.2.2.2))
/-- below level l nothing differs -/
def y_lo (l : Nat) (s s' : YS) : Prop := (∀ k, k < l → y_lf s' k = y_lf s k ∧ y_la s' k = y_la s k ∧ y_lt s' k = y_lt s k) ∧ ∀ k, k < 8 * l → y_df s' k = y_df s k ∧ y_vl s' k = y_vl s k ∧ y_ne s' k = y_ne s k ∧ y_co s' k = y_co s k
theorem y_lo_t {l : Nat} {s s1 s2 : YS} (h1 : y_lo l s s1) (h2 : y_lo l s1 s2) : y_lo l s s2 := by
  refine ⟨fun k hk => ?_, fun k hk => ?_⟩
  · obtain ⟨a1, a2, a3⟩ := h1.1 k hk
    obtain ⟨b1, b2, b3⟩ := h2.1 k hk
    exact ⟨b1.trans a1, b2.trans a2, b3.trans a3⟩
  · obtain ⟨a1, a2, a3, a4⟩ := h1.2 k hk
    obtain ⟨b1, b2, b3, b4⟩ := h2.2 k hk
    exact ⟨b1.trans a1, b2.trans a2, b3.trans a3, b4.trans a4⟩
theorem y_lo_m {l l' : Nat} {s s1 : YS} (h : y_lo l s s1) (hl : l' ≤ l) : y_lo l' s s1 := ⟨fun k hk => h.1 k (by omega), fun k hk => h.2 k (by omega)⟩
theorem y_c_lo {l k : Nat} {s s' : YS} {q : QQ} (h : y_lo l s s') (hk : k < 8 * l) (hc : y_c s k q) : y_c s' k q := by
  obtain ⟨b1, b2, b3, b4⟩ := h.2 k hk
  obtain ⟨c1, c2, c3, c4⟩ := hc
  exact ⟨b1.trans c1, b2.trans c2, b3.trans c3, b4.trans c4⟩
section
variable (kd dt : Nat → Int32) (ar sz : Nat → Nat) (eg : Nat → Nat → Bool) (RD : Nat)
def ym_ok (RY : YS → Prop) : Prop :=
  (∀ s l g p t j a env cal t', y_x s < 2000 → y_l s = l + 1 → l + 1 < 7 → g < 4 → y_lf s (l + 1) = nI g → y_la s (l + 1) = nI p → p < sz g → j = 16 * g + p → y_lt s (l + 1) = nI t → t ≤ 8 → kd j ≠ 10 → q_on kd dt ar j ≤ t → t - q_on kd dt ar j + 1 ≤ 8 →
      (∀ i, i < q_on kd dt ar j → y_c s (8 * (l + 1) + (t - q_on kd dt ar j + i)) (a i)) → y_lt s l = nI t' → ar g ≤ t' → t' ≤ 8 → (∀ i, i < ar g → y_c s (8 * l + (t' - ar g + i)) (env i)) →
      RY (y_nd s (l + 1) p t (q_on kd dt ar j) (q_f kd dt ar cal env j a)) → RY s)
  ∧ (∀ s l g p t j h a, y_x s < 2000 → y_l s = l + 1 → l + 1 < 7 → g < 4 → y_lf s (l + 1) = nI g → y_la s (l + 1) = nI p → p < sz g → j = 16 * g + p → y_lt s (l + 1) = nI t → t ≤ 8 → kd j = 10 → dt j = nI h → h < 4 → ar h ≤ t → t - ar h + 1 ≤ 8 →
      (∀ i, i < ar h → y_c s (8 * (l + 1) + (t - ar h + i)) (a i)) → (RD ≤ l + 1 ∨ sz h = 0 ∨ q_st eg h a (ar h) = true) →
      RY (y_nd s (l + 1) p t (ar h) q_u) → RY s)
  ∧ (∀ s l g p t j h a, y_x s < 2000 → y_l s = l + 1 → l + 2 < 7 → g < 4 → y_lf s (l + 1) = nI g → y_la s (l + 1) = nI p → p < sz g → j = 16 * g + p → y_lt s (l + 1) = nI t → t ≤ 8 → kd j = 10 → dt j = nI h → h < 4 → ar h ≤ t → t - ar h + 1 ≤ 8 →
      (∀ i, i < ar h → y_c s (8 * (l + 1) + (t - ar h + i)) (a i)) → l + 1 < RD → 0 < sz h → q_st eg h a (ar h) = false →
      RY (y_en s (l + 1) p h) → RY s)
  ∧ (∀ s l h t a b, y_x s < 2000 → y_l s = l + 1 → l + 1 < 7 → h < 4 → 0 < sz h → y_lf s (l + 1) = nI h → y_la s (l + 1) = nI (sz h) → y_lt s l = nI t → t ≤ 8 → ar h ≤ t → t - ar h + 1 ≤ 8 →
      (∀ i, i < ar h → y_c s (8 * l + (t - ar h + i)) (a i)) → y_c s (8 * (l + 1)) b →
      RY (y_lv s l t (ar h) (q_set ar eg h b) (q_cv ar eg h a b)) → RY s)
end
section
variable {kd dt : Nat → Int32} {ar sz : Nat → Nat} {eg : Nat → Nat → Bool} {RD : Nat} {RY : YS → Prop}
def y_w (kd : Nat → Int32) (d g q : Nat) : Nat := 1 + if kd (16 * g + q) = 10 then kk 17 (d - 1) else 0
theorem y_w_t (hp : pg_ok kd dt ar sz) {d g : Nat} (hg : g < 4) (hs : 0 < sz g) : su (y_w kd d g) (sz g) ≤ 16 + 2 * kk 17 (d - 1) := by
  obtain ⟨h1, _, _, _, h4⟩ := hp.2 g hg hs
  have e : su (y_w kd d g) (sz g) = 1 * sz g + su (fun q => if kd (16 * g + q) = 10 then 1 else 0) (sz g) * kk 17 (d - 1) := su_if (fun q => kd (16 * g + q) = 10) 1 (kk 17 (d - 1)) (sz g)
  have m2 := Nat.mul_le_mul_right (kk 17 (d - 1)) h4
  omega
theorem su_lt (w : Nat → Nat) {p n : Nat} (h : p < n) : su w p + w p ≤ su w n := by
  obtain ⟨m, rfl⟩ : ∃ m, n = p + 1 + m := ⟨n - (p + 1), by omega⟩
  rw [su_app, su_s]; omega
/-- level l + 1 is at place p of g's body -/
def y_at (kd dt : Nat → Int32) (ar sz : Nat → Nat) (eg : Nat → Nat → Bool) (s : YS) (l g d p : Nat) (env : Nat → QQ) : Prop :=
  y_l s = l + 1 ∧ y_lf s (l + 1) = nI g ∧ y_la s (l + 1) = nI p ∧ y_lt s (l + 1) = nI (sk_l (q_o kd dt ar (16 * g)) p)
  ∧ ∀ k, k < sk_l (q_o kd dt ar (16 * g)) p → y_c s (8 * (l + 1) + k) (sk_a (q_o kd dt ar (16 * g)) (fun p => q_f kd dt ar (q_cr ar sz eg (q_bd kd dt ar sz eg (d - 1))) env (16 * g + p)) q_u p k)
theorem y_at_s {s s' : YS} {l g d p n : Nat} {env : Nat → QQ} {q : QQ} (h : y_at kd dt ar sz eg s l g d p env) (hn : n = q_o kd dt ar (16 * g) p) (ho : n ≤ sk_l (q_o kd dt ar (16 * g)) p)
    (hq : q = q_f kd dt ar (q_cr ar sz eg (q_bd kd dt ar sz eg (d - 1))) env (16 * g + p) (fun i => sk_a (q_o kd dt ar (16 * g)) (fun p => q_f kd dt ar (q_cr ar sz eg (q_bd kd dt ar sz eg (d - 1))) env (16 * g + p)) q_u p (sk_l (q_o kd dt ar (16 * g)) p - n + i)))
    (h1 : y_l s' = l + 1) (h2 : y_lf s' (l + 1) = nI g) (h3 : y_la s' (l + 1) = nI (p + 1)) (h4 : y_lt s' (l + 1) = nI (sk_l (q_o kd dt ar (16 * g)) p - n + 1))
    (h5 : y_c s' (8 * (l + 1) + (sk_l (q_o kd dt ar (16 * g)) p - n)) q) (h6 : ∀ k, k < sk_l (q_o kd dt ar (16 * g)) p - n → ∀ q, y_c s (8 * (l + 1) + k) q → y_c s' (8 * (l + 1) + k) q) :
    y_at kd dt ar sz eg s' l g d (p + 1) env := by
  subst hn
  refine ⟨h1, h2, h3, h4, fun k hk => ?_⟩
  rw [sk_l_s] at hk
  by_cases e : k = sk_l (q_o kd dt ar (16 * g)) p - q_o kd dt ar (16 * g) p
  · rw [sk_a_t e, e]
    rw [hq] at h5
    exact h5
  · rw [sk_a_n e]
    exact h6 k (by omega) _ (h.2.2.2.2 k (by omega))
theorem y_b0 : y_b false = 0 := rfl
theorem y_b1 : y_b true = 1 := rfl
def pg_8 (kd dt : Nat → Int32) (ar sz : Nat → Nat) : Prop := ∀ g, g < 4 → 0 < sz g → ∀ p, p < sz g → sk_l (q_o kd dt ar (16 * g)) (p + 1) ≤ 8
theorem y_body (hp : pg_ok kd dt ar sz) (h8 : pg_8 kd dt ar sz) (hy : ym_ok kd dt ar sz eg RD RY) (hRD : RD ≤ 6) :
    ∀ d l, l + d = RD → 1 ≤ d → ∀ g, g < 4 → 0 < sz g → ∀ env t', ar g ≤ t' → t' ≤ 8 → ∀ m s p, p + m = sz g → y_at kd dt ar sz eg s l g d p env → y_lt s l = nI t' → (∀ i, i < ar g → y_c s (8 * l + (t' - ar g + i)) (env i)) →
      y_x s + su (y_w kd d g) (sz g) ≤ 2000 + su (y_w kd d g) p →
      (∀ s', y_lo (l + 1) s s' → y_l s' = l + 1 → y_lf s' (l + 1) = nI g → y_la s' (l + 1) = nI (sz g) → y_c s' (8 * (l + 1)) (q_bd kd dt ar sz eg d g env) → y_x s' + su (y_w kd d g) p ≤ y_x s + su (y_w kd d g) (sz g) → RY s') → RY s := by
  intro d
  induction d with
  | zero => intro l _ hd; omega
  | succ d ihd =>
    intro l hl _ g hg hsz env t' ht1 ht2 m
    obtain ⟨z16, znd, zok, zl, zc⟩ := hp.2 g hg hsz
    induction m with
    | zero =>
      intro s p hpm hat hlt henv hx hk
      have hps : p = sz g := by omega
      subst hps
      refine hk s ⟨fun _ _ => ⟨rfl, rfl, rfl⟩, fun _ _ => ⟨rfl, rfl, rfl, rfl⟩⟩ hat.1 hat.2.1 hat.2.2.1 ?_ (by omega)
      have h0 := hat.2.2.2.2 0 (by omega)
      rw [q_bd_s kd dt ar sz eg d g env hsz]
      obtain ⟨r, hr⟩ : ∃ r, sz g = r + 1 := ⟨sz g - 1, by omega⟩
      rw [hr] at h0 zl ⊢
      rw [sk_l_s] at zl
      rw [sk_a_t (by omega)] at h0
      exact h0
    | succ m ih =>
      intro s p hpm hat hlt henv hx hk
      have hp2 : p < sz g := by omega
      have ho : q_o kd dt ar (16 * g) p ≤ sk_l (q_o kd dt ar (16 * g)) p := zok p hp2
      have hlp := h8 g hg hsz p hp2
      rw [sk_l_s] at hlp
      have hl8 : sk_l (q_o kd dt ar (16 * g)) p ≤ 8 := by
        cases p with
        | zero => exact Nat.zero_le _
        | succ r => exact h8 g hg hsz r (by omega)
      have hwt := su_lt (y_w kd (d + 1) g) hp2
      have hx2 : y_x s < 2000 := by
        have : 1 ≤ y_w kd (d + 1) g p := Nat.le_add_right _ _
        omega
      have hgo : ∀ s', y_lo (l + 1) s s' → y_at kd dt ar sz eg s' l g (d + 1) (p + 1) env → y_x s' ≤ y_x s + y_w kd (d + 1) g p → RY s' := by
        intro s' hlo hat' hx'
        refine ih s' (p + 1) (by omega) hat' ((hlo.1 l (by omega)).2.2.trans hlt) (fun i hi => y_c_lo hlo (by omega) (henv i hi)) (by rw [su_s]; omega) (fun s2 hlo2 r1 r2 r3 r4 r5 => ?_)
        rw [su_s] at r5
        exact hk s2 (y_lo_t hlo hlo2) r1 r2 r3 r4 (by omega)
      obtain ⟨a1, a2, a3, a4, a5⟩ := hat
      by_cases h10 : kd (16 * g + p) = 10
      · obtain ⟨h, hh, hdt⟩ := (znd p hp2).2.2 h10
        have hcl : (dt (16 * g + p)).toNatClampNeg = h := by rw [hdt]; exact nI_clamp (by omega)
        have on : q_o kd dt ar (16 * g) p = ar h := by
          unfold q_o q_on
          rw [if_neg (by rw [h10]; decide), if_neg (by rw [h10]; decide), if_neg (by rw [h10]; decide), if_pos h10, hcl]
        rw [on] at ho hlp
        have hyw : y_w kd (d + 1) g p = 1 + kk 17 d := by
          unfold y_w
          rw [if_pos h10]
          rfl
        have hcells : ∀ i, i < ar h → y_c s (8 * (l + 1) + (sk_l (q_o kd dt ar (16 * g)) p - ar h + i)) (q_tr (ar h) (fun i => sk_a (q_o kd dt ar (16 * g)) (fun p => q_f kd dt ar (q_cr ar sz eg (q_bd kd dt ar sz eg (d + 1 - 1))) env (16 * g + p)) q_u p (sk_l (q_o kd dt ar (16 * g)) p - ar h + i)) i) := by
          intro i hi
          have e : q_tr (ar h) (fun i => sk_a (q_o kd dt ar (16 * g)) (fun p => q_f kd dt ar (q_cr ar sz eg (q_bd kd dt ar sz eg (d + 1 - 1))) env (16 * g + p)) q_u p (sk_l (q_o kd dt ar (16 * g)) p - ar h + i)) i = _ := if_pos hi
          rw [e]
          exact a5 _ (by omega)
        have hq : q_f kd dt ar (q_cr ar sz eg (q_bd kd dt ar sz eg (d + 1 - 1))) env (16 * g + p) (fun i => sk_a (q_o kd dt ar (16 * g)) (fun p => q_f kd dt ar (q_cr ar sz eg (q_bd kd dt ar sz eg (d + 1 - 1))) env (16 * g + p)) q_u p (sk_l (q_o kd dt ar (16 * g)) p - ar h + i)) = q_cr ar sz eg (q_bd kd dt ar sz eg d) h (q_tr (ar h) (fun i => sk_a (q_o kd dt ar (16 * g)) (fun p => q_f kd dt ar (q_cr ar sz eg (q_bd kd dt ar sz eg (d + 1 - 1))) env (16 * g + p)) q_u p (sk_l (q_o kd dt ar (16 * g)) p - ar h + i))) := by
          conv => lhs; unfold q_f
          rw [if_neg (by rw [h10]; decide), if_neg (by rw [h10]; decide), if_neg (by rw [h10]; decide), if_pos h10, hcl]
          rfl
        have hatk : y_at kd dt ar sz eg s l g (d + 1) p env := ⟨a1, a2, a3, a4, a5⟩
        generalize hA : q_tr (ar h) (fun i => sk_a (q_o kd dt ar (16 * g)) (fun p => q_f kd dt ar (q_cr ar sz eg (q_bd kd dt ar sz eg (d + 1 - 1))) env (16 * g + p)) q_u p (sk_l (q_o kd dt ar (16 * g)) p - ar h + i)) = A at hcells hq
        generalize ht : sk_l (q_o kd dt ar (16 * g)) p = t at *
        have hstop : (RD ≤ l + 1 ∨ sz h = 0 ∨ q_st eg h A (ar h) = true) → RY s := by
          intro hst
          have hqu : q_cr ar sz eg (q_bd kd dt ar sz eg d) h A = q_u := by
            unfold q_cr
            by_cases e1 : sz h = 0
            · rw [if_pos e1]
            · rw [if_neg e1]
              by_cases e2 : q_st eg h A (ar h) = true
              · rw [if_pos e2]
              · rw [if_neg e2]
                have e3 : d = 0 := by
                  rcases hst with z | z | z
                  · omega
                  · exact absurd z e1
                  · exact absurd z e2
                subst e3
                rfl
          refine hy.2.1 s l g p t (16 * g + p) h A hx2 a1 (by omega) hg a2 a3 hp2 rfl a4 hl8 h10 hdt hh ho hlp hcells hst ?_
          refine hgo _ ⟨fun k hk => ⟨rfl, pk_un (by omega), pk_un (by omega)⟩, fun k hk => ⟨pk_un (by omega), pk_un (by omega), pk_un (by omega), pk_un (by omega)⟩⟩ ?_ ?_
          · refine y_at_s hatk on.symm (by rw [ht]; exact ho) (by rw [ht, hq, hqu]) a1 a2 pk_us (by rw [ht]; exact pk_us) (by rw [ht]; exact ⟨pk_us, pk_us, pk_us, pk_us⟩) (fun k hk q hc => ?_)
            rw [ht] at hk
            obtain ⟨c1, c2, c3, c4⟩ := hc
            exact ⟨(pk_un (by omega)).trans c1, (pk_un (by omega)).trans c2, (pk_un (by omega)).trans c3, (pk_un (by omega)).trans c4⟩
          · show y_x s + 1 ≤ _
            omega
        by_cases e0 : RD ≤ l + 1
        · exact hstop (Or.inl e0)
        by_cases e1 : sz h = 0
        · exact hstop (Or.inr (Or.inl e1))
        cases e2 : q_st eg h A (ar h)
        · have hwb := y_w_t hp (d := d) hh (by omega)
          have hkk : kk 17 d = 17 + 2 * kk 17 (d - 1) := by
            obtain ⟨r, rfl⟩ : ∃ r, d = r + 1 := ⟨d - 1, by omega⟩
            rfl
          refine hy.2.2.1 s l g p t (16 * g + p) h A hx2 a1 (by omega) hg a2 a3 hp2 rfl a4 hl8 h10 hdt hh ho hlp hcells (by omega) (by omega) e2 ?_
          have xe : y_x (y_en s (l + 1) p h) = y_x s + 1 := rfl
          have l1 : y_lo (l + 1) s (y_en s (l + 1) p h) := ⟨fun k hk => ⟨pk_un (by omega), (pk_un (by omega)).trans (pk_un (by omega)), pk_un (by omega)⟩, fun k hk => ⟨rfl, rfl, rfl, rfl⟩⟩
          refine ihd (l + 1) (by omega) (by omega) h hh (by omega) A t ho hl8 (sz h) (y_en s (l + 1) p h) 0 (by omega) ⟨rfl, pk_us, pk_us, pk_us, fun k hk => absurd hk (Nat.not_lt_zero _)⟩ ((pk_un (by omega)).trans a4) (fun i hi => hcells i hi) ?_ (fun s2 hlo r1 r2 r3 r4 r5 => ?_)
          · rw [xe]
            show _ ≤ 2000 + 0
            omega
          · have x2 : y_x s2 ≤ y_x s + 1 + su (y_w kd d h) (sz h) := by
              rw [xe] at r5
              have : su (y_w kd d h) 0 = 0 := rfl
              omega
            refine hy.2.2.2 s2 (l + 1) h t A _ (by omega) r1 (by omega) hh (by omega) r2 r3 (((hlo.1 (l + 1) (by omega)).2.2).trans ((pk_un (by omega)).trans a4)) hl8 ho hlp (fun i hi => y_c_lo hlo (by omega) (hcells i hi)) r4 ?_
            have hqv : q_cv ar eg h A (q_bd kd dt ar sz eg d h A) = q_cr ar sz eg (q_bd kd dt ar sz eg d) h A := by
              unfold q_cr
              rw [if_neg e1, if_neg (by rw [e2]; decide)]
            rw [hqv]
            have l2 : y_lo (l + 1) s s2 := y_lo_t l1 (y_lo_m hlo (by omega))
            refine hgo _ (y_lo_t l2 ⟨fun k hk => ⟨rfl, rfl, pk_un (by omega)⟩, fun k hk => ⟨pk_un (by omega), pk_un (by omega), pk_un (by omega), pk_un (by omega)⟩⟩) ?_ ?_
            · have f1 := hlo.1 (l + 1) (by omega)
              refine y_at_s hatk on.symm (by rw [ht]; exact ho) (by rw [ht, hq]) rfl (f1.1.trans ((pk_un (by omega)).trans a2)) (f1.2.1.trans ((pk_un (by omega)).trans pk_us)) (by rw [ht]; exact pk_us) (by rw [ht]; exact ⟨pk_us, pk_us, pk_us, pk_us⟩) (fun k hk q hc => ?_)
              rw [ht] at hk
              have hc' : y_c s2 (8 * (l + 1) + k) q := y_c_lo hlo (by omega) hc
              obtain ⟨c1, c2, c3, c4⟩ := hc'
              exact ⟨(pk_un (by omega)).trans c1, (pk_un (by omega)).trans c2, (pk_un (by omega)).trans c3, (pk_un (by omega)).trans c4⟩
            · show y_x s2 + 1 ≤ _
              omega
        · exact hstop (Or.inr (Or.inr e2))
      · have oo : q_on kd dt ar (16 * g + p) = q_o kd dt ar (16 * g) p := rfl
        refine hy.1 s l g p _ (16 * g + p) (fun i => sk_a (q_o kd dt ar (16 * g)) (fun p => q_f kd dt ar (q_cr ar sz eg (q_bd kd dt ar sz eg (d + 1 - 1))) env (16 * g + p)) q_u p (sk_l (q_o kd dt ar (16 * g)) p - q_o kd dt ar (16 * g) p + i)) env (q_cr ar sz eg (q_bd kd dt ar sz eg (d + 1 - 1))) t' hx2 a1 (by omega) hg a2 a3 hp2 rfl a4 hl8 h10 ho hlp (fun i hi => a5 _ (by omega)) hlt ht1 ht2 henv ?_
        rw [oo]
        refine hgo _ ⟨fun k hk => ⟨rfl, pk_un (by omega), pk_un (by omega)⟩, fun k hk => ⟨pk_un (by omega), pk_un (by omega), pk_un (by omega), pk_un (by omega)⟩⟩ ?_ ?_
        · refine y_at_s ⟨a1, a2, a3, a4, a5⟩ rfl ho rfl a1 a2 pk_us pk_us ⟨pk_us, pk_us, pk_us, pk_us⟩ (fun k hk q hc => ?_)
          obtain ⟨c1, c2, c3, c4⟩ := hc
          exact ⟨(pk_un (by omega)).trans c1, (pk_un (by omega)).trans c2, (pk_un (by omega)).trans c3, (pk_un (by omega)).trans c4⟩
        · show y_x s + 1 ≤ _
          have : 1 ≤ y_w kd (d + 1) g p := Nat.le_add_right _ _
          omega
end
end
section
/-! the analysis as a least fixpoint -/
theorem ff_t {P : Prop} (z : false = true) : P := Bool.noConfusion z
def m_ix (a : Nat → Bool) : Nat → Nat
  | 0 => 0
  | n + 1 => m_ix a n + if a n = true then 2 ^ n else 0
theorem m_ix_lt (a : Nat → Bool) : ∀ n, m_ix a n < 2 ^ n := by
  intro n
  induction n with
  | zero => exact Nat.zero_lt_one
  | succ n ih =>
    show m_ix a n + (if a n = true then 2 ^ n else 0) < _
    rw [Nat.pow_succ]
    by_cases h : a n = true
    · rw [if_pos h]; omega
    · rw [if_neg h]; omega
theorem m_ix_b (a : Nat → Bool) : ∀ n i, i < n → (m_ix a n).testBit i = a i := by
  intro n
  induction n with
  | zero => intro i hi; exact absurd hi (Nat.not_lt_zero _)
  | succ n ih =>
    intro i hi
    show (m_ix a n + (if a n = true then 2 ^ n else 0)).testBit i = _
    have hl := m_ix_lt a n
    by_cases e : i = n
    · subst e
      by_cases h : a i = true
      · rw [if_pos h, h, Nat.add_comm, Nat.testBit_two_pow_add_eq, Nat.testBit_lt_two_pow hl]; rfl
      · rw [if_neg h, Nat.add_zero, Nat.testBit_lt_two_pow hl, Bool.eq_false_iff.mpr h]
    · by_cases h : a n = true
      · rw [if_pos h, Nat.add_comm, Nat.testBit_two_pow_add_gt (by omega)]; exact ih i (by omega)
      · rw [if_neg h, Nat.add_zero]; exact ih i (by omega)
theorem m_ix_u {a : Nat → Bool} {n c : Nat} (hc : c < 2 ^ n) (h : ∀ i, i < n → c.testBit i = a i) : c = m_ix a n := by
  apply Nat.eq_of_testBit_eq
  intro i
  by_cases hi : i < n
  · rw [h i hi, m_ix_b a n i hi]
  · have e : 2 ^ n ≤ 2 ^ i := Nat.pow_le_pow_right (by decide) (by omega)
    rw [Nat.testBit_lt_two_pow (Nat.lt_of_lt_of_le hc e), Nat.testBit_lt_two_pow (Nat.lt_of_lt_of_le (m_ix_lt a n) e)]
theorem m_ix_c {a a' : Nat → Bool} : ∀ n, (∀ i, i < n → a i = a' i) → m_ix a n = m_ix a' n := by
  intro n
  induction n with
  | zero => intro _; rfl
  | succ n ih =>
    intro h
    show m_ix a n + (if a n = true then 2 ^ n else 0) = m_ix a' n + (if a' n = true then 2 ^ n else 0)
    rw [ih (fun i hi => h i (by omega)), h n (by omega)]
section
variable (kd dt : Nat → Int32) (ar sz : Nat → Nat)
def m_f (T : Nat → Nat → Bool) (b j : Nat) (a : Nat → Bool) : Bool :=
  if kd j = 8 then true else if kd j = 9 then b.testBit (dt j).toNatClampNeg else if kd j = 7 then a 0 && (a 1 || a 2)
  else if kd j = 10 then T (dt j).toNatClampNeg (m_ix a (ar (dt j).toNatClampNeg)) else if kd j = 0 then false else a 0 && a 1
theorem m_f_c (T : Nat → Nat → Bool) (b j : Nat) {a a' : Nat → Bool} (h : ∀ i, i < q_on kd dt ar j → a i = a' i) : m_f kd dt ar T b j a = m_f kd dt ar T b j a' := by
  unfold m_f
  unfold q_on at h
  by_cases h8 : kd j = 8
  · rw [if_pos h8, if_pos h8]
  by_cases h9 : kd j = 9
  · rw [if_neg h8, if_neg h8, if_pos h9, if_pos h9]
  rw [if_neg h8, if_neg h8, if_neg h9, if_neg h9]
  by_cases h7 : kd j = 7
  · rw [if_pos h7, if_pos h7]
    rw [if_neg (by rw [h7]; decide), if_neg h8, if_neg h9, if_neg (by rw [h7]; decide), if_pos h7] at h
    rw [h 0 (by omega), h 1 (by omega), h 2 (by omega)]
  rw [if_neg h7, if_neg h7]
  by_cases h10 : kd j = 10
  · rw [if_pos h10, if_pos h10]
    rw [if_neg (by rw [h10]; decide), if_neg h8, if_neg h9, if_pos h10] at h
    rw [m_ix_c _ h]
  rw [if_neg h10, if_neg h10]
  by_cases h0 : kd j = 0
  · rw [if_pos h0, if_pos h0]
  rw [if_neg h0, if_neg h0]
  rw [if_neg h0, if_neg h8, if_neg h9, if_neg h10, if_neg h7] at h
  rw [h 0 (by omega), h 1 (by omega)]
def m_v (T : Nat → Nat → Bool) (g b p : Nat) : Bool := sk_v (q_o kd dt ar (16 * g)) (fun p => m_f kd dt ar T b (16 * g + p)) false p
def m_F (T : Nat → Nat → Bool) (g b : Nat) : Bool := decide (g < 4) && (decide (b < 2 ^ ar g) && (decide (0 < sz g) && m_v kd dt ar T g b (sz g - 1)))
def m_J : Nat → Nat → Nat → Bool
  | 0 => fun _ _ => false
  | k + 1 => m_F kd dt ar sz (m_J k)
end
def m_le (T T' : Nat → Nat → Bool) : Prop := ∀ h c, T h c = true → T' h c = true
def m_Mon (ar : Nat → Nat) (T : Nat → Nat → Bool) : Prop := ∀ h, ∀ a a' : Nat → Bool, (∀ i, i < ar h → a i = true → a' i = true) → T h (m_ix a (ar h)) = true → T h (m_ix a' (ar h)) = true
section
variable {kd dt : Nat → Int32} {ar sz : Nat → Nat}
theorem m_v_eq (hp : pg_ok kd dt ar sz) {T : Nat → Nat → Bool} {g b p : Nat} (hg : g < 4) (hp2 : p < sz g) : m_v kd dt ar T g b p = m_f kd dt ar T b (16 * g + p) (fun i => m_v kd dt ar T g b (sk_c (q_o kd dt ar (16 * g)) p i)) :=
  sk_v_eq (f := fun p => m_f kd dt ar T b (16 * g + p)) (sk_ok_m (hp.2 g hg (by omega)).2.2.1 (by omega)) (fun _ _ e => m_f_c kd dt ar _ _ _ e)
theorem m_v_m (hp : pg_ok kd dt ar sz) {T T' : Nat → Nat → Bool} (hT : m_le T T') (hM : m_Mon ar T') {g b b' : Nat} (hg : g < 4) (hb : ∀ i, i < ar g → b.testBit i = true → b'.testBit i = true) :
    ∀ p, p < sz g → m_v kd dt ar T g b p = true → m_v kd dt ar T' g b' p = true := by
  intro p
  induction p using Nat.strongRecOn with
  | _ p ih =>
    intro hp2
    have hpg := hp.2 g hg (by omega)
    have hc : ∀ i, i < q_o kd dt ar (16 * g) p → m_v kd dt ar T g b (sk_c (q_o kd dt ar (16 * g)) p i) = true → m_v kd dt ar T' g b' (sk_c (q_o kd dt ar (16 * g)) p i) = true := fun i hi => by
      have := ch_lt hp hg hp2 hi
      exact ih _ this (by omega)
    rw [m_v_eq hp hg hp2, m_v_eq hp hg hp2]
    generalize sk_c (q_o kd dt ar (16 * g)) p = ch at *
    have on : q_o kd dt ar (16 * g) p = q_on kd dt ar (16 * g + p) := rfl
    rw [on] at hc
    unfold q_on at hc
    unfold m_f
    by_cases h8 : kd (16 * g + p) = 8
    · rw [if_pos h8, if_pos h8]; exact id
    by_cases h9 : kd (16 * g + p) = 9
    · rw [if_neg h8, if_neg h8, if_pos h9, if_pos h9]
      obtain ⟨i, hi, hdt⟩ := (hpg.2.1 p hp2).2.1 h9
      have har := hp.1 g
      rw [hdt, nI_clamp (by omega)]
      exact hb i hi
    rw [if_neg h8, if_neg h8, if_neg h9, if_neg h9]
    by_cases h7 : kd (16 * g + p) = 7
    · rw [if_pos h7, if_pos h7]
      rw [if_neg (by rw [h7]; decide), if_neg h8, if_neg h9, if_neg (by rw [h7]; decide), if_pos h7] at hc
      have c0 := hc 0 (by omega)
      have c1 := hc 1 (by omega)
      have c2 := hc 2 (by omega)
      rw [Bool.and_eq_true, Bool.or_eq_true, Bool.and_eq_true, Bool.or_eq_true]
      rintro ⟨z1, z2 | z2⟩
      · exact ⟨c0 z1, Or.inl (c1 z2)⟩
      · exact ⟨c0 z1, Or.inr (c2 z2)⟩
    rw [if_neg h7, if_neg h7]
    by_cases h10 : kd (16 * g + p) = 10
    · rw [if_pos h10, if_pos h10]
      rw [if_neg (by rw [h10]; decide), if_neg h8, if_neg h9, if_pos h10] at hc
      exact fun z => hM _ _ _ hc (hT _ _ z)
    rw [if_neg h10, if_neg h10]
    by_cases h0 : kd (16 * g + p) = 0
    · rw [if_pos h0, if_pos h0]; exact id
    rw [if_neg h0, if_neg h0]
    rw [if_neg h0, if_neg h8, if_neg h9, if_neg h10, if_neg h7] at hc
    have c0 := hc 0 (by omega)
    have c1 := hc 1 (by omega)
    rw [Bool.and_eq_true, Bool.and_eq_true]
    rintro ⟨z1, z2⟩
    exact ⟨c0 z1, c1 z2⟩
theorem m_F_i {T : Nat → Nat → Bool} {g b : Nat} : m_F kd dt ar sz T g b = true ↔ g < 4 ∧ b < 2 ^ ar g ∧ 0 < sz g ∧ m_v kd dt ar T g b (sz g - 1) = true := by
  unfold m_F
  rw [Bool.and_eq_true, Bool.and_eq_true, Bool.and_eq_true, decide_eq_true_eq, decide_eq_true_eq, decide_eq_true_eq]
theorem m_F_m (hp : pg_ok kd dt ar sz) {T T' : Nat → Nat → Bool} (hT : m_le T T') (hM : m_Mon ar T') : m_le (m_F kd dt ar sz T) (m_F kd dt ar sz T') := by
  intro g b h
  rw [m_F_i] at h ⊢
  exact ⟨h.1, h.2.1, h.2.2.1, m_v_m hp hT hM h.1 (fun _ _ z => z) _ (by omega) h.2.2.2⟩
theorem m_F_M (hp : pg_ok kd dt ar sz) {T : Nat → Nat → Bool} (hM : m_Mon ar T) : m_Mon ar (m_F kd dt ar sz T) := by
  intro g a a' h z
  rw [m_F_i] at z ⊢
  refine ⟨z.1, m_ix_lt _ _, z.2.2.1, m_v_m hp (fun _ _ y => y) hM z.1 (fun i hi y => ?_) _ (by omega) z.2.2.2⟩
  rw [m_ix_b _ _ _ hi] at y ⊢
  exact h i hi y
theorem m_J_M (hp : pg_ok kd dt ar sz) : ∀ k, m_Mon ar (m_J kd dt ar sz k) := by
  intro k
  induction k with
  | zero => intro _ _ _ _ z; exact ff_t z
  | succ k ih => exact m_F_M hp ih
theorem m_J_s (hp : pg_ok kd dt ar sz) : ∀ k, m_le (m_J kd dt ar sz k) (m_J kd dt ar sz (k + 1)) := by
  intro k
  induction k with
  | zero => intro _ _ z; exact ff_t z
  | succ k ih => exact m_F_m hp ih (m_J_M hp _)
def m_cn (T : Nat → Nat → Bool) : Nat := su (fun e => if T (e / 8) (e % 8) = true then 1 else 0) 32
theorem su_b {f : Nat → Nat} : ∀ n, (∀ i, i < n → f i ≤ 1) → su f n ≤ n := by
  intro n
  induction n with
  | zero => intro _; exact Nat.le_refl _
  | succ n ih => intro h; rw [su_s]; have := ih (fun i hi => h i (by omega)); have := h n (by omega); omega
theorem m_cn_32 (T : Nat → Nat → Bool) : m_cn T ≤ 32 := su_b 32 (fun i _ => by
  show (if T (i / 8) (i % 8) = true then 1 else 0) ≤ 1
  cases T (i / 8) (i % 8)
  · exact Nat.zero_le _
  · exact Nat.le_refl _)
theorem su_st {f g : Nat → Nat} {j : Nat} : ∀ n, (∀ i, i < n → f i ≤ g i) → j < n → f j < g j → su f n < su g n := by
  intro n
  induction n with
  | zero => intro _ h; exact absurd h (Nat.not_lt_zero _)
  | succ n ih =>
    intro h hj hl
    rw [su_s, su_s]
    have h0 := su_le (f := f) (g := g) n (fun i hi => h i (by omega))
    by_cases e : j = n
    · subst e; omega
    · have := ih (fun i hi => h i (by omega)) (by omega) hl
      have := h n (by omega)
      omega
theorem m_cn_le {T T' : Nat → Nat → Bool} (h : m_le T T') : m_cn T ≤ m_cn T' := su_le 32 (fun i _ => by
  show (if T (i / 8) (i % 8) = true then 1 else 0) ≤ (if T' (i / 8) (i % 8) = true then 1 else 0)
  by_cases z : T (i / 8) (i % 8) = true
  · rw [if_pos z, if_pos (h _ _ z)]; exact Nat.le_refl _
  · rw [if_neg z]; exact Nat.zero_le _)
theorem m_cn_st {T T' : Nat → Nat → Bool} (h : m_le T T') {g b : Nat} (hg : g < 4) (hb : b < 8) (h0 : T g b = false) (h1 : T' g b = true) : m_cn T < m_cn T' := by
  refine su_st (j := 8 * g + b) 32 (fun i _ => ?_) (by omega) ?_
  · show (if T (i / 8) (i % 8) = true then 1 else 0) ≤ (if T' (i / 8) (i % 8) = true then 1 else 0)
    by_cases z : T (i / 8) (i % 8) = true
    · rw [if_pos z, if_pos (h _ _ z)]; exact Nat.le_refl _
    · rw [if_neg z]; exact Nat.zero_le _
  · show (if T ((8 * g + b) / 8) ((8 * g + b) % 8) = true then 1 else 0) < (if T' ((8 * g + b) / 8) ((8 * g + b) % 8) = true then 1 else 0)
    rw [show (8 * g + b) / 8 = g from by omega, show (8 * g + b) % 8 = b from by omega, h0, h1, if_pos rfl, if_neg (by decide)]
    exact Nat.zero_lt_one
theorem pw_8 {n : Nat} (h : n ≤ 3) : 2 ^ n ≤ 8 := Nat.pow_le_pow_right (by decide) h
/-- either F keeps T, or it adds a bit -/
theorem m_F_or (hp : pg_ok kd dt ar sz) {T : Nat → Nat → Bool} (h : m_le T (m_F kd dt ar sz T)) : m_le (m_F kd dt ar sz T) T ∨ m_cn T < m_cn (m_F kd dt ar sz T) := by
  rcases Classical.em (m_le (m_F kd dt ar sz T) T) with z | z
  · exact Or.inl z
  · refine Or.inr ?_
    have : ∃ g b, m_F kd dt ar sz T g b = true ∧ ¬ T g b = true := by
      apply Classical.byContradiction
      intro y
      exact z (fun g b y1 => Classical.byContradiction (fun y2 => y ⟨g, b, y1, y2⟩))
    obtain ⟨g, b, y1, y2⟩ := this
    have y3 := m_F_i.mp y1
    have := pw_8 (hp.1 g)
    exact m_cn_st h y3.1 (by omega) (Bool.eq_false_iff.mpr y2) y1
theorem m_eq {T T' : Nat → Nat → Bool} (h1 : m_le T T') (h2 : m_le T' T) : T = T' := by
  funext g b
  exact Bool.eq_iff_iff.mpr ⟨h1 g b, h2 g b⟩
theorem m_J_k (hp : pg_ok kd dt ar sz) : ∀ k, m_F kd dt ar sz (m_J kd dt ar sz k) = m_J kd dt ar sz k ∨ k ≤ m_cn (m_J kd dt ar sz k) := by
  intro k
  induction k with
  | zero => exact Or.inr (Nat.zero_le _)
  | succ k ih =>
    rcases ih with z | z
    · left
      show m_F kd dt ar sz (m_F kd dt ar sz (m_J kd dt ar sz k)) = m_F kd dt ar sz (m_J kd dt ar sz k)
      rw [z, z]
    · rcases m_F_or hp (m_J_s hp k) with y | y
      · left
        have e := m_eq (m_J_s hp k) y
        have e' : m_F kd dt ar sz (m_J kd dt ar sz k) = m_J kd dt ar sz k := e.symm
        show m_F kd dt ar sz (m_F kd dt ar sz (m_J kd dt ar sz k)) = m_F kd dt ar sz (m_J kd dt ar sz k)
        rw [e', e']
      · right
        have : m_cn (m_J kd dt ar sz (k + 1)) = m_cn (m_F kd dt ar sz (m_J kd dt ar sz k)) := rfl
        omega
/-- the reference's table after its 33 rounds is a fixpoint -/
theorem m_L (hp : pg_ok kd dt ar sz) : m_F kd dt ar sz (m_J kd dt ar sz 33) = m_J kd dt ar sz 33 := by
  rcases m_J_k hp 33 with z | z
  · exact z
  · have := m_cn_32 (m_J kd dt ar sz 33)
    omega
/-- the component's table while it is improved -/
def m_X (kd dt : Nat → Int32) (ar sz : Nat → Nat) (T : Nat → Nat → Bool) : Prop := m_le T (m_F kd dt ar sz T) ∧ m_Mon ar T ∧ m_le T (m_J kd dt ar sz 33)
def m_up (T : Nat → Nat → Bool) (g : Nat) (r : Nat → Bool) : Nat → Nat → Bool := fun h c => if h = g then r c else T h c
theorem m_X0 : m_X kd dt ar sz (fun _ _ => false) := ⟨fun _ _ z => ff_t z, fun _ _ _ _ z => ff_t z, fun _ _ z => ff_t z⟩
theorem m_up_le {T : Nat → Nat → Bool} (h : m_X kd dt ar sz T) (g : Nat) : m_le T (m_up T g (m_F kd dt ar sz T g)) := by
  intro k c z
  unfold m_up
  by_cases e : k = g
  · subst e; rw [if_pos rfl]; exact h.1 k c z
  · rw [if_neg e]; exact z
theorem m_up_X (hp : pg_ok kd dt ar sz) {T : Nat → Nat → Bool} (h : m_X kd dt ar sz T) (g : Nat) : m_X kd dt ar sz (m_up T g (m_F kd dt ar sz T g)) := by
  have hM : m_Mon ar (m_up T g (m_F kd dt ar sz T g)) := by
    intro k a a' ha z
    unfold m_up at z ⊢
    by_cases e : k = g
    · subst e; rw [if_pos rfl] at z ⊢; exact m_F_M hp h.2.1 k a a' ha z
    · rw [if_neg e] at z ⊢; exact h.2.1 k a a' ha z
  have hF := m_F_m hp (m_up_le h g) hM
  refine ⟨fun k c z => hF k c ?_, hM, fun k c z => ?_⟩
  · unfold m_up at z
    by_cases e : k = g
    · subst e; rw [if_pos rfl] at z; exact z
    · rw [if_neg e] at z; exact h.1 k c z
  · unfold m_up at z
    by_cases e : k = g
    · subst e
      rw [if_pos rfl] at z
      rw [← m_L hp]
      exact m_F_m hp h.2.2 (m_J_M hp 33) k c z
    · rw [if_neg e] at z; exact h.2.2 k c z
/-- a fixpoint below the reference's table is it -/
theorem m_X_fix (hp : pg_ok kd dt ar sz) {T : Nat → Nat → Bool} (h : m_X kd dt ar sz T) (hf : m_le (m_F kd dt ar sz T) T) : T = m_J kd dt ar sz 33 := by
  refine m_eq h.2.2 ?_
  have : ∀ k, m_le (m_J kd dt ar sz k) T := by
    intro k
    induction k with
    | zero => exact fun _ _ z => ff_t z
    | succ k ih => exact fun g b z => hf g b (m_F_m hp ih h.2.1 g b z)
  exact this 33
theorem m_up_cn {T : Nat → Nat → Bool} (h : m_X kd dt ar sz T) {g b : Nat} (hg : g < 4) (hb : b < 8) (hne : m_F kd dt ar sz T g b ≠ T g b) : m_cn T < m_cn (m_up T g (m_F kd dt ar sz T g)) := by
  have h0 : T g b = false := by
    cases e : T g b
    · rfl
    · exact absurd ((h.1 g b e).trans e.symm) hne
  have h1 : m_F kd dt ar sz T g b = true := by
    cases e : m_F kd dt ar sz T g b
    · exact absurd (e.trans h0.symm) hne
    · rfl
  refine m_cn_st (m_up_le h g) hg hb h0 ?_
  unfold m_up
  rw [if_pos rfl]
  exact h1
end
end
section
/-! X's machine: the small walks, over a general post Q -/
def rp_T (tk ts tf : Nat → Int32) : List TK → Prop
  | [] => True
  | t :: T => (tk T.length = nI t.1 ∧ ts T.length = nI t.2.1 ∧ tf T.length = nI t.2.2) ∧ rp_T tk ts tf T
def rp_V (vs : Nat → Int32) : List Int32 → Prop
  | [] => True
  | v :: V => vs V.length = v ∧ rp_V vs V
theorem rp_u {tk ts tf : Nat → Int32} {k : Nat} {a b c : Int32} : ∀ T : List TK, T.length ≤ k → rp_T tk ts tf T → rp_T (upd tk k a) (upd ts k b) (upd tf k c) T := by
  intro T
  induction T with
  | nil => intro _ _; trivial
  | cons t T ih =>
    intro h hr
    have h' : T.length + 1 ≤ k := h
    exact ⟨⟨(pk_un (by omega)).trans hr.1.1, (pk_un (by omega)).trans hr.1.2.1, (pk_un (by omega)).trans hr.1.2.2⟩, ih (by omega) hr.2⟩
theorem rp_p {tk ts tf : Nat → Int32} {T : List TK} {a b c : Nat} (h : rp_T tk ts tf T) : rp_T (upd tk T.length (nI a)) (upd ts T.length (nI b)) (upd tf T.length (nI c)) ((a, b, c) :: T) :=
  ⟨⟨pk_us, pk_us, pk_us⟩, rp_u T (Nat.le_refl _) h⟩
theorem rp_vu {vs : Nat → Int32} {k : Nat} {a : Int32} : ∀ V : List Int32, V.length ≤ k → rp_V vs V → rp_V (upd vs k a) V := by
  intro V
  induction V with
  | nil => intro _ _; trivial
  | cons t V ih =>
    intro h hr
    have h' : V.length + 1 ≤ k := h
    exact ⟨(pk_un (by omega)).trans hr.1, ih (by omega) hr.2⟩
theorem rp_vp {vs : Nat → Int32} {V : List Int32} {a : Int32} (h : rp_V vs V) : rp_V (upd vs V.length a) (a :: V) := ⟨pk_us, rp_vu V (Nat.le_refl _) h⟩
section
variable {Q : SX → Prop} {f_literalKind f_paramKind f_callKind f_evalTask f_applyTask f_branchTask f_updateTask f_storeTask f_slotAbsent f_slotDelayed f_slotReady f_functionCount f_nodeLimit f_depthLimit f_draftOpen f_draftFor f_draftNodes f_draftCalls f_treeCount f_analysed f_recordValue f_recordThunks f_recordNeeds f_taskTop f_valueTop f_frameCount f_failed f_thunkCount f_demanded : Int32} {a_declared a_arity a_size a_kindAt a_datumAt a_childAt a_treeRoot a_treeHeight a_tables a_marks a_cellDefined a_cellValue a_eager a_taskKind a_taskSubject a_taskFrame a_valueStack a_frameDepth a_slotState a_slotValue a_slotNode a_slotFrame : Nat → Int32}
theorem xw_pt {k : Nat} (hk : k < 4096) (p0 p1 p2 : Int32) (h : Q (f_literalKind, f_paramKind, f_callKind, f_evalTask, f_applyTask, f_branchTask, f_updateTask, f_storeTask, f_slotAbsent, f_slotDelayed, f_slotReady, f_functionCount, f_nodeLimit, f_depthLimit, f_draftOpen, f_draftFor, f_draftNodes, f_draftCalls, f_treeCount, f_analysed, f_recordValue, f_recordThunks, f_recordNeeds, (nI (k + 1)), f_valueTop, f_frameCount, f_failed, f_thunkCount, f_demanded, a_declared, a_arity, a_size, a_kindAt, a_datumAt, a_childAt, a_treeRoot, a_treeHeight, a_tables, a_marks, a_cellDefined, a_cellValue, a_eager, (upd a_taskKind k p0), (upd a_taskSubject k p1), (upd a_taskFrame k p2), a_valueStack, a_frameDepth, a_slotState, a_slotValue, a_slotNode, a_slotFrame)) : wpX_pushTask Q (f_literalKind, f_paramKind, f_callKind, f_evalTask, f_applyTask, f_branchTask, f_updateTask, f_storeTask, f_slotAbsent, f_slotDelayed, f_slotReady, f_functionCount, f_nodeLimit, f_depthLimit, f_draftOpen, f_draftFor, f_draftNodes, f_draftCalls, f_treeCount, f_analysed, f_recordValue, f_recordThunks, f_recordNeeds, (nI k), f_valueTop, f_frameCount, f_failed, f_thunkCount, f_demanded, a_declared, a_arity, a_size, a_kindAt, a_datumAt, a_childAt, a_treeRoot, a_treeHeight, a_tables, a_marks, a_cellDefined, a_cellValue, a_eager, a_taskKind, a_taskSubject, a_taskFrame, a_valueStack, a_frameDepth, a_slotState, a_slotValue, a_slotNode, a_slotFrame) p0 p1 p2 := by
  unfold wpX_pushTask
  have e : (nI k).toNatClampNeg = k := nI_clamp (by omega)
  have hi : vp_in (nI k) 4096 := vp_in_nI hk (by omega)
  exact br_f (nI_ge (b := 4096) hk (by decide)) ⟨hi, nm_r (e' := upd a_taskKind k p0) (by rw [e]) ⟨hi, nm_r (e' := upd a_taskSubject k p1) (by rw [e]) ⟨hi, nm_r (e' := upd a_taskFrame k p2) (by rw [e]) (nm_r (nI_1 k) h)⟩⟩⟩
theorem xw_pv {k : Nat} (hk : k < 1024) (v : Int32) (h : Q (f_literalKind, f_paramKind, f_callKind, f_evalTask, f_applyTask, f_branchTask, f_updateTask, f_storeTask, f_slotAbsent, f_slotDelayed, f_slotReady, f_functionCount, f_nodeLimit, f_depthLimit, f_draftOpen, f_draftFor, f_draftNodes, f_draftCalls, f_treeCount, f_analysed, f_recordValue, f_recordThunks, f_recordNeeds, f_taskTop, (nI (k + 1)), f_frameCount, f_failed, f_thunkCount, f_demanded, a_declared, a_arity, a_size, a_kindAt, a_datumAt, a_childAt, a_treeRoot, a_treeHeight, a_tables, a_marks, a_cellDefined, a_cellValue, a_eager, a_taskKind, a_taskSubject, a_taskFrame, (upd a_valueStack k v), a_frameDepth, a_slotState, a_slotValue, a_slotNode, a_slotFrame)) : wpX_pushValue Q (f_literalKind, f_paramKind, f_callKind, f_evalTask, f_applyTask, f_branchTask, f_updateTask, f_storeTask, f_slotAbsent, f_slotDelayed, f_slotReady, f_functionCount, f_nodeLimit, f_depthLimit, f_draftOpen, f_draftFor, f_draftNodes, f_draftCalls, f_treeCount, f_analysed, f_recordValue, f_recordThunks, f_recordNeeds, f_taskTop, (nI k), f_frameCount, f_failed, f_thunkCount, f_demanded, a_declared, a_arity, a_size, a_kindAt, a_datumAt, a_childAt, a_treeRoot, a_treeHeight, a_tables, a_marks, a_cellDefined, a_cellValue, a_eager, a_taskKind, a_taskSubject, a_taskFrame, a_valueStack, a_frameDepth, a_slotState, a_slotValue, a_slotNode, a_slotFrame) v := by
  unfold wpX_pushValue
  have e : (nI k).toNatClampNeg = k := nI_clamp (by omega)
  have hi : vp_in (nI k) 1024 := vp_in_nI hk (by omega)
  exact br_f (nI_ge (b := 1024) hk (by decide)) ⟨hi, nm_r (e' := upd a_valueStack k v) (by rw [e]) (nm_r (nI_1 k) h)⟩
theorem xw_pop {R : Int32 → SX → Prop} {k : Nat} (hk : k < 1024) (h : R (a_valueStack k) (f_literalKind, f_paramKind, f_callKind, f_evalTask, f_applyTask, f_branchTask, f_updateTask, f_storeTask, f_slotAbsent, f_slotDelayed, f_slotReady, f_functionCount, f_nodeLimit, f_depthLimit, f_draftOpen, f_draftFor, f_draftNodes, f_draftCalls, f_treeCount, f_analysed, f_recordValue, f_recordThunks, f_recordNeeds, f_taskTop, (nI k), f_frameCount, f_failed, f_thunkCount, f_demanded, a_declared, a_arity, a_size, a_kindAt, a_datumAt, a_childAt, a_treeRoot, a_treeHeight, a_tables, a_marks, a_cellDefined, a_cellValue, a_eager, a_taskKind, a_taskSubject, a_taskFrame, a_valueStack, a_frameDepth, a_slotState, a_slotValue, a_slotNode, a_slotFrame)) : wpX_popValue R (f_literalKind, f_paramKind, f_callKind, f_evalTask, f_applyTask, f_branchTask, f_updateTask, f_storeTask, f_slotAbsent, f_slotDelayed, f_slotReady, f_functionCount, f_nodeLimit, f_depthLimit, f_draftOpen, f_draftFor, f_draftNodes, f_draftCalls, f_treeCount, f_analysed, f_recordValue, f_recordThunks, f_recordNeeds, f_taskTop, (nI (k + 1)), f_frameCount, f_failed, f_thunkCount, f_demanded, a_declared, a_arity, a_size, a_kindAt, a_datumAt, a_childAt, a_treeRoot, a_treeHeight, a_tables, a_marks, a_cellDefined, a_cellValue, a_eager, a_taskKind, a_taskSubject, a_taskFrame, a_valueStack, a_frameDepth, a_slotState, a_slotValue, a_slotNode, a_slotFrame) := by
  unfold wpX_popValue
  have e : (nI k).toNatClampNeg = k := nI_clamp (by omega)
  have hi : vp_in (nI k) 1024 := vp_in_nI hk (by omega)
  refine br_t (nI_lt (a := 0) (by omega) (by omega)) (nm_r (nI_pred k) ⟨hi, ?_⟩)
  rw [e]
  exact h
/-! evaluate -/
theorem xw_e8 {j v : Nat} {fr : Int32} (hj : j < 80) (hk : a_kindAt j = 8) (hv : v < 1024) (h : Q (f_literalKind, f_paramKind, f_callKind, f_evalTask, f_applyTask, f_branchTask, f_updateTask, f_storeTask, f_slotAbsent, f_slotDelayed, f_slotReady, f_functionCount, f_nodeLimit, f_depthLimit, f_draftOpen, f_draftFor, f_draftNodes, f_draftCalls, f_treeCount, f_analysed, f_recordValue, f_recordThunks, f_recordNeeds, f_taskTop, (nI (v + 1)), f_frameCount, f_failed, f_thunkCount, f_demanded, a_declared, a_arity, a_size, a_kindAt, a_datumAt, a_childAt, a_treeRoot, a_treeHeight, a_tables, a_marks, a_cellDefined, a_cellValue, a_eager, a_taskKind, a_taskSubject, a_taskFrame, (upd a_valueStack v (a_datumAt j)), a_frameDepth, a_slotState, a_slotValue, a_slotNode, a_slotFrame)) : wpX_evaluate Q (f_literalKind, f_paramKind, f_callKind, f_evalTask, f_applyTask, f_branchTask, f_updateTask, f_storeTask, f_slotAbsent, f_slotDelayed, f_slotReady, f_functionCount, f_nodeLimit, f_depthLimit, f_draftOpen, f_draftFor, f_draftNodes, f_draftCalls, f_treeCount, f_analysed, f_recordValue, f_recordThunks, f_recordNeeds, f_taskTop, (nI v), f_frameCount, f_failed, f_thunkCount, f_demanded, a_declared, a_arity, a_size, a_kindAt, a_datumAt, a_childAt, a_treeRoot, a_treeHeight, a_tables, a_marks, a_cellDefined, a_cellValue, a_eager, a_taskKind, a_taskSubject, a_taskFrame, a_valueStack, a_frameDepth, a_slotState, a_slotValue, a_slotNode, a_slotFrame) (nI j) fr := by
  unfold wpX_evaluate
  have e : (nI j).toNatClampNeg = j := nI_clamp (by omega)
  have hi : vp_in (nI j) 80 := vp_in_nI hj (by omega)
  refine ⟨hi, nm_r (e' := 8) (by rw [e]; exact hk) (br_t rfl ⟨hi, ?_⟩)⟩
  rw [e]
  exact xw_pv hv _ h
theorem xw_e0 {j : Nat} {fr : Int32} (hj : j < 80) (hk : a_kindAt j = 0) (h : Q (f_literalKind, f_paramKind, f_callKind, f_evalTask, f_applyTask, f_branchTask, f_updateTask, f_storeTask, f_slotAbsent, f_slotDelayed, f_slotReady, f_functionCount, f_nodeLimit, f_depthLimit, f_draftOpen, f_draftFor, f_draftNodes, f_draftCalls, f_treeCount, f_analysed, f_recordValue, f_recordThunks, f_recordNeeds, f_taskTop, f_valueTop, f_frameCount, 1, f_thunkCount, f_demanded, a_declared, a_arity, a_size, a_kindAt, a_datumAt, a_childAt, a_treeRoot, a_treeHeight, a_tables, a_marks, a_cellDefined, a_cellValue, a_eager, a_taskKind, a_taskSubject, a_taskFrame, a_valueStack, a_frameDepth, a_slotState, a_slotValue, a_slotNode, a_slotFrame)) : wpX_evaluate Q (f_literalKind, f_paramKind, f_callKind, f_evalTask, f_applyTask, f_branchTask, f_updateTask, f_storeTask, f_slotAbsent, f_slotDelayed, f_slotReady, f_functionCount, f_nodeLimit, f_depthLimit, f_draftOpen, f_draftFor, f_draftNodes, f_draftCalls, f_treeCount, f_analysed, f_recordValue, f_recordThunks, f_recordNeeds, f_taskTop, f_valueTop, f_frameCount, f_failed, f_thunkCount, f_demanded, a_declared, a_arity, a_size, a_kindAt, a_datumAt, a_childAt, a_treeRoot, a_treeHeight, a_tables, a_marks, a_cellDefined, a_cellValue, a_eager, a_taskKind, a_taskSubject, a_taskFrame, a_valueStack, a_frameDepth, a_slotState, a_slotValue, a_slotNode, a_slotFrame) (nI j) fr := by
  unfold wpX_evaluate
  have e : (nI j).toNatClampNeg = j := nI_clamp (by omega)
  have hi : vp_in (nI j) 80 := vp_in_nI hj (by omega)
  exact ⟨hi, nm_r (e' := 0) (by rw [e]; exact hk) (br_f (by decide) (br_f (by decide) (br_t rfl h)))⟩
theorem xw_ds {fr i : Nat} (hfr : fr < 63) (hi : i < 3) (h : wX_demandSlot_22 Q (nI (3 * fr + i)) f_literalKind f_paramKind f_callKind f_evalTask f_applyTask f_branchTask f_updateTask f_storeTask f_slotAbsent f_slotDelayed f_slotReady f_functionCount f_nodeLimit f_depthLimit f_draftOpen f_draftFor f_draftNodes f_draftCalls f_treeCount f_analysed f_recordValue f_recordThunks f_recordNeeds f_taskTop f_valueTop f_frameCount f_failed f_thunkCount (if fr = 0 then f_demanded ||| ((1 : Int32) <<< (nI i &&& 31)) else f_demanded) a_declared a_arity a_size a_kindAt a_datumAt a_childAt a_treeRoot a_treeHeight a_tables a_marks a_cellDefined a_cellValue a_eager a_taskKind a_taskSubject a_taskFrame a_valueStack a_frameDepth a_slotState a_slotValue a_slotNode a_slotFrame) : wpX_demandSlot Q (f_literalKind, f_paramKind, f_callKind, f_evalTask, f_applyTask, f_branchTask, f_updateTask, f_storeTask, f_slotAbsent, f_slotDelayed, f_slotReady, f_functionCount, f_nodeLimit, f_depthLimit, f_draftOpen, f_draftFor, f_draftNodes, f_draftCalls, f_treeCount, f_analysed, f_recordValue, f_recordThunks, f_recordNeeds, f_taskTop, f_valueTop, f_frameCount, f_failed, f_thunkCount, f_demanded, a_declared, a_arity, a_size, a_kindAt, a_datumAt, a_childAt, a_treeRoot, a_treeHeight, a_tables, a_marks, a_cellDefined, a_cellValue, a_eager, a_taskKind, a_taskSubject, a_taskFrame, a_valueStack, a_frameDepth, a_slotState, a_slotValue, a_slotNode, a_slotFrame) (nI fr) (nI i) := by
  unfold wpX_demandSlot
  refine nm_r (e' := nI (3 * fr + i)) (by rw [sa_m3, nI_add]) ?_
  by_cases h0 : fr = 0
  · rw [if_pos h0] at h
    exact br_t ((sa_eq0 (by omega)).mpr h0) (nm_e h)
  · rw [if_neg h0] at h
    exact br_f (fun z => h0 ((sa_eq0 (by omega)).mp z)) h
theorem xw_d2 {k v : Nat} (hk : k < 189) (hs : a_slotState k = 2) (hv : v < 1024) (h : Q (f_literalKind, f_paramKind, f_callKind, f_evalTask, f_applyTask, f_branchTask, f_updateTask, f_storeTask, f_slotAbsent, f_slotDelayed, f_slotReady, f_functionCount, f_nodeLimit, f_depthLimit, f_draftOpen, f_draftFor, f_draftNodes, f_draftCalls, f_treeCount, f_analysed, f_recordValue, f_recordThunks, f_recordNeeds, f_taskTop, (nI (v + 1)), f_frameCount, f_failed, f_thunkCount, f_demanded, a_declared, a_arity, a_size, a_kindAt, a_datumAt, a_childAt, a_treeRoot, a_treeHeight, a_tables, a_marks, a_cellDefined, a_cellValue, a_eager, a_taskKind, a_taskSubject, a_taskFrame, (upd a_valueStack v (a_slotValue k)), a_frameDepth, a_slotState, a_slotValue, a_slotNode, a_slotFrame)) : wX_demandSlot_22 Q (nI k) f_literalKind f_paramKind f_callKind f_evalTask f_applyTask f_branchTask f_updateTask f_storeTask f_slotAbsent f_slotDelayed f_slotReady f_functionCount f_nodeLimit f_depthLimit f_draftOpen f_draftFor f_draftNodes f_draftCalls f_treeCount f_analysed f_recordValue f_recordThunks f_recordNeeds f_taskTop (nI v) f_frameCount f_failed f_thunkCount f_demanded a_declared a_arity a_size a_kindAt a_datumAt a_childAt a_treeRoot a_treeHeight a_tables a_marks a_cellDefined a_cellValue a_eager a_taskKind a_taskSubject a_taskFrame a_valueStack a_frameDepth a_slotState a_slotValue a_slotNode a_slotFrame := by
  unfold wX_demandSlot_22
  have e : (nI k).toNatClampNeg = k := nI_clamp (by omega)
  have hi : vp_in (nI k) 189 := vp_in_nI hk (by omega)
  refine ⟨hi, br_t (by rw [e]; exact hs) ⟨hi, ?_⟩⟩
  rw [e]
  exact xw_pv hv _ h
theorem xw_d0 {k : Nat} (hk : k < 189) (hs : a_slotState k = 0) (h : Q (f_literalKind, f_paramKind, f_callKind, f_evalTask, f_applyTask, f_branchTask, f_updateTask, f_storeTask, f_slotAbsent, f_slotDelayed, f_slotReady, f_functionCount, f_nodeLimit, f_depthLimit, f_draftOpen, f_draftFor, f_draftNodes, f_draftCalls, f_treeCount, f_analysed, f_recordValue, f_recordThunks, f_recordNeeds, f_taskTop, f_valueTop, f_frameCount, 1, f_thunkCount, f_demanded, a_declared, a_arity, a_size, a_kindAt, a_datumAt, a_childAt, a_treeRoot, a_treeHeight, a_tables, a_marks, a_cellDefined, a_cellValue, a_eager, a_taskKind, a_taskSubject, a_taskFrame, a_valueStack, a_frameDepth, a_slotState, a_slotValue, a_slotNode, a_slotFrame)) : wX_demandSlot_22 Q (nI k) f_literalKind f_paramKind f_callKind f_evalTask f_applyTask f_branchTask f_updateTask f_storeTask f_slotAbsent f_slotDelayed f_slotReady f_functionCount f_nodeLimit f_depthLimit f_draftOpen f_draftFor f_draftNodes f_draftCalls f_treeCount f_analysed f_recordValue f_recordThunks f_recordNeeds f_taskTop f_valueTop f_frameCount f_failed f_thunkCount f_demanded a_declared a_arity a_size a_kindAt a_datumAt a_childAt a_treeRoot a_treeHeight a_tables a_marks a_cellDefined a_cellValue a_eager a_taskKind a_taskSubject a_taskFrame a_valueStack a_frameDepth a_slotState a_slotValue a_slotNode a_slotFrame := by
  unfold wX_demandSlot_22
  have e : (nI k).toNatClampNeg = k := nI_clamp (by omega)
  have hi : vp_in (nI k) 189 := vp_in_nI hk (by omega)
  exact ⟨hi, br_f (by rw [e, hs]; exact i0_2) ⟨hi, br_f (by rw [e, hs]; exact i0_1) h⟩⟩
theorem xw_d1 {k t : Nat} {cc pr : Int32} (hk : k < 189) (hs : a_slotState k = 1) (hn : a_slotNode k = cc) (hf : a_slotFrame k = pr) (ht : t + 1 < 4096)
    (h : Q (f_literalKind, f_paramKind, f_callKind, f_evalTask, f_applyTask, f_branchTask, f_updateTask, f_storeTask, f_slotAbsent, f_slotDelayed, f_slotReady, f_functionCount, f_nodeLimit, f_depthLimit, f_draftOpen, f_draftFor, f_draftNodes, f_draftCalls, f_treeCount, f_analysed, f_recordValue, f_recordThunks, f_recordNeeds, (nI (t + 2)), f_valueTop, f_frameCount, f_failed, f_thunkCount, f_demanded, a_declared, a_arity, a_size, a_kindAt, a_datumAt, a_childAt, a_treeRoot, a_treeHeight, a_tables, a_marks, a_cellDefined, a_cellValue, a_eager, (upd (upd a_taskKind t 3) (t + 1) 0), (upd (upd a_taskSubject t (nI k)) (t + 1) cc), (upd (upd a_taskFrame t 0) (t + 1) pr), a_valueStack, a_frameDepth, a_slotState, a_slotValue, a_slotNode, a_slotFrame)) : wX_demandSlot_22 Q (nI k) f_literalKind f_paramKind f_callKind f_evalTask f_applyTask f_branchTask f_updateTask f_storeTask f_slotAbsent f_slotDelayed f_slotReady f_functionCount f_nodeLimit f_depthLimit f_draftOpen f_draftFor f_draftNodes f_draftCalls f_treeCount f_analysed f_recordValue f_recordThunks f_recordNeeds (nI t) f_valueTop f_frameCount f_failed f_thunkCount f_demanded a_declared a_arity a_size a_kindAt a_datumAt a_childAt a_treeRoot a_treeHeight a_tables a_marks a_cellDefined a_cellValue a_eager a_taskKind a_taskSubject a_taskFrame a_valueStack a_frameDepth a_slotState a_slotValue a_slotNode a_slotFrame := by
  unfold wX_demandSlot_22
  have e : (nI k).toNatClampNeg = k := nI_clamp (by omega)
  have hi : vp_in (nI k) 189 := vp_in_nI hk (by omega)
  refine ⟨hi, br_f (by rw [e, hs]; exact i1_2) ⟨hi, br_t (by rw [e]; exact hs) ?_⟩⟩
  refine xw_pt (by omega) _ _ _ ⟨hi, hi, ?_⟩
  rw [e, hn, hf]
  exact xw_pt (k := t + 1) ht _ _ _ h
theorem xw_e9 {j i fr : Nat} (hj : j < 80) (hk : a_kindAt j = 9) (hd : a_datumAt j = nI i) (hfr : fr < 63) (hi : i < 3) (h : wX_demandSlot_22 Q (nI (3 * fr + i)) f_literalKind f_paramKind f_callKind f_evalTask f_applyTask f_branchTask f_updateTask f_storeTask f_slotAbsent f_slotDelayed f_slotReady f_functionCount f_nodeLimit f_depthLimit f_draftOpen f_draftFor f_draftNodes f_draftCalls f_treeCount f_analysed f_recordValue f_recordThunks f_recordNeeds f_taskTop f_valueTop f_frameCount f_failed f_thunkCount (if fr = 0 then f_demanded ||| ((1 : Int32) <<< (nI i &&& 31)) else f_demanded) a_declared a_arity a_size a_kindAt a_datumAt a_childAt a_treeRoot a_treeHeight a_tables a_marks a_cellDefined a_cellValue a_eager a_taskKind a_taskSubject a_taskFrame a_valueStack a_frameDepth a_slotState a_slotValue a_slotNode a_slotFrame) : wpX_evaluate Q (f_literalKind, f_paramKind, f_callKind, f_evalTask, f_applyTask, f_branchTask, f_updateTask, f_storeTask, f_slotAbsent, f_slotDelayed, f_slotReady, f_functionCount, f_nodeLimit, f_depthLimit, f_draftOpen, f_draftFor, f_draftNodes, f_draftCalls, f_treeCount, f_analysed, f_recordValue, f_recordThunks, f_recordNeeds, f_taskTop, f_valueTop, f_frameCount, f_failed, f_thunkCount, f_demanded, a_declared, a_arity, a_size, a_kindAt, a_datumAt, a_childAt, a_treeRoot, a_treeHeight, a_tables, a_marks, a_cellDefined, a_cellValue, a_eager, a_taskKind, a_taskSubject, a_taskFrame, a_valueStack, a_frameDepth, a_slotState, a_slotValue, a_slotNode, a_slotFrame) (nI j) (nI fr) := by
  unfold wpX_evaluate
  have e : (nI j).toNatClampNeg = j := nI_clamp (by omega)
  have hi' : vp_in (nI j) 80 := vp_in_nI hj (by omega)
  refine ⟨hi', nm_r (e' := 9) (by rw [e]; exact hk) (br_f (by decide) (br_t rfl ⟨hi', ?_⟩))⟩
  rw [e, hd]
  exact xw_ds hfr hi h
theorem xw_e7 {j t : Nat} {c0 fr : Int32} (hj : j < 80) (hk : a_kindAt j = 7) (h0 : a_childAt (3 * j) = c0) (ht : t + 1 < 4096)
    (h : Q (f_literalKind, f_paramKind, f_callKind, f_evalTask, f_applyTask, f_branchTask, f_updateTask, f_storeTask, f_slotAbsent, f_slotDelayed, f_slotReady, f_functionCount, f_nodeLimit, f_depthLimit, f_draftOpen, f_draftFor, f_draftNodes, f_draftCalls, f_treeCount, f_analysed, f_recordValue, f_recordThunks, f_recordNeeds, (nI (t + 2)), f_valueTop, f_frameCount, f_failed, f_thunkCount, f_demanded, a_declared, a_arity, a_size, a_kindAt, a_datumAt, a_childAt, a_treeRoot, a_treeHeight, a_tables, a_marks, a_cellDefined, a_cellValue, a_eager, (upd (upd a_taskKind t 2) (t + 1) 0), (upd (upd a_taskSubject t (nI j)) (t + 1) c0), (upd (upd a_taskFrame t fr) (t + 1) fr), a_valueStack, a_frameDepth, a_slotState, a_slotValue, a_slotNode, a_slotFrame)) : wpX_evaluate Q (f_literalKind, f_paramKind, f_callKind, f_evalTask, f_applyTask, f_branchTask, f_updateTask, f_storeTask, f_slotAbsent, f_slotDelayed, f_slotReady, f_functionCount, f_nodeLimit, f_depthLimit, f_draftOpen, f_draftFor, f_draftNodes, f_draftCalls, f_treeCount, f_analysed, f_recordValue, f_recordThunks, f_recordNeeds, (nI t), f_valueTop, f_frameCount, f_failed, f_thunkCount, f_demanded, a_declared, a_arity, a_size, a_kindAt, a_datumAt, a_childAt, a_treeRoot, a_treeHeight, a_tables, a_marks, a_cellDefined, a_cellValue, a_eager, a_taskKind, a_taskSubject, a_taskFrame, a_valueStack, a_frameDepth, a_slotState, a_slotValue, a_slotNode, a_slotFrame) (nI j) fr := by
  unfold wpX_evaluate
  have e : (nI j).toNatClampNeg = j := nI_clamp (by omega)
  have e3 : (nI j * 3).toNatClampNeg = 3 * j := by rw [sa_m3]; exact nI_clamp (by omega)
  have hi' : vp_in (nI j) 80 := vp_in_nI hj (by omega)
  have hi3 : vp_in (nI j * 3) 240 := by rw [sa_m3]; exact vp_in_nI (by omega) (by omega)
  refine ⟨hi', nm_r (e' := 7) (by rw [e]; exact hk) (br_f (by decide) (br_f (by decide) (br_f (by decide) (br_f (by decide) (br_t rfl ?_)))))⟩
  refine xw_pt (by omega) _ _ _ ⟨hi3, ?_⟩
  rw [e3, h0]
  exact xw_pt (k := t + 1) ht _ _ _ h
theorem xw_eb {j t k : Nat} {c0 c1 fr : Int32} (hj : j < 80) (hk : a_kindAt j = nI k) (hk1 : 1 ≤ k) (hk6 : k ≤ 6) (h0 : a_childAt (3 * j) = c0) (h1 : a_childAt (3 * j + 1) = c1) (ht : t + 2 < 4096)
    (h : Q (f_literalKind, f_paramKind, f_callKind, f_evalTask, f_applyTask, f_branchTask, f_updateTask, f_storeTask, f_slotAbsent, f_slotDelayed, f_slotReady, f_functionCount, f_nodeLimit, f_depthLimit, f_draftOpen, f_draftFor, f_draftNodes, f_draftCalls, f_treeCount, f_analysed, f_recordValue, f_recordThunks, f_recordNeeds, (nI (t + 3)), f_valueTop, f_frameCount, f_failed, f_thunkCount, f_demanded, a_declared, a_arity, a_size, a_kindAt, a_datumAt, a_childAt, a_treeRoot, a_treeHeight, a_tables, a_marks, a_cellDefined, a_cellValue, a_eager, (upd (upd (upd a_taskKind t 1) (t + 1) 0) (t + 2) 0), (upd (upd (upd a_taskSubject t (nI j)) (t + 1) c1) (t + 2) c0), (upd (upd (upd a_taskFrame t fr) (t + 1) fr) (t + 2) fr), a_valueStack, a_frameDepth, a_slotState, a_slotValue, a_slotNode, a_slotFrame)) : wpX_evaluate Q (f_literalKind, f_paramKind, f_callKind, f_evalTask, f_applyTask, f_branchTask, f_updateTask, f_storeTask, f_slotAbsent, f_slotDelayed, f_slotReady, f_functionCount, f_nodeLimit, f_depthLimit, f_draftOpen, f_draftFor, f_draftNodes, f_draftCalls, f_treeCount, f_analysed, f_recordValue, f_recordThunks, f_recordNeeds, (nI t), f_valueTop, f_frameCount, f_failed, f_thunkCount, f_demanded, a_declared, a_arity, a_size, a_kindAt, a_datumAt, a_childAt, a_treeRoot, a_treeHeight, a_tables, a_marks, a_cellDefined, a_cellValue, a_eager, a_taskKind, a_taskSubject, a_taskFrame, a_valueStack, a_frameDepth, a_slotState, a_slotValue, a_slotNode, a_slotFrame) (nI j) fr := by
  unfold wpX_evaluate
  have e : (nI j).toNatClampNeg = j := nI_clamp (by omega)
  have e3 : (nI j * 3).toNatClampNeg = 3 * j := by rw [sa_m3]; exact nI_clamp (by omega)
  have e4 : (nI j * 3 + 1).toNatClampNeg = 3 * j + 1 := by rw [sa_m3, nI_1]; exact nI_clamp (by omega)
  have hi' : vp_in (nI j) 80 := vp_in_nI hj (by omega)
  have hi3 : vp_in (nI j * 3) 240 := by rw [sa_m3]; exact vp_in_nI (by omega) (by omega)
  have hi4 : vp_in (nI j * 3 + 1) 240 := by rw [sa_m3, nI_1]; exact vp_in_nI (by omega) (by omega)
  have d : ∀ l, l < 2 ^ 31 → l ≠ k → ¬ nI k = nI l := fun l hl hne z => hne (((nI_eq (by omega) hl).mp z).symm)
  refine ⟨hi', nm_r (e' := nI k) (by rw [e]; exact hk) (br_f (d 8 (by decide) (by omega)) (br_f (d 9 (by decide) (by omega)) (br_f (d 0 (by decide) (by omega)) (br_f (d 10 (by decide) (by omega)) (br_f (d 7 (by decide) (by omega)) ?_)))))⟩
  refine xw_pt (by omega) _ _ _ ⟨hi4, ?_⟩
  rw [e4, h1]
  refine xw_pt (k := t + 1) (by omega) _ _ _ ⟨hi3, ?_⟩
  rw [e3, h0]
  exact xw_pt (k := t + 2) ht _ _ _ h
/-! the other tasks -/
theorem xw_cb {R : Int32 → Prop} {k : Nat} {x y : Int32} (hk1 : 1 ≤ k) (hk6 : k ≤ 6) (hz : ¬ (nI k = 4 ∧ y = 0)) (h : R (q_cb (nI k) x y)) : wpX_combine R (f_literalKind, f_paramKind, f_callKind, f_evalTask, f_applyTask, f_branchTask, f_updateTask, f_storeTask, f_slotAbsent, f_slotDelayed, f_slotReady, f_functionCount, f_nodeLimit, f_depthLimit, f_draftOpen, f_draftFor, f_draftNodes, f_draftCalls, f_treeCount, f_analysed, f_recordValue, f_recordThunks, f_recordNeeds, f_taskTop, f_valueTop, f_frameCount, f_failed, f_thunkCount, f_demanded, a_declared, a_arity, a_size, a_kindAt, a_datumAt, a_childAt, a_treeRoot, a_treeHeight, a_tables, a_marks, a_cellDefined, a_cellValue, a_eager, a_taskKind, a_taskSubject, a_taskFrame, a_valueStack, a_frameDepth, a_slotState, a_slotValue, a_slotNode, a_slotFrame) (nI k) x y := by
  unfold wpX_combine
  have d : ∀ l, l < 2 ^ 31 → l ≠ k → ¬ nI k = nI l := fun l hl hne z => hne (((nI_eq (by omega) hl).mp z).symm)
  unfold q_cb at h
  by_cases h1 : k = 1
  · subst h1; exact br_t rfl h
  have n1 : ¬ nI k = 1 := d 1 (by decide) (by omega)
  rw [if_neg n1] at h
  refine br_f n1 ?_
  by_cases h2 : k = 2
  · subst h2; exact br_t rfl h
  have n2 : ¬ nI k = 2 := d 2 (by decide) (by omega)
  rw [if_neg n2] at h
  refine br_f n2 ?_
  by_cases h3 : k = 3
  · subst h3; exact br_t rfl h
  have n3 : ¬ nI k = 3 := d 3 (by decide) (by omega)
  rw [if_neg n3] at h
  refine br_f n3 ?_
  by_cases h5 : k = 5
  · subst h5
    rw [if_neg (show ¬ nI 5 = 4 from by decide), if_pos (show nI 5 = 5 from rfl)] at h
    refine br_t rfl ?_
    by_cases hl : y ≤ x
    · rw [if_pos hl] at h; exact br_t hl h
    · rw [if_neg hl] at h; exact br_f hl h
  have n5 : ¬ nI k = 5 := d 5 (by decide) (by omega)
  refine br_f n5 ?_
  by_cases h6 : k = 6
  · subst h6
    rw [if_neg (show ¬ nI 6 = 4 from by decide), if_neg n5, if_pos (show nI 6 = 6 from rfl)] at h
    refine br_t rfl ?_
    by_cases hl : x = y
    · rw [if_pos hl] at h; exact br_t hl h
    · rw [if_neg hl] at h; exact br_f hl h
  have n6 : ¬ nI k = 6 := d 6 (by decide) (by omega)
  refine br_f n6 ?_
  have h4 : k = 4 := by omega
  subst h4
  have hy : ¬ y = 0 := fun z => hz ⟨rfl, z⟩
  rw [if_pos (show nI 4 = 4 from rfl)] at h
  exact br_f hy ⟨hy, h⟩
theorem xw_ap {k v : Nat} {x y : Int32} (hk1 : 1 ≤ k) (hk6 : k ≤ 6) (hz : ¬ (nI k = 4 ∧ y = 0)) (hv : v + 2 ≤ 1024) (hy : a_valueStack (v + 1) = y) (hx : a_valueStack v = x) (h : Q (f_literalKind, f_paramKind, f_callKind, f_evalTask, f_applyTask, f_branchTask, f_updateTask, f_storeTask, f_slotAbsent, f_slotDelayed, f_slotReady, f_functionCount, f_nodeLimit, f_depthLimit, f_draftOpen, f_draftFor, f_draftNodes, f_draftCalls, f_treeCount, f_analysed, f_recordValue, f_recordThunks, f_recordNeeds, f_taskTop, (nI (v + 1)), f_frameCount, f_failed, f_thunkCount, f_demanded, a_declared, a_arity, a_size, a_kindAt, a_datumAt, a_childAt, a_treeRoot, a_treeHeight, a_tables, a_marks, a_cellDefined, a_cellValue, a_eager, a_taskKind, a_taskSubject, a_taskFrame, (upd a_valueStack v (q_cb (nI k) x y)), a_frameDepth, a_slotState, a_slotValue, a_slotNode, a_slotFrame)) : wpX_applyBinary Q (f_literalKind, f_paramKind, f_callKind, f_evalTask, f_applyTask, f_branchTask, f_updateTask, f_storeTask, f_slotAbsent, f_slotDelayed, f_slotReady, f_functionCount, f_nodeLimit, f_depthLimit, f_draftOpen, f_draftFor, f_draftNodes, f_draftCalls, f_treeCount, f_analysed, f_recordValue, f_recordThunks, f_recordNeeds, f_taskTop, (nI (v + 2)), f_frameCount, f_failed, f_thunkCount, f_demanded, a_declared, a_arity, a_size, a_kindAt, a_datumAt, a_childAt, a_treeRoot, a_treeHeight, a_tables, a_marks, a_cellDefined, a_cellValue, a_eager, a_taskKind, a_taskSubject, a_taskFrame, a_valueStack, a_frameDepth, a_slotState, a_slotValue, a_slotNode, a_slotFrame) (nI k) := by
  unfold wpX_applyBinary
  refine xw_pop (k := v + 1) (by omega) ?_
  rw [hy]
  refine xw_pop (k := v) (by omega) ?_
  rw [hx]
  have g : wX_applyBinary_25 Q (nI k) y x f_literalKind f_paramKind f_callKind f_evalTask f_applyTask f_branchTask f_updateTask f_storeTask f_slotAbsent f_slotDelayed f_slotReady f_functionCount f_nodeLimit f_depthLimit f_draftOpen f_draftFor f_draftNodes f_draftCalls f_treeCount f_analysed f_recordValue f_recordThunks f_recordNeeds f_taskTop (nI v) f_frameCount f_failed f_thunkCount f_demanded a_declared a_arity a_size a_kindAt a_datumAt a_childAt a_treeRoot a_treeHeight a_tables a_marks a_cellDefined a_cellValue a_eager a_taskKind a_taskSubject a_taskFrame a_valueStack a_frameDepth a_slotState a_slotValue a_slotNode a_slotFrame := by
    unfold wX_applyBinary_25
    exact xw_cb hk1 hk6 hz (xw_pv (by omega) _ h)
  by_cases h4 : nI k = 4
  · exact br_t h4 (br_f (fun z => hz ⟨h4, z⟩) g)
  · exact br_f h4 g
theorem xw_ap0 {v : Nat} (hv : v + 2 ≤ 1024) (hy : a_valueStack (v + 1) = 0) (h : Q (f_literalKind, f_paramKind, f_callKind, f_evalTask, f_applyTask, f_branchTask, f_updateTask, f_storeTask, f_slotAbsent, f_slotDelayed, f_slotReady, f_functionCount, f_nodeLimit, f_depthLimit, f_draftOpen, f_draftFor, f_draftNodes, f_draftCalls, f_treeCount, f_analysed, f_recordValue, f_recordThunks, f_recordNeeds, f_taskTop, (nI v), f_frameCount, 1, f_thunkCount, f_demanded, a_declared, a_arity, a_size, a_kindAt, a_datumAt, a_childAt, a_treeRoot, a_treeHeight, a_tables, a_marks, a_cellDefined, a_cellValue, a_eager, a_taskKind, a_taskSubject, a_taskFrame, a_valueStack, a_frameDepth, a_slotState, a_slotValue, a_slotNode, a_slotFrame)) : wpX_applyBinary Q (f_literalKind, f_paramKind, f_callKind, f_evalTask, f_applyTask, f_branchTask, f_updateTask, f_storeTask, f_slotAbsent, f_slotDelayed, f_slotReady, f_functionCount, f_nodeLimit, f_depthLimit, f_draftOpen, f_draftFor, f_draftNodes, f_draftCalls, f_treeCount, f_analysed, f_recordValue, f_recordThunks, f_recordNeeds, f_taskTop, (nI (v + 2)), f_frameCount, f_failed, f_thunkCount, f_demanded, a_declared, a_arity, a_size, a_kindAt, a_datumAt, a_childAt, a_treeRoot, a_treeHeight, a_tables, a_marks, a_cellDefined, a_cellValue, a_eager, a_taskKind, a_taskSubject, a_taskFrame, a_valueStack, a_frameDepth, a_slotState, a_slotValue, a_slotNode, a_slotFrame) 4 := by
  unfold wpX_applyBinary
  refine xw_pop (k := v + 1) (by omega) ?_
  rw [hy]
  refine xw_pop (k := v) (by omega) ?_
  exact br_t rfl (br_t rfl h)
theorem xw_br {j v t z : Nat} {x c fr : Int32} (hj : j < 80) (hv : v < 1024) (hx : a_valueStack v = x) (hz : z = if x = 0 then 2 else 1) (hc : a_childAt (3 * j + z) = c) (ht : t < 4096) (h : Q (f_literalKind, f_paramKind, f_callKind, f_evalTask, f_applyTask, f_branchTask, f_updateTask, f_storeTask, f_slotAbsent, f_slotDelayed, f_slotReady, f_functionCount, f_nodeLimit, f_depthLimit, f_draftOpen, f_draftFor, f_draftNodes, f_draftCalls, f_treeCount, f_analysed, f_recordValue, f_recordThunks, f_recordNeeds, (nI (t + 1)), (nI v), f_frameCount, f_failed, f_thunkCount, f_demanded, a_declared, a_arity, a_size, a_kindAt, a_datumAt, a_childAt, a_treeRoot, a_treeHeight, a_tables, a_marks, a_cellDefined, a_cellValue, a_eager, (upd a_taskKind t 0), (upd a_taskSubject t c), (upd a_taskFrame t fr), a_valueStack, a_frameDepth, a_slotState, a_slotValue, a_slotNode, a_slotFrame)) : wpX_takeBranch Q (f_literalKind, f_paramKind, f_callKind, f_evalTask, f_applyTask, f_branchTask, f_updateTask, f_storeTask, f_slotAbsent, f_slotDelayed, f_slotReady, f_functionCount, f_nodeLimit, f_depthLimit, f_draftOpen, f_draftFor, f_draftNodes, f_draftCalls, f_treeCount, f_analysed, f_recordValue, f_recordThunks, f_recordNeeds, (nI t), (nI (v + 1)), f_frameCount, f_failed, f_thunkCount, f_demanded, a_declared, a_arity, a_size, a_kindAt, a_datumAt, a_childAt, a_treeRoot, a_treeHeight, a_tables, a_marks, a_cellDefined, a_cellValue, a_eager, a_taskKind, a_taskSubject, a_taskFrame, a_valueStack, a_frameDepth, a_slotState, a_slotValue, a_slotNode, a_slotFrame) (nI j) fr := by
  unfold wpX_takeBranch
  refine xw_pop (k := v) hv ?_
  rw [hx]
  have g : wX_takeBranch_14 Q (nI j) fr (nI z) f_literalKind f_paramKind f_callKind f_evalTask f_applyTask f_branchTask f_updateTask f_storeTask f_slotAbsent f_slotDelayed f_slotReady f_functionCount f_nodeLimit f_depthLimit f_draftOpen f_draftFor f_draftNodes f_draftCalls f_treeCount f_analysed f_recordValue f_recordThunks f_recordNeeds (nI t) (nI v) f_frameCount f_failed f_thunkCount f_demanded a_declared a_arity a_size a_kindAt a_datumAt a_childAt a_treeRoot a_treeHeight a_tables a_marks a_cellDefined a_cellValue a_eager a_taskKind a_taskSubject a_taskFrame a_valueStack a_frameDepth a_slotState a_slotValue a_slotNode a_slotFrame := by
    unfold wX_takeBranch_14
    have hz2 : z ≤ 2 := by
      rw [hz]
      by_cases x0 : x = 0
      · rw [if_pos x0]; omega
      · rw [if_neg x0]; omega
    have e3 : (nI j * 3 + nI z).toNatClampNeg = 3 * j + z := by rw [sa_m3, nI_add]; exact nI_clamp (by omega)
    have hi3 : vp_in (nI j * 3 + nI z) 240 := by rw [sa_m3, nI_add]; exact vp_in_nI (by omega) (by omega)
    refine ⟨hi3, ?_⟩
    rw [e3, hc]
    exact xw_pt ht _ _ _ h
  by_cases x0 : x = 0
  · rw [if_pos x0] at hz
    subst hz
    exact br_t x0 g
  · rw [if_neg x0] at hz
    subst hz
    exact br_f x0 g
theorem xw_fs1 {k v : Nat} {x : Int32} (hk : k < 189) (hv : v < 1024) (hx : a_valueStack v = x) (h : Q (f_literalKind, f_paramKind, f_callKind, f_evalTask, f_applyTask, f_branchTask, f_updateTask, f_storeTask, f_slotAbsent, f_slotDelayed, f_slotReady, f_functionCount, f_nodeLimit, f_depthLimit, f_draftOpen, f_draftFor, f_draftNodes, f_draftCalls, f_treeCount, f_analysed, f_recordValue, f_recordThunks, f_recordNeeds, f_taskTop, (nI (v + 1)), f_frameCount, f_failed, f_thunkCount, f_demanded, a_declared, a_arity, a_size, a_kindAt, a_datumAt, a_childAt, a_treeRoot, a_treeHeight, a_tables, a_marks, a_cellDefined, a_cellValue, a_eager, a_taskKind, a_taskSubject, a_taskFrame, (upd a_valueStack v x), a_frameDepth, (upd a_slotState k 2), (upd a_slotValue k x), a_slotNode, a_slotFrame)) : wpX_fillSlot Q (f_literalKind, f_paramKind, f_callKind, f_evalTask, f_applyTask, f_branchTask, f_updateTask, f_storeTask, f_slotAbsent, f_slotDelayed, f_slotReady, f_functionCount, f_nodeLimit, f_depthLimit, f_draftOpen, f_draftFor, f_draftNodes, f_draftCalls, f_treeCount, f_analysed, f_recordValue, f_recordThunks, f_recordNeeds, f_taskTop, (nI (v + 1)), f_frameCount, f_failed, f_thunkCount, f_demanded, a_declared, a_arity, a_size, a_kindAt, a_datumAt, a_childAt, a_treeRoot, a_treeHeight, a_tables, a_marks, a_cellDefined, a_cellValue, a_eager, a_taskKind, a_taskSubject, a_taskFrame, a_valueStack, a_frameDepth, a_slotState, a_slotValue, a_slotNode, a_slotFrame) (nI k) 1 := by
  unfold wpX_fillSlot
  have e : (nI k).toNatClampNeg = k := nI_clamp (by omega)
  have hi : vp_in (nI k) 189 := vp_in_nI hk (by omega)
  refine xw_pop (k := v) hv ?_
  rw [hx]
  refine ⟨hi, nm_r (e' := upd a_slotState k 2) (by rw [e]) ⟨hi, nm_r (e' := upd a_slotValue k x) (by rw [e]) (br_f (by decide) ?_)⟩⟩
  exact xw_pv hv _ h
theorem xw_fs0 {k v : Nat} {x : Int32} (hk : k < 189) (hv : v < 1024) (hx : a_valueStack v = x) (h : Q (f_literalKind, f_paramKind, f_callKind, f_evalTask, f_applyTask, f_branchTask, f_updateTask, f_storeTask, f_slotAbsent, f_slotDelayed, f_slotReady, f_functionCount, f_nodeLimit, f_depthLimit, f_draftOpen, f_draftFor, f_draftNodes, f_draftCalls, f_treeCount, f_analysed, f_recordValue, f_recordThunks, f_recordNeeds, f_taskTop, (nI v), f_frameCount, f_failed, f_thunkCount, f_demanded, a_declared, a_arity, a_size, a_kindAt, a_datumAt, a_childAt, a_treeRoot, a_treeHeight, a_tables, a_marks, a_cellDefined, a_cellValue, a_eager, a_taskKind, a_taskSubject, a_taskFrame, a_valueStack, a_frameDepth, (upd a_slotState k 2), (upd a_slotValue k x), a_slotNode, a_slotFrame)) : wpX_fillSlot Q (f_literalKind, f_paramKind, f_callKind, f_evalTask, f_applyTask, f_branchTask, f_updateTask, f_storeTask, f_slotAbsent, f_slotDelayed, f_slotReady, f_functionCount, f_nodeLimit, f_depthLimit, f_draftOpen, f_draftFor, f_draftNodes, f_draftCalls, f_treeCount, f_analysed, f_recordValue, f_recordThunks, f_recordNeeds, f_taskTop, (nI (v + 1)), f_frameCount, f_failed, f_thunkCount, f_demanded, a_declared, a_arity, a_size, a_kindAt, a_datumAt, a_childAt, a_treeRoot, a_treeHeight, a_tables, a_marks, a_cellDefined, a_cellValue, a_eager, a_taskKind, a_taskSubject, a_taskFrame, a_valueStack, a_frameDepth, a_slotState, a_slotValue, a_slotNode, a_slotFrame) (nI k) 0 := by
  unfold wpX_fillSlot
  have e : (nI k).toNatClampNeg = k := nI_clamp (by omega)
  have hi : vp_in (nI k) 189 := vp_in_nI hk (by omega)
  refine xw_pop (k := v) hv ?_
  rw [hx]
  exact ⟨hi, nm_r (e' := upd a_slotState k 2) (by rw [e]) ⟨hi, nm_r (e' := upd a_slotValue k x) (by rw [e]) (br_t rfl h)⟩⟩
end
end
section
/-! X enters a call -/
theorem ca_tl_2 {eg : Nat → Nat → Bool} {h fc fr : Nat} {cn : Nat → Nat} {T0 : List TK} : ∀ n, (ca_tl eg h fc fr cn T0 n).length ≤ T0.length + 2 * n := by
  intro n
  induction n with
  | zero => exact Nat.le_refl _
  | succ n ih =>
    show (if eg h n = true then (0, cn n, fr) :: (4, 3 * fc + n, 0) :: ca_tl eg h fc fr cn T0 n else ca_tl eg h fc fr cn T0 n).length ≤ _
    by_cases e : eg h n = true
    · rw [if_pos e]
      show (ca_tl eg h fc fr cn T0 n).length + 1 + 1 ≤ _
      omega
    · rw [if_neg e]; omega
section
variable {Q : SX → Prop} {f_literalKind f_paramKind f_callKind f_evalTask f_applyTask f_branchTask f_updateTask f_storeTask f_slotAbsent f_slotDelayed f_slotReady f_functionCount f_nodeLimit f_depthLimit f_draftOpen f_draftFor f_draftNodes f_draftCalls f_treeCount f_analysed f_recordValue f_recordThunks f_recordNeeds f_taskTop f_valueTop f_frameCount f_failed f_thunkCount f_demanded : Int32} {a_declared a_arity a_size a_kindAt a_datumAt a_childAt a_treeRoot a_treeHeight a_tables a_marks a_cellDefined a_cellValue a_eager a_taskKind a_taskSubject a_taskFrame a_valueStack a_frameDepth a_slotState a_slotValue a_slotNode a_slotFrame : Nat → Int32}
theorem xw_pa0 {k : Nat} {p1 p2 : Int32} (hk : k < 189) (h : Q (f_literalKind, f_paramKind, f_callKind, f_evalTask, f_applyTask, f_branchTask, f_updateTask, f_storeTask, f_slotAbsent, f_slotDelayed, f_slotReady, f_functionCount, f_nodeLimit, f_depthLimit, f_draftOpen, f_draftFor, f_draftNodes, f_draftCalls, f_treeCount, f_analysed, f_recordValue, f_recordThunks, f_recordNeeds, f_taskTop, f_valueTop, f_frameCount, f_failed, (f_thunkCount + 1), f_demanded, a_declared, a_arity, a_size, a_kindAt, a_datumAt, a_childAt, a_treeRoot, a_treeHeight, a_tables, a_marks, a_cellDefined, a_cellValue, a_eager, a_taskKind, a_taskSubject, a_taskFrame, a_valueStack, a_frameDepth, (upd a_slotState k 1), a_slotValue, (upd a_slotNode k p1), (upd a_slotFrame k p2))) : wpX_passArgument Q (f_literalKind, f_paramKind, f_callKind, f_evalTask, f_applyTask, f_branchTask, f_updateTask, f_storeTask, f_slotAbsent, f_slotDelayed, f_slotReady, f_functionCount, f_nodeLimit, f_depthLimit, f_draftOpen, f_draftFor, f_draftNodes, f_draftCalls, f_treeCount, f_analysed, f_recordValue, f_recordThunks, f_recordNeeds, f_taskTop, f_valueTop, f_frameCount, f_failed, f_thunkCount, f_demanded, a_declared, a_arity, a_size, a_kindAt, a_datumAt, a_childAt, a_treeRoot, a_treeHeight, a_tables, a_marks, a_cellDefined, a_cellValue, a_eager, a_taskKind, a_taskSubject, a_taskFrame, a_valueStack, a_frameDepth, a_slotState, a_slotValue, a_slotNode, a_slotFrame) (nI k) p1 p2 0 := by
  unfold wpX_passArgument
  have e : (nI k).toNatClampNeg = k := nI_clamp (by omega)
  have hi : vp_in (nI k) 189 := vp_in_nI hk (by omega)
  exact br_t rfl ⟨hi, nm_r (e' := upd a_slotState k 1) (by rw [e]) ⟨hi, nm_r (e' := upd a_slotNode k p1) (by rw [e]) ⟨hi, nm_r (e' := upd a_slotFrame k p2) (by rw [e]) (nm_e h)⟩⟩⟩
theorem xw_pa1 {k t : Nat} {p1 p2 : Int32} (hk : k < 189) (ht : t + 1 < 4096) (h : Q (f_literalKind, f_paramKind, f_callKind, f_evalTask, f_applyTask, f_branchTask, f_updateTask, f_storeTask, f_slotAbsent, f_slotDelayed, f_slotReady, f_functionCount, f_nodeLimit, f_depthLimit, f_draftOpen, f_draftFor, f_draftNodes, f_draftCalls, f_treeCount, f_analysed, f_recordValue, f_recordThunks, f_recordNeeds, (nI (t + 2)), f_valueTop, f_frameCount, f_failed, f_thunkCount, f_demanded, a_declared, a_arity, a_size, a_kindAt, a_datumAt, a_childAt, a_treeRoot, a_treeHeight, a_tables, a_marks, a_cellDefined, a_cellValue, a_eager, (upd (upd a_taskKind t 4) (t + 1) 0), (upd (upd a_taskSubject t (nI k)) (t + 1) p1), (upd (upd a_taskFrame t 0) (t + 1) p2), a_valueStack, a_frameDepth, (upd a_slotState k 0), a_slotValue, a_slotNode, a_slotFrame)) : wpX_passArgument Q (f_literalKind, f_paramKind, f_callKind, f_evalTask, f_applyTask, f_branchTask, f_updateTask, f_storeTask, f_slotAbsent, f_slotDelayed, f_slotReady, f_functionCount, f_nodeLimit, f_depthLimit, f_draftOpen, f_draftFor, f_draftNodes, f_draftCalls, f_treeCount, f_analysed, f_recordValue, f_recordThunks, f_recordNeeds, (nI t), f_valueTop, f_frameCount, f_failed, f_thunkCount, f_demanded, a_declared, a_arity, a_size, a_kindAt, a_datumAt, a_childAt, a_treeRoot, a_treeHeight, a_tables, a_marks, a_cellDefined, a_cellValue, a_eager, a_taskKind, a_taskSubject, a_taskFrame, a_valueStack, a_frameDepth, a_slotState, a_slotValue, a_slotNode, a_slotFrame) (nI k) p1 p2 1 := by
  unfold wpX_passArgument
  have e : (nI k).toNatClampNeg = k := nI_clamp (by omega)
  have hi : vp_in (nI k) 189 := vp_in_nI hk (by omega)
  refine br_f (by decide) ⟨hi, nm_r (e' := upd a_slotState k 0) (by rw [e]) ?_⟩
  refine xw_pt (by omega) _ _ _ ?_
  exact xw_pt (k := t + 1) ht _ _ _ h
theorem xw_el {eg : Nat → Nat → Bool} {j fr h fc n tc : Nat} {cn : Nat → Nat} {T0 : List TK} {ss sn sf : Nat → Int32} (hh : h < 4) (hj : j < 64) (hfc : fc < 63) (hn : n ≤ 3) (har : a_arity h = nI n) (heg : ∀ i, i < n → bt (a_eager h) i = eg h i) (hch : ∀ i, i < n → a_childAt (3 * j + i) = nI (cn i)) (hT : T0.length + 6 ≤ 4096)
    (K : ∀ tk ts tf, rp_T tk ts tf (ca_tl eg h fc fr cn T0 n) → Q (f_literalKind, f_paramKind, f_callKind, f_evalTask, f_applyTask, f_branchTask, f_updateTask, f_storeTask, f_slotAbsent, f_slotDelayed, f_slotReady, f_functionCount, f_nodeLimit, f_depthLimit, f_draftOpen, f_draftFor, f_draftNodes, f_draftCalls, f_treeCount, f_analysed, f_recordValue, f_recordThunks, f_recordNeeds, (nI (ca_tl eg h fc fr cn T0 n).length), f_valueTop, f_frameCount, f_failed, (nI (tc + su (fun i => if eg h i = true then 0 else 1) n)), f_demanded, a_declared, a_arity, a_size, a_kindAt, a_datumAt, a_childAt, a_treeRoot, a_treeHeight, a_tables, a_marks, a_cellDefined, a_cellValue, a_eager, tk, ts, tf, a_valueStack, a_frameDepth, (ca_ss eg h fc ss n), a_slotValue, (ca_sn eg h fc cn sn n), (ca_sn eg h fc (fun _ => fr) sf n))) :
    ∀ m i, i + m = n → ∀ tk ts tf, rp_T tk ts tf (ca_tl eg h fc fr cn T0 i) → wX_enterCall_94 Q (nI j) (nI fr) (nI h) (nI fc) (m + 1) (nI i) f_literalKind f_paramKind f_callKind f_evalTask f_applyTask f_branchTask f_updateTask f_storeTask f_slotAbsent f_slotDelayed f_slotReady f_functionCount f_nodeLimit f_depthLimit f_draftOpen f_draftFor f_draftNodes f_draftCalls f_treeCount f_analysed f_recordValue f_recordThunks f_recordNeeds (nI (ca_tl eg h fc fr cn T0 i).length) f_valueTop f_frameCount f_failed (nI (tc + su (fun i => if eg h i = true then 0 else 1) i)) f_demanded a_declared a_arity a_size a_kindAt a_datumAt a_childAt a_treeRoot a_treeHeight a_tables a_marks a_cellDefined a_cellValue a_eager tk ts tf a_valueStack a_frameDepth (ca_ss eg h fc ss i) a_slotValue (ca_sn eg h fc cn sn i) (ca_sn eg h fc (fun _ => fr) sf i) := by
  intro m
  have eh : (nI h).toNatClampNeg = h := nI_clamp (by omega)
  have hi4 : vp_in (nI h) 4 := vp_in_nI hh (by omega)
  induction m with
  | zero =>
    intro i hi tk ts tf hr
    have : i = n := by omega
    subst this
    refine ⟨hi4, br_t ?_ (K tk ts tf hr)⟩
    rw [eh, har]
    exact nI_le (Nat.le_refl _) (by omega)
  | succ m ih =>
    intro i hi tk ts tf hr
    have hl := ca_tl_2 (eg := eg) (h := h) (fc := fc) (fr := fr) (cn := cn) (T0 := T0) i
    have e3 : (nI j * 3 + nI i).toNatClampNeg = 3 * j + i := by rw [sa_m3, nI_add]; exact nI_clamp (by omega)
    have hi3 : vp_in (nI j * 3 + nI i) 240 := by rw [sa_m3, nI_add]; exact vp_in_nI (by omega) (by omega)
    have e5 : nI fc * 3 + nI i = nI (3 * fc + i) := by rw [sa_m3, nI_add]
    refine ⟨hi4, br_f ?_ ⟨hi4, ?_⟩⟩
    · rw [eh, har]
      exact nI_ge (by omega) (by omega)
    have eb := heg i (by omega)
    have ih' := ih (i + 1) (by omega)
    have t1 : ca_tl eg h fc fr cn T0 (i + 1) = if eg h i = true then (0, cn i, fr) :: (4, 3 * fc + i, 0) :: ca_tl eg h fc fr cn T0 i else ca_tl eg h fc fr cn T0 i := rfl
    have t2 : ca_ss eg h fc ss (i + 1) = upd (ca_ss eg h fc ss i) (3 * fc + i) (if eg h i = true then 0 else 1) := rfl
    have t3 : ∀ cn' sn', ca_sn eg h fc cn' sn' (i + 1) = if eg h i = true then ca_sn eg h fc cn' sn' i else upd (ca_sn eg h fc cn' sn' i) (3 * fc + i) (nI (cn' i)) := fun _ _ => rfl
    have t4 : su (fun i => if eg h i = true then 0 else 1) (i + 1) = su (fun i => if eg h i = true then 0 else 1) i + (if eg h i = true then 0 else 1) := rfl
    rw [t1, t2, t3, t3, t4] at ih'
    cases ee : eg h i
    · rw [ee, if_neg (by decide)] at ih'
      refine br_t ?_ ?_
      · rw [eh, sa_bz _ (by omega), eb]; exact ee
      · refine ⟨hi3, ?_⟩
        rw [e5, e3, hch i (by omega)]
        refine xw_pa0 (by omega) (nm_r (nI_1 i) ?_)
        rw [nI_1]
        exact ih' tk ts tf hr
    · rw [ee, if_pos rfl] at ih'
      refine br_f ?_ ?_
      · rw [eh, sa_bz _ (by omega), eb, ee]; decide
      · refine ⟨hi3, ?_⟩
        rw [e5, e3, hch i (by omega)]
        refine xw_pa1 (by omega) (by omega) (nm_r (nI_1 i) ?_)
        exact ih' _ _ _ (rp_p (rp_p hr))
theorem xw_e10 {eg : Nat → Nat → Bool} {j fr h d fc n tc z : Nat} {cn : Nat → Nat} {T : List TK} (hh : h < 4) (hj : j < 64) (hfr : fr < 63) (hfc : fc < 63) (hn : n ≤ 3) (hk : a_kindAt j = 10) (hd : a_datumAt j = nI h) (hfd : a_frameDepth fr = nI d) (hd2 : 2 ≤ d) (hd6 : d ≤ 6) (hz : a_size h = nI z) (hz0 : 0 < z) (hz16 : z ≤ 16) (har : a_arity h = nI n) (heg : ∀ i, i < n → bt (a_eager h) i = eg h i) (hch : ∀ i, i < n → a_childAt (3 * j + i) = nI (cn i)) (hT : T.length + 7 ≤ 4096) (hr : rp_T a_taskKind a_taskSubject a_taskFrame T)
    (K : ∀ tk ts tf, rp_T tk ts tf (ca_tl eg h fc fr cn ((0, 16 * h + (z - 1), fc) :: T) n) → Q (f_literalKind, f_paramKind, f_callKind, f_evalTask, f_applyTask, f_branchTask, f_updateTask, f_storeTask, f_slotAbsent, f_slotDelayed, f_slotReady, f_functionCount, f_nodeLimit, f_depthLimit, f_draftOpen, f_draftFor, f_draftNodes, f_draftCalls, f_treeCount, f_analysed, f_recordValue, f_recordThunks, f_recordNeeds, (nI (ca_tl eg h fc fr cn ((0, 16 * h + (z - 1), fc) :: T) n).length), f_valueTop, (nI (fc + 1)), f_failed, (nI (tc + su (fun i => if eg h i = true then 0 else 1) n)), f_demanded, a_declared, a_arity, a_size, a_kindAt, a_datumAt, a_childAt, a_treeRoot, a_treeHeight, a_tables, a_marks, a_cellDefined, a_cellValue, a_eager, tk, ts, tf, a_valueStack, (upd a_frameDepth fc (nI (d - 1))), (ca_ss eg h fc a_slotState n), a_slotValue, (ca_sn eg h fc cn a_slotNode n), (ca_sn eg h fc (fun _ => fr) a_slotFrame n))) :
    wpX_evaluate Q (f_literalKind, f_paramKind, f_callKind, f_evalTask, f_applyTask, f_branchTask, f_updateTask, f_storeTask, f_slotAbsent, f_slotDelayed, f_slotReady, f_functionCount, f_nodeLimit, f_depthLimit, f_draftOpen, f_draftFor, f_draftNodes, f_draftCalls, f_treeCount, f_analysed, f_recordValue, f_recordThunks, f_recordNeeds, (nI T.length), f_valueTop, (nI fc), f_failed, (nI tc), f_demanded, a_declared, a_arity, a_size, a_kindAt, a_datumAt, a_childAt, a_treeRoot, a_treeHeight, a_tables, a_marks, a_cellDefined, a_cellValue, a_eager, a_taskKind, a_taskSubject, a_taskFrame, a_valueStack, a_frameDepth, a_slotState, a_slotValue, a_slotNode, a_slotFrame) (nI j) (nI fr) := by
  unfold wpX_evaluate
  have e : (nI j).toNatClampNeg = j := nI_clamp (by omega)
  have hi' : vp_in (nI j) 80 := vp_in_nI (by omega) (by omega)
  refine ⟨hi', nm_r (e' := 10) (by rw [e]; exact hk) (br_f (by decide) (br_f (by decide) (br_f (by decide) (br_t rfl ?_))))⟩
  unfold wpX_enterCall
  have eh : (nI h).toNatClampNeg = h := nI_clamp (by omega)
  have ef : (nI fr).toNatClampNeg = fr := nI_clamp (by omega)
  have ec : (nI fc).toNatClampNeg = fc := nI_clamp (by omega)
  have hi4 : vp_in (nI h) 4 := vp_in_nI hh (by omega)
  refine ⟨hi', nm_r (e' := nI h) (by rw [e]; exact hd) ⟨vp_in_nI hfr (by omega), nm_r (e' := nI (d - 1)) (by rw [ef, hfd]; exact sa_s (by omega)) (br_f (nI_nle (by omega) (by omega)) ⟨hi4, br_f ?_ (br_t (nI_lt (b := 63) hfc (by decide)) (nm_r (nI_1 fc) ⟨vp_in_nI hfc (by omega), nm_r (e' := upd a_frameDepth fc (nI (d - 1))) (by rw [ec]) ⟨hi4, ?_⟩⟩))⟩)⟩⟩
  · rw [eh, hz]
    exact nI_ne0 hz0 (by omega)
  · rw [eh, hz, sa_m16, nI_add, sa_s (by omega)]
    have ez : 16 * h + z - 1 = 16 * h + (z - 1) := by omega
    rw [ez]
    refine xw_pt (by omega) _ _ _ ⟨n + 1, ?_⟩
    exact xw_el hh hj hfc hn har heg hch (by show T.length + 1 + 6 ≤ 4096; omega) K n 0 (by omega) _ _ _ (rp_p hr)
theorem xw_ef {j fr h d z : Nat} (hh : h < 4) (hj : j < 64) (hfr : fr < 63) (hk : a_kindAt j = 10) (hd : a_datumAt j = nI h) (hfd : a_frameDepth fr = nI d) (hd1 : 1 ≤ d) (hd6 : d ≤ 6) (hz : a_size h = nI z) (hz16 : z ≤ 16) (hc : d = 1 ∨ z = 0) (K : Q (f_literalKind, f_paramKind, f_callKind, f_evalTask, f_applyTask, f_branchTask, f_updateTask, f_storeTask, f_slotAbsent, f_slotDelayed, f_slotReady, f_functionCount, f_nodeLimit, f_depthLimit, f_draftOpen, f_draftFor, f_draftNodes, f_draftCalls, f_treeCount, f_analysed, f_recordValue, f_recordThunks, f_recordNeeds, f_taskTop, f_valueTop, f_frameCount, 1, f_thunkCount, f_demanded, a_declared, a_arity, a_size, a_kindAt, a_datumAt, a_childAt, a_treeRoot, a_treeHeight, a_tables, a_marks, a_cellDefined, a_cellValue, a_eager, a_taskKind, a_taskSubject, a_taskFrame, a_valueStack, a_frameDepth, a_slotState, a_slotValue, a_slotNode, a_slotFrame)) : wpX_evaluate Q (f_literalKind, f_paramKind, f_callKind, f_evalTask, f_applyTask, f_branchTask, f_updateTask, f_storeTask, f_slotAbsent, f_slotDelayed, f_slotReady, f_functionCount, f_nodeLimit, f_depthLimit, f_draftOpen, f_draftFor, f_draftNodes, f_draftCalls, f_treeCount, f_analysed, f_recordValue, f_recordThunks, f_recordNeeds, f_taskTop, f_valueTop, f_frameCount, f_failed, f_thunkCount, f_demanded, a_declared, a_arity, a_size, a_kindAt, a_datumAt, a_childAt, a_treeRoot, a_treeHeight, a_tables, a_marks, a_cellDefined, a_cellValue, a_eager, a_taskKind, a_taskSubject, a_taskFrame, a_valueStack, a_frameDepth, a_slotState, a_slotValue, a_slotNode, a_slotFrame) (nI j) (nI fr) := by
  unfold wpX_evaluate
  have e : (nI j).toNatClampNeg = j := nI_clamp (by omega)
  have hi' : vp_in (nI j) 80 := vp_in_nI (by omega) (by omega)
  refine ⟨hi', nm_r (e' := 10) (by rw [e]; exact hk) (br_f (by decide) (br_f (by decide) (br_f (by decide) (br_t rfl ?_))))⟩
  unfold wpX_enterCall
  have eh : (nI h).toNatClampNeg = h := nI_clamp (by omega)
  have ef : (nI fr).toNatClampNeg = fr := nI_clamp (by omega)
  have hi4 : vp_in (nI h) 4 := vp_in_nI hh (by omega)
  refine ⟨hi', nm_r (e' := nI h) (by rw [e]; exact hd) ⟨vp_in_nI hfr (by omega), nm_r (e' := nI (d - 1)) (by rw [ef, hfd]; exact sa_s (by omega)) ?_⟩⟩
  by_cases h1 : d = 1
  · subst h1
    exact br_t (by decide) K
  · refine br_f (nI_nle (by omega) (by omega)) ⟨hi4, br_t ?_ K⟩
    have : z = 0 := by omega
    rw [eh, hz, this]
    rfl
end
end
section
/-! X's machine obeys the rules -/
section
variable (Q : SX → Prop) (f_literalKind f_paramKind f_callKind f_evalTask f_applyTask f_branchTask f_updateTask f_storeTask f_slotAbsent f_slotDelayed f_slotReady f_functionCount f_nodeLimit f_depthLimit f_draftOpen f_draftFor f_draftNodes f_draftCalls f_treeCount f_analysed f_recordValue f_recordThunks f_recordNeeds : Int32) (a_declared a_arity a_size a_kindAt a_datumAt a_childAt a_treeRoot a_treeHeight a_tables a_marks a_cellDefined a_cellValue a_eager : Nat → Int32)
def xr_R (s : HS) (T : List TK) (V : List Int32) : Prop := ∀ n tk ts tf vs, 4097 ≤ n + h_x s → T.length ≤ 4096 → V.length ≤ 1024 → rp_T tk ts tf T → rp_V vs V →
  wX_runMachine_2 Q n (nI (h_x s)) f_literalKind f_paramKind f_callKind f_evalTask f_applyTask f_branchTask f_updateTask f_storeTask f_slotAbsent f_slotDelayed f_slotReady f_functionCount f_nodeLimit f_depthLimit f_draftOpen f_draftFor f_draftNodes f_draftCalls f_treeCount f_analysed f_recordValue f_recordThunks f_recordNeeds (nI (T).length) (nI (V).length) (nI (h_fc s)) 0 (nI (h_tc s)) (h_dm s) a_declared a_arity a_size a_kindAt a_datumAt a_childAt a_treeRoot a_treeHeight a_tables a_marks a_cellDefined a_cellValue a_eager tk ts tf vs (h_fd s) (h_ss s) (h_sv s) (h_sn s) (h_sf s)
def xr_F : Prop := ∀ (f_taskTop f_valueTop f_frameCount f_thunkCount f_demanded : Int32) (a_taskKind a_taskSubject a_taskFrame a_valueStack a_frameDepth a_slotState a_slotValue a_slotNode a_slotFrame : Nat → Int32), Q (f_literalKind, f_paramKind, f_callKind, f_evalTask, f_applyTask, f_branchTask, f_updateTask, f_storeTask, f_slotAbsent, f_slotDelayed, f_slotReady, f_functionCount, f_nodeLimit, f_depthLimit, f_draftOpen, f_draftFor, f_draftNodes, f_draftCalls, f_treeCount, f_analysed, f_recordValue, f_recordThunks, f_recordNeeds, f_taskTop, f_valueTop, f_frameCount, 1, f_thunkCount, f_demanded, a_declared, a_arity, a_size, a_kindAt, a_datumAt, a_childAt, a_treeRoot, a_treeHeight, a_tables, a_marks, a_cellDefined, a_cellValue, a_eager, a_taskKind, a_taskSubject, a_taskFrame, a_valueStack, a_frameDepth, a_slotState, a_slotValue, a_slotNode, a_slotFrame)
end
section
variable {Q : SX → Prop} {f_literalKind f_paramKind f_callKind f_evalTask f_applyTask f_branchTask f_updateTask f_storeTask f_slotAbsent f_slotDelayed f_slotReady f_functionCount f_nodeLimit f_depthLimit f_draftOpen f_draftFor f_draftNodes f_draftCalls f_treeCount f_analysed f_recordValue f_recordThunks f_recordNeeds f_taskTop f_valueTop f_frameCount f_failed f_thunkCount f_demanded : Int32} {a_declared a_arity a_size a_kindAt a_datumAt a_childAt a_treeRoot a_treeHeight a_tables a_marks a_cellDefined a_cellValue a_eager a_taskKind a_taskSubject a_taskFrame a_valueStack a_frameDepth a_slotState a_slotValue a_slotNode a_slotFrame : Nat → Int32}
theorem xr_st {n x k : Nat} (hx : x < 4096) (hk : k < 4096)
    (K : ∀ P : SX → Prop, (∀ (f_literalKind' f_paramKind' f_callKind' f_evalTask' f_applyTask' f_branchTask' f_updateTask' f_storeTask' f_slotAbsent' f_slotDelayed' f_slotReady' f_functionCount' f_nodeLimit' f_depthLimit' f_draftOpen' f_draftFor' f_draftNodes' f_draftCalls' f_treeCount' f_analysed' f_recordValue' f_recordThunks' f_recordNeeds' f_taskTop' f_valueTop' f_frameCount' f_failed' f_thunkCount' f_demanded' : Int32) (a_declared' a_arity' a_size' a_kindAt' a_datumAt' a_childAt' a_treeRoot' a_treeHeight' a_tables' a_marks' a_cellDefined' a_cellValue' a_eager' a_taskKind' a_taskSubject' a_taskFrame' a_valueStack' a_frameDepth' a_slotState' a_slotValue' a_slotNode' a_slotFrame' : Nat → Int32), wX_runMachine_2 Q n (nI (x + 1)) f_literalKind' f_paramKind' f_callKind' f_evalTask' f_applyTask' f_branchTask' f_updateTask' f_storeTask' f_slotAbsent' f_slotDelayed' f_slotReady' f_functionCount' f_nodeLimit' f_depthLimit' f_draftOpen' f_draftFor' f_draftNodes' f_draftCalls' f_treeCount' f_analysed' f_recordValue' f_recordThunks' f_recordNeeds' f_taskTop' f_valueTop' f_frameCount' f_failed' f_thunkCount' f_demanded' a_declared' a_arity' a_size' a_kindAt' a_datumAt' a_childAt' a_treeRoot' a_treeHeight' a_tables' a_marks' a_cellDefined' a_cellValue' a_eager' a_taskKind' a_taskSubject' a_taskFrame' a_valueStack' a_frameDepth' a_slotState' a_slotValue' a_slotNode' a_slotFrame' → P (f_literalKind', f_paramKind', f_callKind', f_evalTask', f_applyTask', f_branchTask', f_updateTask', f_storeTask', f_slotAbsent', f_slotDelayed', f_slotReady', f_functionCount', f_nodeLimit', f_depthLimit', f_draftOpen', f_draftFor', f_draftNodes', f_draftCalls', f_treeCount', f_analysed', f_recordValue', f_recordThunks', f_recordNeeds', f_taskTop', f_valueTop', f_frameCount', f_failed', f_thunkCount', f_demanded', a_declared', a_arity', a_size', a_kindAt', a_datumAt', a_childAt', a_treeRoot', a_treeHeight', a_tables', a_marks', a_cellDefined', a_cellValue', a_eager', a_taskKind', a_taskSubject', a_taskFrame', a_valueStack', a_frameDepth', a_slotState', a_slotValue', a_slotNode', a_slotFrame')) → wpX_perform P (f_literalKind, f_paramKind, f_callKind, f_evalTask, f_applyTask, f_branchTask, f_updateTask, f_storeTask, f_slotAbsent, f_slotDelayed, f_slotReady, f_functionCount, f_nodeLimit, f_depthLimit, f_draftOpen, f_draftFor, f_draftNodes, f_draftCalls, f_treeCount, f_analysed, f_recordValue, f_recordThunks, f_recordNeeds, (nI k), f_valueTop, f_frameCount, 0, f_thunkCount, f_demanded, a_declared, a_arity, a_size, a_kindAt, a_datumAt, a_childAt, a_treeRoot, a_treeHeight, a_tables, a_marks, a_cellDefined, a_cellValue, a_eager, a_taskKind, a_taskSubject, a_taskFrame, a_valueStack, a_frameDepth, a_slotState, a_slotValue, a_slotNode, a_slotFrame) (a_taskKind k) (a_taskSubject k) (a_taskFrame k)) :
    wX_runMachine_2 Q (n + 1) (nI x) f_literalKind f_paramKind f_callKind f_evalTask f_applyTask f_branchTask f_updateTask f_storeTask f_slotAbsent f_slotDelayed f_slotReady f_functionCount f_nodeLimit f_depthLimit f_draftOpen f_draftFor f_draftNodes f_draftCalls f_treeCount f_analysed f_recordValue f_recordThunks f_recordNeeds (nI (k + 1)) f_valueTop f_frameCount 0 f_thunkCount f_demanded a_declared a_arity a_size a_kindAt a_datumAt a_childAt a_treeRoot a_treeHeight a_tables a_marks a_cellDefined a_cellValue a_eager a_taskKind a_taskSubject a_taskFrame a_valueStack a_frameDepth a_slotState a_slotValue a_slotNode a_slotFrame := by
  have e : (nI k).toNatClampNeg = k := nI_clamp (by omega)
  have hi : vp_in (nI k) 4096 := vp_in_nI hk (by omega)
  refine br_f (nI_ge (b := 4096) hx (by decide)) (br_f (nI_nle (by omega) (by omega)) (br_t rfl (nm_r (nI_pred k) ⟨hi, hi, hi, ?_⟩)))
  rw [e]
  refine K _ ?_
  intro f_literalKind' f_paramKind' f_callKind' f_evalTask' f_applyTask' f_branchTask' f_updateTask' f_storeTask' f_slotAbsent' f_slotDelayed' f_slotReady' f_functionCount' f_nodeLimit' f_depthLimit' f_draftOpen' f_draftFor' f_draftNodes' f_draftCalls' f_treeCount' f_analysed' f_recordValue' f_recordThunks' f_recordNeeds' f_taskTop' f_valueTop' f_frameCount' f_failed' f_thunkCount' f_demanded' a_declared' a_arity' a_size' a_kindAt' a_datumAt' a_childAt' a_treeRoot' a_treeHeight' a_tables' a_marks' a_cellDefined' a_cellValue' a_eager' a_taskKind' a_taskSubject' a_taskFrame' a_valueStack' a_frameDepth' a_slotState' a_slotValue' a_slotNode' a_slotFrame' h
  exact nm_r (nI_1 x) h
/-- a failed machine stops -/
theorem xr_f {n x : Nat} (hx : x ≤ 4096) (h : Q (f_literalKind, f_paramKind, f_callKind, f_evalTask, f_applyTask, f_branchTask, f_updateTask, f_storeTask, f_slotAbsent, f_slotDelayed, f_slotReady, f_functionCount, f_nodeLimit, f_depthLimit, f_draftOpen, f_draftFor, f_draftNodes, f_draftCalls, f_treeCount, f_analysed, f_recordValue, f_recordThunks, f_recordNeeds, f_taskTop, f_valueTop, f_frameCount, 1, f_thunkCount, f_demanded, a_declared, a_arity, a_size, a_kindAt, a_datumAt, a_childAt, a_treeRoot, a_treeHeight, a_tables, a_marks, a_cellDefined, a_cellValue, a_eager, a_taskKind, a_taskSubject, a_taskFrame, a_valueStack, a_frameDepth, a_slotState, a_slotValue, a_slotNode, a_slotFrame)) : wX_runMachine_2 Q (n + 1) (nI x) f_literalKind f_paramKind f_callKind f_evalTask f_applyTask f_branchTask f_updateTask f_storeTask f_slotAbsent f_slotDelayed f_slotReady f_functionCount f_nodeLimit f_depthLimit f_draftOpen f_draftFor f_draftNodes f_draftCalls f_treeCount f_analysed f_recordValue f_recordThunks f_recordNeeds f_taskTop f_valueTop f_frameCount 1 f_thunkCount f_demanded a_declared a_arity a_size a_kindAt a_datumAt a_childAt a_treeRoot a_treeHeight a_tables a_marks a_cellDefined a_cellValue a_eager a_taskKind a_taskSubject a_taskFrame a_valueStack a_frameDepth a_slotState a_slotValue a_slotNode a_slotFrame := by
  by_cases h1 : (4096 : Int32) ≤ nI x
  · exact br_t h1 h
  · refine br_f h1 ?_
    by_cases h2 : f_taskTop ≤ 0
    · exact br_t h2 h
    · exact br_f h2 (br_f (by decide) h)
end
section
variable {Q : SX → Prop} {f_literalKind f_paramKind f_callKind f_evalTask f_applyTask f_branchTask f_updateTask f_storeTask f_slotAbsent f_slotDelayed f_slotReady f_functionCount f_nodeLimit f_depthLimit f_draftOpen f_draftFor f_draftNodes f_draftCalls f_treeCount f_analysed f_recordValue f_recordThunks f_recordNeeds f_taskTop f_valueTop f_frameCount f_failed f_thunkCount f_demanded : Int32} {a_declared a_arity a_size a_kindAt a_datumAt a_childAt a_treeRoot a_treeHeight a_tables a_marks a_cellDefined a_cellValue a_eager a_taskKind a_taskSubject a_taskFrame a_valueStack a_frameDepth a_slotState a_slotValue a_slotNode a_slotFrame : Nat → Int32} {sz ar : Nat → Nat} {eg : Nat → Nat → Bool} {cn : Nat → Nat → Nat}
/-- what the walks ask of X's program arrays -/
def xr_ok (a_arity a_size a_kindAt a_datumAt a_childAt a_eager : Nat → Int32) (ar sz : Nat → Nat) (eg : Nat → Nat → Bool) (cn : Nat → Nat → Nat) : Prop :=
  (∀ h, h < 4 → ar h ≤ 3 ∧ a_arity h = nI (ar h) ∧ a_size h = nI (sz h) ∧ sz h ≤ 16 ∧ ∀ i, i < ar h → bt (a_eager h) i = eg h i)
  ∧ ∀ j, vn sz j → ∀ i, i < q_on a_kindAt a_datumAt ar j → a_childAt (3 * j + i) = nI (cn j i)
theorem xr_fin {s : HS} {t0 t1 t2 : Nat} {T : List TK} {V : List Int32} (hx : h_x s < 4096)
    (K : ∀ (P : SX → Prop) tk ts tf vs (m : Nat), rp_T tk ts tf ((t0, t1, t2) :: T) → rp_V vs V → T.length < 4096 → V.length ≤ 1024 → 4097 ≤ m + (h_x s + 1) →
      (∀ (f_literalKind' f_paramKind' f_callKind' f_evalTask' f_applyTask' f_branchTask' f_updateTask' f_storeTask' f_slotAbsent' f_slotDelayed' f_slotReady' f_functionCount' f_nodeLimit' f_depthLimit' f_draftOpen' f_draftFor' f_draftNodes' f_draftCalls' f_treeCount' f_analysed' f_recordValue' f_recordThunks' f_recordNeeds' f_taskTop' f_valueTop' f_frameCount' f_failed' f_thunkCount' f_demanded' : Int32) (a_declared' a_arity' a_size' a_kindAt' a_datumAt' a_childAt' a_treeRoot' a_treeHeight' a_tables' a_marks' a_cellDefined' a_cellValue' a_eager' a_taskKind' a_taskSubject' a_taskFrame' a_valueStack' a_frameDepth' a_slotState' a_slotValue' a_slotNode' a_slotFrame' : Nat → Int32), wX_runMachine_2 Q m (nI (h_x s + 1)) f_literalKind' f_paramKind' f_callKind' f_evalTask' f_applyTask' f_branchTask' f_updateTask' f_storeTask' f_slotAbsent' f_slotDelayed' f_slotReady' f_functionCount' f_nodeLimit' f_depthLimit' f_draftOpen' f_draftFor' f_draftNodes' f_draftCalls' f_treeCount' f_analysed' f_recordValue' f_recordThunks' f_recordNeeds' f_taskTop' f_valueTop' f_frameCount' f_failed' f_thunkCount' f_demanded' a_declared' a_arity' a_size' a_kindAt' a_datumAt' a_childAt' a_treeRoot' a_treeHeight' a_tables' a_marks' a_cellDefined' a_cellValue' a_eager' a_taskKind' a_taskSubject' a_taskFrame' a_valueStack' a_frameDepth' a_slotState' a_slotValue' a_slotNode' a_slotFrame' → P (f_literalKind', f_paramKind', f_callKind', f_evalTask', f_applyTask', f_branchTask', f_updateTask', f_storeTask', f_slotAbsent', f_slotDelayed', f_slotReady', f_functionCount', f_nodeLimit', f_depthLimit', f_draftOpen', f_draftFor', f_draftNodes', f_draftCalls', f_treeCount', f_analysed', f_recordValue', f_recordThunks', f_recordNeeds', f_taskTop', f_valueTop', f_frameCount', f_failed', f_thunkCount', f_demanded', a_declared', a_arity', a_size', a_kindAt', a_datumAt', a_childAt', a_treeRoot', a_treeHeight', a_tables', a_marks', a_cellDefined', a_cellValue', a_eager', a_taskKind', a_taskSubject', a_taskFrame', a_valueStack', a_frameDepth', a_slotState', a_slotValue', a_slotNode', a_slotFrame')) →
      wpX_perform P (f_literalKind, f_paramKind, f_callKind, f_evalTask, f_applyTask, f_branchTask, f_updateTask, f_storeTask, f_slotAbsent, f_slotDelayed, f_slotReady, f_functionCount, f_nodeLimit, f_depthLimit, f_draftOpen, f_draftFor, f_draftNodes, f_draftCalls, f_treeCount, f_analysed, f_recordValue, f_recordThunks, f_recordNeeds, (nI (T).length), (nI (V).length), (nI (h_fc s)), 0, (nI (h_tc s)), (h_dm s), a_declared, a_arity, a_size, a_kindAt, a_datumAt, a_childAt, a_treeRoot, a_treeHeight, a_tables, a_marks, a_cellDefined, a_cellValue, a_eager, tk, ts, tf, vs, (h_fd s), (h_ss s), (h_sv s), (h_sn s), (h_sf s)) (nI t0) (nI t1) (nI t2)) : xr_R Q f_literalKind f_paramKind f_callKind f_evalTask f_applyTask f_branchTask f_updateTask f_storeTask f_slotAbsent f_slotDelayed f_slotReady f_functionCount f_nodeLimit f_depthLimit f_draftOpen f_draftFor f_draftNodes f_draftCalls f_treeCount f_analysed f_recordValue f_recordThunks f_recordNeeds a_declared a_arity a_size a_kindAt a_datumAt a_childAt a_treeRoot a_treeHeight a_tables a_marks a_cellDefined a_cellValue a_eager s ((t0, t1, t2) :: T) V := by
  intro n tk ts tf vs hn hT hV hrT hrV
  have hT' : T.length + 1 ≤ 4096 := hT
  obtain ⟨m, rfl⟩ : ∃ m, n = m + 1 := ⟨n - 1, by omega⟩
  refine xr_st hx (by omega) (fun P hP => ?_)
  obtain ⟨⟨r1, r2, r3⟩, hrT'⟩ := hrT
  rw [show tk T.length = nI t0 from r1, show ts T.length = nI t1 from r2, show tf T.length = nI t2 from r3]
  exact K P tk ts tf vs m ⟨⟨r1, r2, r3⟩, hrT'⟩ hrV (by omega) hV (by omega) hP
end
end
section
/-! the rules of evaluation, one by one -/
section
variable {Q : SX → Prop} {f_literalKind f_paramKind f_callKind f_evalTask f_applyTask f_branchTask f_updateTask f_storeTask f_slotAbsent f_slotDelayed f_slotReady f_functionCount f_nodeLimit f_depthLimit f_draftOpen f_draftFor f_draftNodes f_draftCalls f_treeCount f_analysed f_recordValue f_recordThunks f_recordNeeds f_taskTop f_valueTop f_frameCount f_failed f_thunkCount f_demanded : Int32} {a_declared a_arity a_size a_kindAt a_datumAt a_childAt a_treeRoot a_treeHeight a_tables a_marks a_cellDefined a_cellValue a_eager a_taskKind a_taskSubject a_taskFrame a_valueStack a_frameDepth a_slotState a_slotValue a_slotNode a_slotFrame : Nat → Int32} {sz ar : Nat → Nat} {eg : Nat → Nat → Bool} {cn : Nat → Nat → Nat}
theorem xr_1 : ∀ s T V j fr, vn sz j → h_x s < 4096 → a_kindAt j = 8 → V.length < 1024 → xr_R Q f_literalKind f_paramKind f_callKind f_evalTask f_applyTask f_branchTask f_updateTask f_storeTask f_slotAbsent f_slotDelayed f_slotReady f_functionCount f_nodeLimit f_depthLimit f_draftOpen f_draftFor f_draftNodes f_draftCalls f_treeCount f_analysed f_recordValue f_recordThunks f_recordNeeds a_declared a_arity a_size a_kindAt a_datumAt a_childAt a_treeRoot a_treeHeight a_tables a_marks a_cellDefined a_cellValue a_eager (hs_t s) T (a_datumAt j :: V) → xr_R Q f_literalKind f_paramKind f_callKind f_evalTask f_applyTask f_branchTask f_updateTask f_storeTask f_slotAbsent f_slotDelayed f_slotReady f_functionCount f_nodeLimit f_depthLimit f_draftOpen f_draftFor f_draftNodes f_draftCalls f_treeCount f_analysed f_recordValue f_recordThunks f_recordNeeds a_declared a_arity a_size a_kindAt a_datumAt a_childAt a_treeRoot a_treeHeight a_tables a_marks a_cellDefined a_cellValue a_eager s ((0, j, fr) :: T) V := by
  intro s T V j fr hvn hx hk hv h
  have hj := hvn.1
  refine xr_fin hx (fun P tk ts tf vs m hrT hrV hT hV hm hP => br_t rfl ?_)
  exact xw_e8 (by omega) hk hv (hP _ _ _ _ _ _ _ _ _ _ _ _ _ _ _ _ _ _ _ _ _ _ _ _ _ _ _ _ _ _ _ _ _ _ _ _ _ _ _ _ _ _ _ _ _ _ _ _ _ _ _ (h m tk ts tf _ hm (by omega) hv hrT.2 (rp_vp hrV)))
theorem xr_2 : ∀ s T V j fr i, vn sz j → h_x s < 4096 → a_kindAt j = 9 → a_datumAt j = nI i → i < 3 → fr < 63 → h_ss s (3 * fr + i) = 2 → V.length < 1024 → xr_R Q f_literalKind f_paramKind f_callKind f_evalTask f_applyTask f_branchTask f_updateTask f_storeTask f_slotAbsent f_slotDelayed f_slotReady f_functionCount f_nodeLimit f_depthLimit f_draftOpen f_draftFor f_draftNodes f_draftCalls f_treeCount f_analysed f_recordValue f_recordThunks f_recordNeeds a_declared a_arity a_size a_kindAt a_datumAt a_childAt a_treeRoot a_treeHeight a_tables a_marks a_cellDefined a_cellValue a_eager (hs_dem s fr i) T (h_sv s (3 * fr + i) :: V) → xr_R Q f_literalKind f_paramKind f_callKind f_evalTask f_applyTask f_branchTask f_updateTask f_storeTask f_slotAbsent f_slotDelayed f_slotReady f_functionCount f_nodeLimit f_depthLimit f_draftOpen f_draftFor f_draftNodes f_draftCalls f_treeCount f_analysed f_recordValue f_recordThunks f_recordNeeds a_declared a_arity a_size a_kindAt a_datumAt a_childAt a_treeRoot a_treeHeight a_tables a_marks a_cellDefined a_cellValue a_eager s ((0, j, fr) :: T) V := by
  intro s T V j fr i hvn hx hk hd hi hfr hs hv h
  have hj := hvn.1
  refine xr_fin hx (fun P tk ts tf vs m hrT hrV hT hV hm hP => br_t rfl ?_)
  exact xw_e9 (by omega) hk hd hfr hi (xw_d2 (by omega) hs hv (hP _ _ _ _ _ _ _ _ _ _ _ _ _ _ _ _ _ _ _ _ _ _ _ _ _ _ _ _ _ _ _ _ _ _ _ _ _ _ _ _ _ _ _ _ _ _ _ _ _ _ _ (h m tk ts tf _ hm (by omega) hv hrT.2 (rp_vp hrV))))
theorem xr_3 : ∀ s T V j fr i cc pr, vn sz j → h_x s < 4096 → a_kindAt j = 9 → a_datumAt j = nI i → i < 3 → fr < 63 → h_ss s (3 * fr + i) = 1 → h_sn s (3 * fr + i) = nI cc → h_sf s (3 * fr + i) = nI pr → T.length + 2 ≤ 4096 → xr_R Q f_literalKind f_paramKind f_callKind f_evalTask f_applyTask f_branchTask f_updateTask f_storeTask f_slotAbsent f_slotDelayed f_slotReady f_functionCount f_nodeLimit f_depthLimit f_draftOpen f_draftFor f_draftNodes f_draftCalls f_treeCount f_analysed f_recordValue f_recordThunks f_recordNeeds a_declared a_arity a_size a_kindAt a_datumAt a_childAt a_treeRoot a_treeHeight a_tables a_marks a_cellDefined a_cellValue a_eager (hs_dem s fr i) ((0, cc, pr) :: (3, 3 * fr + i, 0) :: T) V → xr_R Q f_literalKind f_paramKind f_callKind f_evalTask f_applyTask f_branchTask f_updateTask f_storeTask f_slotAbsent f_slotDelayed f_slotReady f_functionCount f_nodeLimit f_depthLimit f_draftOpen f_draftFor f_draftNodes f_draftCalls f_treeCount f_analysed f_recordValue f_recordThunks f_recordNeeds a_declared a_arity a_size a_kindAt a_datumAt a_childAt a_treeRoot a_treeHeight a_tables a_marks a_cellDefined a_cellValue a_eager s ((0, j, fr) :: T) V := by
  intro s T V j fr i cc pr hvn hx hk hd hi hfr hs hsn hsf ht h
  have hj := hvn.1
  refine xr_fin hx (fun P tk ts tf vs m hrT hrV hT hV hm hP => br_t rfl ?_)
  exact xw_e9 (by omega) hk hd hfr hi (xw_d1 (by omega) hs hsn hsf (by omega) (hP _ _ _ _ _ _ _ _ _ _ _ _ _ _ _ _ _ _ _ _ _ _ _ _ _ _ _ _ _ _ _ _ _ _ _ _ _ _ _ _ _ _ _ _ _ _ _ _ _ _ _ (h m _ _ _ vs hm (by exact ht) hV (rp_p (rp_p hrT.2)) hrV)))
theorem xr_4 (hF : xr_F Q f_literalKind f_paramKind f_callKind f_evalTask f_applyTask f_branchTask f_updateTask f_storeTask f_slotAbsent f_slotDelayed f_slotReady f_functionCount f_nodeLimit f_depthLimit f_draftOpen f_draftFor f_draftNodes f_draftCalls f_treeCount f_analysed f_recordValue f_recordThunks f_recordNeeds a_declared a_arity a_size a_kindAt a_datumAt a_childAt a_treeRoot a_treeHeight a_tables a_marks a_cellDefined a_cellValue a_eager) : ∀ s T V j fr i, vn sz j → h_x s < 4096 → a_kindAt j = 9 → a_datumAt j = nI i → i < 3 → fr < 63 → h_ss s (3 * fr + i) = 0 → xr_R Q f_literalKind f_paramKind f_callKind f_evalTask f_applyTask f_branchTask f_updateTask f_storeTask f_slotAbsent f_slotDelayed f_slotReady f_functionCount f_nodeLimit f_depthLimit f_draftOpen f_draftFor f_draftNodes f_draftCalls f_treeCount f_analysed f_recordValue f_recordThunks f_recordNeeds a_declared a_arity a_size a_kindAt a_datumAt a_childAt a_treeRoot a_treeHeight a_tables a_marks a_cellDefined a_cellValue a_eager s ((0, j, fr) :: T) V := by
  intro s T V j fr i hvn hx hk hd hi hfr hs
  have hj := hvn.1
  refine xr_fin hx (fun P tk ts tf vs m hrT hrV hT hV hm hP => br_t rfl ?_)
  obtain ⟨m', rfl⟩ : ∃ m', m = m' + 1 := ⟨m - 1, by omega⟩
  exact xw_e9 (by omega) hk hd hfr hi (xw_d0 (by omega) hs (hP _ _ _ _ _ _ _ _ _ _ _ _ _ _ _ _ _ _ _ _ _ _ _ _ _ _ _ _ _ _ _ _ _ _ _ _ _ _ _ _ _ _ _ _ _ _ _ _ _ _ _ (xr_f (by omega) (hF _ _ _ _ _ _ _ _ _ _ _ _ _ _))))
theorem xr_5 (hF : xr_F Q f_literalKind f_paramKind f_callKind f_evalTask f_applyTask f_branchTask f_updateTask f_storeTask f_slotAbsent f_slotDelayed f_slotReady f_functionCount f_nodeLimit f_depthLimit f_draftOpen f_draftFor f_draftNodes f_draftCalls f_treeCount f_analysed f_recordValue f_recordThunks f_recordNeeds a_declared a_arity a_size a_kindAt a_datumAt a_childAt a_treeRoot a_treeHeight a_tables a_marks a_cellDefined a_cellValue a_eager) : ∀ s T V j fr, vn sz j → h_x s < 4096 → a_kindAt j = 0 → xr_R Q f_literalKind f_paramKind f_callKind f_evalTask f_applyTask f_branchTask f_updateTask f_storeTask f_slotAbsent f_slotDelayed f_slotReady f_functionCount f_nodeLimit f_depthLimit f_draftOpen f_draftFor f_draftNodes f_draftCalls f_treeCount f_analysed f_recordValue f_recordThunks f_recordNeeds a_declared a_arity a_size a_kindAt a_datumAt a_childAt a_treeRoot a_treeHeight a_tables a_marks a_cellDefined a_cellValue a_eager s ((0, j, fr) :: T) V := by
  intro s T V j fr hvn hx hk
  have hj := hvn.1
  refine xr_fin hx (fun P tk ts tf vs m hrT hrV hT hV hm hP => br_t rfl ?_)
  obtain ⟨m', rfl⟩ : ∃ m', m = m' + 1 := ⟨m - 1, by omega⟩
  exact xw_e0 (by omega) hk (hP _ _ _ _ _ _ _ _ _ _ _ _ _ _ _ _ _ _ _ _ _ _ _ _ _ _ _ _ _ _ _ _ _ _ _ _ _ _ _ _ _ _ _ _ _ _ _ _ _ _ _ (xr_f (by omega) (hF _ _ _ _ _ _ _ _ _ _ _ _ _ _)))
theorem xr_6 (ho : xr_ok a_arity a_size a_kindAt a_datumAt a_childAt a_eager ar sz eg cn) (hF : xr_F Q f_literalKind f_paramKind f_callKind f_evalTask f_applyTask f_branchTask f_updateTask f_storeTask f_slotAbsent f_slotDelayed f_slotReady f_functionCount f_nodeLimit f_depthLimit f_draftOpen f_draftFor f_draftNodes f_draftCalls f_treeCount f_analysed f_recordValue f_recordThunks f_recordNeeds a_declared a_arity a_size a_kindAt a_datumAt a_childAt a_treeRoot a_treeHeight a_tables a_marks a_cellDefined a_cellValue a_eager) : ∀ s T V j fr h d, vn sz j → h_x s < 4096 → a_kindAt j = 10 → a_datumAt j = nI h → h < 4 → fr < 63 → h_fd s fr = nI d → 1 ≤ d → d ≤ 6 → (d = 1 ∨ sz h = 0) → xr_R Q f_literalKind f_paramKind f_callKind f_evalTask f_applyTask f_branchTask f_updateTask f_storeTask f_slotAbsent f_slotDelayed f_slotReady f_functionCount f_nodeLimit f_depthLimit f_draftOpen f_draftFor f_draftNodes f_draftCalls f_treeCount f_analysed f_recordValue f_recordThunks f_recordNeeds a_declared a_arity a_size a_kindAt a_datumAt a_childAt a_treeRoot a_treeHeight a_tables a_marks a_cellDefined a_cellValue a_eager s ((0, j, fr) :: T) V := by
  intro s T V j fr h d hvn hx hk hd hh hfr hfd hd1 hd6 hc
  have hj := hvn.1
  refine xr_fin hx (fun P tk ts tf vs m hrT hrV hT hV hm hP => br_t rfl ?_)
  obtain ⟨m', rfl⟩ : ∃ m', m = m' + 1 := ⟨m - 1, by omega⟩
  obtain ⟨o1, o2, o3, o4, o5⟩ := ho.1 h hh
  exact xw_ef hh hj hfr hk hd hfd hd1 hd6 o3 o4 hc (hP _ _ _ _ _ _ _ _ _ _ _ _ _ _ _ _ _ _ _ _ _ _ _ _ _ _ _ _ _ _ _ _ _ _ _ _ _ _ _ _ _ _ _ _ _ _ _ _ _ _ _ (xr_f (by omega) (hF _ _ _ _ _ _ _ _ _ _ _ _ _ _)))
theorem xr_7 (ho : xr_ok a_arity a_size a_kindAt a_datumAt a_childAt a_eager ar sz eg cn) : ∀ s T V j fr h d, vn sz j → h_x s < 4096 → a_kindAt j = 10 → a_datumAt j = nI h → h < 4 → fr < 63 → h_fd s fr = nI d → 2 ≤ d → d ≤ 6 → 0 < sz h → (∀ i, i < ar h → cn j i < 64) → h_fc s < 63 → T.length + 7 ≤ 4096 → xr_R Q f_literalKind f_paramKind f_callKind f_evalTask f_applyTask f_branchTask f_updateTask f_storeTask f_slotAbsent f_slotDelayed f_slotReady f_functionCount f_nodeLimit f_depthLimit f_draftOpen f_draftFor f_draftNodes f_draftCalls f_treeCount f_analysed f_recordValue f_recordThunks f_recordNeeds a_declared a_arity a_size a_kindAt a_datumAt a_childAt a_treeRoot a_treeHeight a_tables a_marks a_cellDefined a_cellValue a_eager (hs_call eg s h fr d (ar h) (cn j)) (ca_tl eg h (h_fc s) fr (cn j) ((0, 16 * h + (sz h - 1), h_fc s) :: T) (ar h)) V → xr_R Q f_literalKind f_paramKind f_callKind f_evalTask f_applyTask f_branchTask f_updateTask f_storeTask f_slotAbsent f_slotDelayed f_slotReady f_functionCount f_nodeLimit f_depthLimit f_draftOpen f_draftFor f_draftNodes f_draftCalls f_treeCount f_analysed f_recordValue f_recordThunks f_recordNeeds a_declared a_arity a_size a_kindAt a_datumAt a_childAt a_treeRoot a_treeHeight a_tables a_marks a_cellDefined a_cellValue a_eager s ((0, j, fr) :: T) V := by
  intro s T V j fr h d hvn hx hk hd hh hfr hfd hd2 hd6 hz _ hfc ht hR
  have hj := hvn.1
  refine xr_fin hx (fun P tk ts tf vs m hrT hrV hT hV hm hP => br_t rfl ?_)
  obtain ⟨o1, o2, o3, o4, o5⟩ := ho.1 h hh
  have hcl : (a_datumAt j).toNatClampNeg = h := by rw [hd]; exact nI_clamp (by omega)
  have on : q_on a_kindAt a_datumAt ar j = ar h := by
    unfold q_on
    rw [if_neg (by rw [hk]; decide), if_neg (by rw [hk]; decide), if_neg (by rw [hk]; decide), if_pos hk, hcl]
  refine xw_e10 (eg := eg) (cn := cn j) (T := T) hh hj hfr hfc o1 hk hd hfd hd2 hd6 o3 hz o4 o2 o5 (fun i hi => ho.2 j hvn i (by omega)) ht hrT.2 (fun tk' ts' tf' hr' => ?_)
  have hl := ca_tl_2 (eg := eg) (h := h) (fc := h_fc s) (fr := fr) (cn := cn j) (T0 := (0, 16 * h + (sz h - 1), h_fc s) :: T) (ar h)
  have hl' : ((0, 16 * h + (sz h - 1), h_fc s) :: T : List TK).length = T.length + 1 := rfl
  exact hP _ _ _ _ _ _ _ _ _ _ _ _ _ _ _ _ _ _ _ _ _ _ _ _ _ _ _ _ _ _ _ _ _ _ _ _ _ _ _ _ _ _ _ _ _ _ _ _ _ _ _ (hR m tk' ts' tf' vs hm (by omega) hV hr' hrV)
theorem xr_8 (ho : xr_ok a_arity a_size a_kindAt a_datumAt a_childAt a_eager ar sz eg cn) : ∀ s T V j fr, vn sz j → h_x s < 4096 → a_kindAt j = 7 → T.length + 2 ≤ 4096 → xr_R Q f_literalKind f_paramKind f_callKind f_evalTask f_applyTask f_branchTask f_updateTask f_storeTask f_slotAbsent f_slotDelayed f_slotReady f_functionCount f_nodeLimit f_depthLimit f_draftOpen f_draftFor f_draftNodes f_draftCalls f_treeCount f_analysed f_recordValue f_recordThunks f_recordNeeds a_declared a_arity a_size a_kindAt a_datumAt a_childAt a_treeRoot a_treeHeight a_tables a_marks a_cellDefined a_cellValue a_eager (hs_t s) ((0, cn j 0, fr) :: (2, j, fr) :: T) V → xr_R Q f_literalKind f_paramKind f_callKind f_evalTask f_applyTask f_branchTask f_updateTask f_storeTask f_slotAbsent f_slotDelayed f_slotReady f_functionCount f_nodeLimit f_depthLimit f_draftOpen f_draftFor f_draftNodes f_draftCalls f_treeCount f_analysed f_recordValue f_recordThunks f_recordNeeds a_declared a_arity a_size a_kindAt a_datumAt a_childAt a_treeRoot a_treeHeight a_tables a_marks a_cellDefined a_cellValue a_eager s ((0, j, fr) :: T) V := by
  intro s T V j fr hvn hx hk ht h
  have hj := hvn.1
  refine xr_fin hx (fun P tk ts tf vs m hrT hrV hT hV hm hP => br_t rfl ?_)
  have on : q_on a_kindAt a_datumAt ar j = 3 := by
    unfold q_on
    rw [if_neg (by rw [hk]; decide), if_neg (by rw [hk]; decide), if_neg (by rw [hk]; decide), if_neg (by rw [hk]; decide), if_pos hk]
  exact xw_e7 (by omega) hk (ho.2 j hvn 0 (by omega)) (by omega) (hP _ _ _ _ _ _ _ _ _ _ _ _ _ _ _ _ _ _ _ _ _ _ _ _ _ _ _ _ _ _ _ _ _ _ _ _ _ _ _ _ _ _ _ _ _ _ _ _ _ _ _ (h m _ _ _ vs hm (by exact ht) hV (rp_p (rp_p hrT.2)) hrV))
theorem xr_9 (ho : xr_ok a_arity a_size a_kindAt a_datumAt a_childAt a_eager ar sz eg cn) : ∀ s T V j fr k, vn sz j → h_x s < 4096 → a_kindAt j = nI k → 1 ≤ k → k ≤ 6 → T.length + 3 ≤ 4096 → xr_R Q f_literalKind f_paramKind f_callKind f_evalTask f_applyTask f_branchTask f_updateTask f_storeTask f_slotAbsent f_slotDelayed f_slotReady f_functionCount f_nodeLimit f_depthLimit f_draftOpen f_draftFor f_draftNodes f_draftCalls f_treeCount f_analysed f_recordValue f_recordThunks f_recordNeeds a_declared a_arity a_size a_kindAt a_datumAt a_childAt a_treeRoot a_treeHeight a_tables a_marks a_cellDefined a_cellValue a_eager (hs_t s) ((0, cn j 0, fr) :: (0, cn j 1, fr) :: (1, j, fr) :: T) V → xr_R Q f_literalKind f_paramKind f_callKind f_evalTask f_applyTask f_branchTask f_updateTask f_storeTask f_slotAbsent f_slotDelayed f_slotReady f_functionCount f_nodeLimit f_depthLimit f_draftOpen f_draftFor f_draftNodes f_draftCalls f_treeCount f_analysed f_recordValue f_recordThunks f_recordNeeds a_declared a_arity a_size a_kindAt a_datumAt a_childAt a_treeRoot a_treeHeight a_tables a_marks a_cellDefined a_cellValue a_eager s ((0, j, fr) :: T) V := by
  intro s T V j fr k hvn hx hk hk1 hk6 ht h
  have hj := hvn.1
  refine xr_fin hx (fun P tk ts tf vs m hrT hrV hT hV hm hP => br_t rfl ?_)
  have d : ∀ l, l < 2 ^ 31 → l ≠ k → ¬ a_kindAt j = nI l := fun l hl hne z => hne (((nI_eq (by omega) hl).mp (hk.symm.trans z)).symm)
  have on : q_on a_kindAt a_datumAt ar j = 2 := by
    unfold q_on
    rw [if_neg (show ¬ a_kindAt j = 0 from d 0 (by decide) (by omega)), if_neg (show ¬ a_kindAt j = 8 from d 8 (by decide) (by omega)), if_neg (show ¬ a_kindAt j = 9 from d 9 (by decide) (by omega)), if_neg (show ¬ a_kindAt j = 10 from d 10 (by decide) (by omega)), if_neg (show ¬ a_kindAt j = 7 from d 7 (by decide) (by omega))]
  exact xw_eb (by omega) hk hk1 hk6 (ho.2 j hvn 0 (by omega)) (ho.2 j hvn 1 (by omega)) (by omega) (hP _ _ _ _ _ _ _ _ _ _ _ _ _ _ _ _ _ _ _ _ _ _ _ _ _ _ _ _ _ _ _ _ _ _ _ _ _ _ _ _ _ _ _ _ _ _ _ _ _ _ _ (h m _ _ _ vs hm (by exact ht) hV (rp_p (rp_p (rp_p hrT.2))) hrV))
theorem xr_ev (ho : xr_ok a_arity a_size a_kindAt a_datumAt a_childAt a_eager ar sz eg cn) : vm_ev a_kindAt a_datumAt ar sz eg (xr_R Q f_literalKind f_paramKind f_callKind f_evalTask f_applyTask f_branchTask f_updateTask f_storeTask f_slotAbsent f_slotDelayed f_slotReady f_functionCount f_nodeLimit f_depthLimit f_draftOpen f_draftFor f_draftNodes f_draftCalls f_treeCount f_analysed f_recordValue f_recordThunks f_recordNeeds a_declared a_arity a_size a_kindAt a_datumAt a_childAt a_treeRoot a_treeHeight a_tables a_marks a_cellDefined a_cellValue a_eager) (xr_F Q f_literalKind f_paramKind f_callKind f_evalTask f_applyTask f_branchTask f_updateTask f_storeTask f_slotAbsent f_slotDelayed f_slotReady f_functionCount f_nodeLimit f_depthLimit f_draftOpen f_draftFor f_draftNodes f_draftCalls f_treeCount f_analysed f_recordValue f_recordThunks f_recordNeeds a_declared a_arity a_size a_kindAt a_datumAt a_childAt a_treeRoot a_treeHeight a_tables a_marks a_cellDefined a_cellValue a_eager) cn :=
  ⟨xr_1, xr_2, xr_3, fun s T V j fr i h1 h2 h3 h4 h5 h6 h7 hF => xr_4 hF s T V j fr i h1 h2 h3 h4 h5 h6 h7, fun s T V j fr h1 h2 h3 hF => xr_5 hF s T V j fr h1 h2 h3,
    fun s T V j fr h d h1 h2 h3 h4 h5 h6 h7 h8 h9 h10 hF => xr_6 ho hF s T V j fr h d h1 h2 h3 h4 h5 h6 h7 h8 h9 h10, xr_7 ho, xr_8 ho, xr_9 ho⟩
theorem xr_t1 : ∀ s T V j fr k x y, vn sz j → h_x s < 4096 → a_kindAt j = nI k → 1 ≤ k → k ≤ 6 → ¬ (a_kindAt j = 4 ∧ y = 0) → xr_R Q f_literalKind f_paramKind f_callKind f_evalTask f_applyTask f_branchTask f_updateTask f_storeTask f_slotAbsent f_slotDelayed f_slotReady f_functionCount f_nodeLimit f_depthLimit f_draftOpen f_draftFor f_draftNodes f_draftCalls f_treeCount f_analysed f_recordValue f_recordThunks f_recordNeeds a_declared a_arity a_size a_kindAt a_datumAt a_childAt a_treeRoot a_treeHeight a_tables a_marks a_cellDefined a_cellValue a_eager (hs_t s) T (q_cb (a_kindAt j) x y :: V) → xr_R Q f_literalKind f_paramKind f_callKind f_evalTask f_applyTask f_branchTask f_updateTask f_storeTask f_slotAbsent f_slotDelayed f_slotReady f_functionCount f_nodeLimit f_depthLimit f_draftOpen f_draftFor f_draftNodes f_draftCalls f_treeCount f_analysed f_recordValue f_recordThunks f_recordNeeds a_declared a_arity a_size a_kindAt a_datumAt a_childAt a_treeRoot a_treeHeight a_tables a_marks a_cellDefined a_cellValue a_eager s ((1, j, fr) :: T) (y :: x :: V) := by
  intro s T V j fr k x y hvn hx hk hk1 hk6 hz h
  have hj := hvn.1
  refine xr_fin hx (fun P tk ts tf vs m hrT hrV hT hV hm hP => br_f (by decide) (br_t rfl ⟨vp_in_nI (by omega) (by omega), ?_⟩))
  have hV' : V.length + 2 ≤ 1024 := hV
  have e : (nI j).toNatClampNeg = j := nI_clamp (by omega)
  rw [hk] at hz h
  show wpX_applyBinary _ _ (a_kindAt (nI j).toNatClampNeg)
  rw [e, hk]
  exact xw_ap (v := V.length) hk1 hk6 hz hV' hrV.1 hrV.2.1 (hP _ _ _ _ _ _ _ _ _ _ _ _ _ _ _ _ _ _ _ _ _ _ _ _ _ _ _ _ _ _ _ _ _ _ _ _ _ _ _ _ _ _ _ _ _ _ _ _ _ _ _ (h m tk ts tf _ hm (by omega) (by show V.length + 1 ≤ 1024; omega) hrT.2 (rp_vp hrV.2.2)))
theorem xr_t2 (hF : xr_F Q f_literalKind f_paramKind f_callKind f_evalTask f_applyTask f_branchTask f_updateTask f_storeTask f_slotAbsent f_slotDelayed f_slotReady f_functionCount f_nodeLimit f_depthLimit f_draftOpen f_draftFor f_draftNodes f_draftCalls f_treeCount f_analysed f_recordValue f_recordThunks f_recordNeeds a_declared a_arity a_size a_kindAt a_datumAt a_childAt a_treeRoot a_treeHeight a_tables a_marks a_cellDefined a_cellValue a_eager) : ∀ s T V j fr x, vn sz j → h_x s < 4096 → a_kindAt j = 4 → xr_R Q f_literalKind f_paramKind f_callKind f_evalTask f_applyTask f_branchTask f_updateTask f_storeTask f_slotAbsent f_slotDelayed f_slotReady f_functionCount f_nodeLimit f_depthLimit f_draftOpen f_draftFor f_draftNodes f_draftCalls f_treeCount f_analysed f_recordValue f_recordThunks f_recordNeeds a_declared a_arity a_size a_kindAt a_datumAt a_childAt a_treeRoot a_treeHeight a_tables a_marks a_cellDefined a_cellValue a_eager s ((1, j, fr) :: T) (0 :: x :: V) := by
  intro s T V j fr x hvn hx hk
  have hj := hvn.1
  refine xr_fin hx (fun P tk ts tf vs m hrT hrV hT hV hm hP => br_f (by decide) (br_t rfl ⟨vp_in_nI (by omega) (by omega), ?_⟩))
  have hV' : V.length + 2 ≤ 1024 := hV
  have e : (nI j).toNatClampNeg = j := nI_clamp (by omega)
  show wpX_applyBinary _ _ (a_kindAt (nI j).toNatClampNeg)
  rw [e, hk]
  obtain ⟨m', rfl⟩ : ∃ m', m = m' + 1 := ⟨m - 1, by omega⟩
  exact xw_ap0 (v := V.length) hV' hrV.1 (hP _ _ _ _ _ _ _ _ _ _ _ _ _ _ _ _ _ _ _ _ _ _ _ _ _ _ _ _ _ _ _ _ _ _ _ _ _ _ _ _ _ _ _ _ _ _ _ _ _ _ _ (xr_f (by omega) (hF _ _ _ _ _ _ _ _ _ _ _ _ _ _)))
theorem xr_t3 (ho : xr_ok a_arity a_size a_kindAt a_datumAt a_childAt a_eager ar sz eg cn) : ∀ s T V j fr v, vn sz j → h_x s < 4096 → a_kindAt j = 7 → xr_R Q f_literalKind f_paramKind f_callKind f_evalTask f_applyTask f_branchTask f_updateTask f_storeTask f_slotAbsent f_slotDelayed f_slotReady f_functionCount f_nodeLimit f_depthLimit f_draftOpen f_draftFor f_draftNodes f_draftCalls f_treeCount f_analysed f_recordValue f_recordThunks f_recordNeeds a_declared a_arity a_size a_kindAt a_datumAt a_childAt a_treeRoot a_treeHeight a_tables a_marks a_cellDefined a_cellValue a_eager (hs_t s) ((0, cn j (if v = 0 then 2 else 1), fr) :: T) V → xr_R Q f_literalKind f_paramKind f_callKind f_evalTask f_applyTask f_branchTask f_updateTask f_storeTask f_slotAbsent f_slotDelayed f_slotReady f_functionCount f_nodeLimit f_depthLimit f_draftOpen f_draftFor f_draftNodes f_draftCalls f_treeCount f_analysed f_recordValue f_recordThunks f_recordNeeds a_declared a_arity a_size a_kindAt a_datumAt a_childAt a_treeRoot a_treeHeight a_tables a_marks a_cellDefined a_cellValue a_eager s ((2, j, fr) :: T) (v :: V) := by
  intro s T V j fr v hvn hx hk h
  have hj := hvn.1
  refine xr_fin hx (fun P tk ts tf vs m hrT hrV hT hV hm hP => br_f (by decide) (br_f (by decide) (br_t rfl ?_)))
  have hV' : V.length + 1 ≤ 1024 := hV
  have on : q_on a_kindAt a_datumAt ar j = 3 := by
    unfold q_on
    rw [if_neg (by rw [hk]; decide), if_neg (by rw [hk]; decide), if_neg (by rw [hk]; decide), if_neg (by rw [hk]; decide), if_pos hk]
  have hz2 : (if v = 0 then 2 else 1) < 3 := by
    by_cases x0 : v = 0
    · rw [if_pos x0]; omega
    · rw [if_neg x0]; omega
  exact xw_br (v := V.length) (by omega) (by omega) hrV.1 rfl (ho.2 j hvn _ (by omega)) hT (hP _ _ _ _ _ _ _ _ _ _ _ _ _ _ _ _ _ _ _ _ _ _ _ _ _ _ _ _ _ _ _ _ _ _ _ _ _ _ _ _ _ _ _ _ _ _ _ _ _ _ _ (h m _ _ _ vs hm (by exact hT) (by omega) (rp_p hrT.2) hrV.2))
theorem xr_t4 : ∀ s T V k v, k < 189 → h_x s < 4096 → xr_R Q f_literalKind f_paramKind f_callKind f_evalTask f_applyTask f_branchTask f_updateTask f_storeTask f_slotAbsent f_slotDelayed f_slotReady f_functionCount f_nodeLimit f_depthLimit f_draftOpen f_draftFor f_draftNodes f_draftCalls f_treeCount f_analysed f_recordValue f_recordThunks f_recordNeeds a_declared a_arity a_size a_kindAt a_datumAt a_childAt a_treeRoot a_treeHeight a_tables a_marks a_cellDefined a_cellValue a_eager (hs_fill s k v) T (v :: V) → xr_R Q f_literalKind f_paramKind f_callKind f_evalTask f_applyTask f_branchTask f_updateTask f_storeTask f_slotAbsent f_slotDelayed f_slotReady f_functionCount f_nodeLimit f_depthLimit f_draftOpen f_draftFor f_draftNodes f_draftCalls f_treeCount f_analysed f_recordValue f_recordThunks f_recordNeeds a_declared a_arity a_size a_kindAt a_datumAt a_childAt a_treeRoot a_treeHeight a_tables a_marks a_cellDefined a_cellValue a_eager s ((3, k, 0) :: T) (v :: V) := by
  intro s T V k v hk hx h
  refine xr_fin hx (fun P tk ts tf vs m hrT hrV hT hV hm hP => br_f (by decide) (br_f (by decide) (br_f (by decide) (br_t rfl ?_))))
  have hV' : V.length + 1 ≤ 1024 := hV
  unfold wX_perform_57
  exact xw_fs1 (v := V.length) hk (by omega) hrV.1 (hP _ _ _ _ _ _ _ _ _ _ _ _ _ _ _ _ _ _ _ _ _ _ _ _ _ _ _ _ _ _ _ _ _ _ _ _ _ _ _ _ _ _ _ _ _ _ _ _ _ _ _ (h m tk ts tf _ hm (by omega) hV hrT.2 (rp_vp hrV.2)))
theorem xr_t5 : ∀ s T V k v, k < 189 → h_x s < 4096 → xr_R Q f_literalKind f_paramKind f_callKind f_evalTask f_applyTask f_branchTask f_updateTask f_storeTask f_slotAbsent f_slotDelayed f_slotReady f_functionCount f_nodeLimit f_depthLimit f_draftOpen f_draftFor f_draftNodes f_draftCalls f_treeCount f_analysed f_recordValue f_recordThunks f_recordNeeds a_declared a_arity a_size a_kindAt a_datumAt a_childAt a_treeRoot a_treeHeight a_tables a_marks a_cellDefined a_cellValue a_eager (hs_fill s k v) T V → xr_R Q f_literalKind f_paramKind f_callKind f_evalTask f_applyTask f_branchTask f_updateTask f_storeTask f_slotAbsent f_slotDelayed f_slotReady f_functionCount f_nodeLimit f_depthLimit f_draftOpen f_draftFor f_draftNodes f_draftCalls f_treeCount f_analysed f_recordValue f_recordThunks f_recordNeeds a_declared a_arity a_size a_kindAt a_datumAt a_childAt a_treeRoot a_treeHeight a_tables a_marks a_cellDefined a_cellValue a_eager s ((4, k, 0) :: T) (v :: V) := by
  intro s T V k v hk hx h
  refine xr_fin hx (fun P tk ts tf vs m hrT hrV hT hV hm hP => br_f (by decide) (br_f (by decide) (br_f (by decide) (br_f (by decide) ?_))))
  have hV' : V.length + 1 ≤ 1024 := hV
  unfold wX_perform_57
  exact xw_fs0 (v := V.length) hk (by omega) hrV.1 (hP _ _ _ _ _ _ _ _ _ _ _ _ _ _ _ _ _ _ _ _ _ _ _ _ _ _ _ _ _ _ _ _ _ _ _ _ _ _ _ _ _ _ _ _ _ _ _ _ _ _ _ (h m tk ts tf vs hm (by omega) (by omega) hrT.2 hrV.2))
theorem xr_tk (ho : xr_ok a_arity a_size a_kindAt a_datumAt a_childAt a_eager ar sz eg cn) : vm_tk a_kindAt sz (xr_R Q f_literalKind f_paramKind f_callKind f_evalTask f_applyTask f_branchTask f_updateTask f_storeTask f_slotAbsent f_slotDelayed f_slotReady f_functionCount f_nodeLimit f_depthLimit f_draftOpen f_draftFor f_draftNodes f_draftCalls f_treeCount f_analysed f_recordValue f_recordThunks f_recordNeeds a_declared a_arity a_size a_kindAt a_datumAt a_childAt a_treeRoot a_treeHeight a_tables a_marks a_cellDefined a_cellValue a_eager) (xr_F Q f_literalKind f_paramKind f_callKind f_evalTask f_applyTask f_branchTask f_updateTask f_storeTask f_slotAbsent f_slotDelayed f_slotReady f_functionCount f_nodeLimit f_depthLimit f_draftOpen f_draftFor f_draftNodes f_draftCalls f_treeCount f_analysed f_recordValue f_recordThunks f_recordNeeds a_declared a_arity a_size a_kindAt a_datumAt a_childAt a_treeRoot a_treeHeight a_tables a_marks a_cellDefined a_cellValue a_eager) cn :=
  ⟨xr_t1, fun s T V j fr x h1 h2 h3 hF => xr_t2 hF s T V j fr x h1 h2 h3, xr_t3 ho, xr_t4, xr_t5⟩
end
end
section
/-! Y's run: the small walks -/
theorem sa_lt {t n : Nat} (h : n ≤ t) : nI t + (1 - nI n) = nI (t - n + 1) := by
  have e : nI t = nI (t - n) + nI n := by rw [nI_add]; exact congrArg nI (by omega)
  rw [e, ← nI_1]
  grind
theorem pk_sub_toInt' {a b : Nat} (ha : a < 2 ^ 30) (hb : b < 2 ^ 30) : (nI a - nI b).toInt = (a : Int) - b := by
  rw [Int32.toInt_sub, nI_toInt (by omega), nI_toInt (by omega)]
  exact Int.bmod_eq_of_le (by omega) (by omega)
theorem y_b_0 {b : Bool} : y_b b = 0 ↔ b = false := by
  cases b
  · exact ⟨fun _ => rfl, fun _ => rfl⟩
  · exact ⟨fun z => absurd z (by decide), fun z => absurd z (by decide)⟩
section
variable {Q : SY → Prop} {g_functionLimit g_nodeLimit g_depthLimit g_draftFor g_draftSize g_analysed g_level g_runMode g_runDepth g_lastSet g_hasValue g_recordValue g_recordCount g_recordSet : Int32} {b_arity b_bodySize b_bodyKind b_bodyData b_draftKind b_draftData b_heights b_truth b_next b_marks b_cellDefined b_cellValue b_levelFunction b_levelAt b_levelTop b_def b_val b_need b_count : Nat → Int32}
theorem yw_put {k : Nat} {v p c : Int32} (hk : k < 56) (h : Q (g_functionLimit, g_nodeLimit, g_depthLimit, g_draftFor, g_draftSize, g_analysed, g_level, g_runMode, g_runDepth, g_lastSet, g_hasValue, g_recordValue, g_recordCount, g_recordSet, b_arity, b_bodySize, b_bodyKind, b_bodyData, b_draftKind, b_draftData, b_heights, b_truth, b_next, b_marks, b_cellDefined, b_cellValue, b_levelFunction, b_levelAt, b_levelTop, (upd b_def k 1), (upd b_val k v), (upd b_need k p), (upd b_count k c))) : wpY_put Q (g_functionLimit, g_nodeLimit, g_depthLimit, g_draftFor, g_draftSize, g_analysed, g_level, g_runMode, g_runDepth, g_lastSet, g_hasValue, g_recordValue, g_recordCount, g_recordSet, b_arity, b_bodySize, b_bodyKind, b_bodyData, b_draftKind, b_draftData, b_heights, b_truth, b_next, b_marks, b_cellDefined, b_cellValue, b_levelFunction, b_levelAt, b_levelTop, b_def, b_val, b_need, b_count) (nI k) v p c := by
  unfold wpY_put
  have e : (nI k).toNatClampNeg = k := nI_clamp (by omega)
  have hi : vp_in (nI k) 56 := vp_in_nI hk (by omega)
  exact ⟨hi, nm_r (e' := upd b_def k 1) (by rw [e, sa_vb1]) ⟨hi, nm_r (e' := upd b_val k v) (by rw [e]) ⟨hi, nm_r (e' := upd b_need k p) (by rw [e]) ⟨hi, nm_r (e' := upd b_count k c) (by rw [e]) h⟩⟩⟩⟩
theorem yw_pu {k : Nat} (hk : k < 56) (h : Q (g_functionLimit, g_nodeLimit, g_depthLimit, g_draftFor, g_draftSize, g_analysed, g_level, g_runMode, g_runDepth, g_lastSet, g_hasValue, g_recordValue, g_recordCount, g_recordSet, b_arity, b_bodySize, b_bodyKind, b_bodyData, b_draftKind, b_draftData, b_heights, b_truth, b_next, b_marks, b_cellDefined, b_cellValue, b_levelFunction, b_levelAt, b_levelTop, (upd b_def k 0), (upd b_val k 0), (upd b_need k 0), (upd b_count k 0))) : wpY_putUndefined Q (g_functionLimit, g_nodeLimit, g_depthLimit, g_draftFor, g_draftSize, g_analysed, g_level, g_runMode, g_runDepth, g_lastSet, g_hasValue, g_recordValue, g_recordCount, g_recordSet, b_arity, b_bodySize, b_bodyKind, b_bodyData, b_draftKind, b_draftData, b_heights, b_truth, b_next, b_marks, b_cellDefined, b_cellValue, b_levelFunction, b_levelAt, b_levelTop, b_def, b_val, b_need, b_count) (nI k) := by
  unfold wpY_putUndefined
  have e : (nI k).toNatClampNeg = k := nI_clamp (by omega)
  have hi : vp_in (nI k) 56 := vp_in_nI hk (by omega)
  exact ⟨hi, nm_r (e' := upd b_def k 0) (by rw [e, sa_vb0]) ⟨hi, nm_r (e' := upd b_val k 0) (by rw [e]) ⟨hi, nm_r (e' := upd b_need k 0) (by rw [e]) ⟨hi, nm_r (e' := upd b_count k 0) (by rw [e]) h⟩⟩⟩⟩
theorem yw_on {R : Int32 → Prop} {kd dt : Nat → Int32} {ar : Nat → Nat} {j : Nat} (hc : kd j = 10 → ∃ h, h < 4 ∧ dt j = nI h ∧ b_arity h = nI (ar h)) (h : R (nI (q_on kd dt ar j))) : wpY_operands R (g_functionLimit, g_nodeLimit, g_depthLimit, g_draftFor, g_draftSize, g_analysed, g_level, g_runMode, g_runDepth, g_lastSet, g_hasValue, g_recordValue, g_recordCount, g_recordSet, b_arity, b_bodySize, b_bodyKind, b_bodyData, b_draftKind, b_draftData, b_heights, b_truth, b_next, b_marks, b_cellDefined, b_cellValue, b_levelFunction, b_levelAt, b_levelTop, b_def, b_val, b_need, b_count) (kd j) (dt j) := by
  unfold wpY_operands
  unfold q_on at h
  by_cases h0 : kd j = 0
  · rw [if_pos h0] at h; exact br_t h0 h
  rw [if_neg h0] at h
  refine br_f h0 ?_
  by_cases h8 : kd j = 8
  · rw [if_pos h8] at h; exact br_t h8 h
  rw [if_neg h8] at h
  refine br_f h8 ?_
  by_cases h9 : kd j = 9
  · rw [if_pos h9] at h; exact br_t h9 h
  rw [if_neg h9] at h
  refine br_f h9 ?_
  by_cases h10 : kd j = 10
  · rw [if_pos h10] at h
    obtain ⟨g, hg, e1, e2⟩ := hc h10
    rw [e1, nI_clamp (by omega)] at h
    refine br_t h10 ⟨by rw [e1]; exact vp_in_nI hg (by omega), ?_⟩
    rw [e1, nI_clamp (by omega), e2]
    exact h
  rw [if_neg h10] at h
  refine br_f h10 ?_
  by_cases h7 : kd j = 7
  · rw [if_pos h7] at h; exact br_t h7 h
  rw [if_neg h7] at h
  exact br_f h7 h
/-- the loop of enter -/
theorem yw_el {eg : Nat → Nat → Bool} {a : Nat → QQ} {h n L t : Nat} {s0 : Bool} (hn : n ≤ 3) (ht : n ≤ t) (ht8 : t - n + 1 ≤ 8) (htt : t ≤ 8) (hL : L < 7) (hlt : b_levelTop L = nI t)
    (hc : ∀ i, i < n → b_def (8 * L + (t - n + i)) = y_b (a i).1)
    (hE : ∀ i, i < n → ∀ R : Int32 → Prop, R (y_b (eg h i)) → wpY_eager R (g_functionLimit, g_nodeLimit, g_depthLimit, g_draftFor, g_draftSize, g_analysed, (nI L), g_runMode, g_runDepth, g_lastSet, g_hasValue, g_recordValue, g_recordCount, g_recordSet, b_arity, b_bodySize, b_bodyKind, b_bodyData, b_draftKind, b_draftData, b_heights, b_truth, b_next, b_marks, b_cellDefined, b_cellValue, b_levelFunction, b_levelAt, b_levelTop, b_def, b_val, b_need, b_count) (nI h) (nI i))
    (K1 : (s0 || q_st eg h a n) = true → Q (g_functionLimit, g_nodeLimit, g_depthLimit, g_draftFor, g_draftSize, g_analysed, (nI L), g_runMode, g_runDepth, g_lastSet, g_hasValue, g_recordValue, g_recordCount, g_recordSet, b_arity, b_bodySize, b_bodyKind, b_bodyData, b_draftKind, b_draftData, b_heights, b_truth, b_next, b_marks, b_cellDefined, b_cellValue, b_levelFunction, b_levelAt, (upd b_levelTop L (nI (t - n + 1))), (upd b_def (8 * L + (t - n)) 0), (upd b_val (8 * L + (t - n)) 0), (upd b_need (8 * L + (t - n)) 0), (upd b_count (8 * L + (t - n)) 0)))
    (K2 : (s0 || q_st eg h a n) = false → L + 1 < 7 ∧ Q (g_functionLimit, g_nodeLimit, g_depthLimit, g_draftFor, g_draftSize, g_analysed, (nI (L + 1)), g_runMode, g_runDepth, g_lastSet, g_hasValue, g_recordValue, g_recordCount, g_recordSet, b_arity, b_bodySize, b_bodyKind, b_bodyData, b_draftKind, b_draftData, b_heights, b_truth, b_next, b_marks, b_cellDefined, b_cellValue, (upd b_levelFunction (L + 1) (nI h)), (upd b_levelAt (L + 1) 0), (upd b_levelTop (L + 1) 0), b_def, b_val, b_need, b_count)) :
    ∀ m i, i + m = n → wY_enter_58 Q (nI h) (nI n) (nI (8 * L + (t - n))) g_functionLimit g_nodeLimit g_depthLimit g_draftFor g_draftSize g_analysed (nI L) g_runMode g_runDepth g_lastSet g_hasValue g_recordValue g_recordCount g_recordSet b_arity b_bodySize b_bodyKind b_bodyData b_draftKind b_draftData b_heights b_truth b_next b_marks b_cellDefined b_cellValue b_levelFunction b_levelAt b_levelTop b_def b_val b_need b_count (m + 1) (y_b (s0 || q_st eg h a i)) (nI i) := by
  intro m
  induction m with
  | zero =>
    intro i hi
    have : i = n := by omega
    subst this
    refine br_t (nI_le (Nat.le_refl _) (by omega)) ?_
    cases e : (s0 || q_st eg h a i)
    · obtain ⟨hl, k⟩ := K2 e
      have e1 : (nI (L + 1)).toNatClampNeg = L + 1 := nI_clamp (by omega)
      have hi : vp_in (nI (L + 1)) 7 := vp_in_nI hl (by omega)
      exact br_t rfl (nm_r (nI_1 L) ⟨hi, nm_r (e' := upd b_levelFunction (L + 1) (nI h)) (by rw [e1]) ⟨hi, nm_r (e' := upd b_levelAt (L + 1) 0) (by rw [e1]) ⟨hi, nm_r (e' := upd b_levelTop (L + 1) 0) (by rw [e1]) k⟩⟩⟩)
    · have k := K1 e
      have e1 : (nI L).toNatClampNeg = L := nI_clamp (by omega)
      have hi : vp_in (nI L) 7 := vp_in_nI hL (by omega)
      refine br_f (by decide) (yw_pu (by omega) ⟨hi, hi, nm_r (e' := upd b_levelTop L (nI (t - i + 1))) ?_ k⟩)
      rw [e1, hlt, sa_lt ht]
  | succ m ih =>
    intro i hi
    have ih' := ih (i + 1) (by omega)
    have eq : q_st eg h a (i + 1) = (q_st eg h a i || (eg h i && !(a i).1)) := rfl
    rw [eq] at ih'
    have e2 : nI (8 * L + (t - n)) + nI i = nI (8 * L + (t - n + i)) := by rw [nI_add]; exact congrArg nI (by omega)
    have e3 : (nI (8 * L + (t - n)) + nI i).toNatClampNeg = 8 * L + (t - n + i) := by rw [e2]; exact nI_clamp (by omega)
    refine br_f (nI_ge (by omega) (by omega)) ⟨by rw [e2]; exact vp_in_nI (by omega) (by omega), ?_⟩
    cases ed : (a i).1
    · refine br_t (by rw [e3, hc i (by omega), ed]; rfl) (hE i (by omega) _ ?_)
      cases ee : eg h i
      · rw [ed, ee] at ih'
        rw [Bool.false_and, Bool.or_false] at ih'
        exact br_t rfl (nm_r (nI_1 i) ih')
      · rw [ed, ee] at ih'
        have e4 : (s0 || (q_st eg h a i || (true && !false))) = true := by simp
        rw [e4] at ih'
        exact br_f (by decide) (nm_r (nI_1 i) ih')
    · rw [ed] at ih'
      rw [Bool.not_true, Bool.and_false, Bool.or_false] at ih'
      exact br_f (by rw [e3, hc i (by omega), ed]; decide) (nm_r (nI_1 i) ih')
theorem yw_en {eg : Nat → Nat → Bool} {a : Nat → QQ} {h n L t z D : Nat} (hh : h < 4) (hn : n ≤ 3) (ht : n ≤ t) (ht8 : t - n + 1 ≤ 8) (htt : t ≤ 8) (hL : L < 7) (hlt : b_levelTop L = nI t) (har : b_arity h = nI n) (hz : b_bodySize h = nI z) (hz16 : z ≤ 16) (hD : D ≤ 6)
    (hc : ∀ i, i < n → b_def (8 * L + (t - n + i)) = y_b (a i).1)
    (hE : ∀ i, i < n → ∀ R : Int32 → Prop, R (y_b (eg h i)) → wpY_eager R (g_functionLimit, g_nodeLimit, g_depthLimit, g_draftFor, g_draftSize, g_analysed, (nI L), g_runMode, (nI D), g_lastSet, g_hasValue, g_recordValue, g_recordCount, g_recordSet, b_arity, b_bodySize, b_bodyKind, b_bodyData, b_draftKind, b_draftData, b_heights, b_truth, b_next, b_marks, b_cellDefined, b_cellValue, b_levelFunction, b_levelAt, b_levelTop, b_def, b_val, b_need, b_count) (nI h) (nI i))
    (K1 : (D ≤ L ∨ z = 0 ∨ q_st eg h a n = true) → Q (g_functionLimit, g_nodeLimit, g_depthLimit, g_draftFor, g_draftSize, g_analysed, (nI L), g_runMode, (nI D), g_lastSet, g_hasValue, g_recordValue, g_recordCount, g_recordSet, b_arity, b_bodySize, b_bodyKind, b_bodyData, b_draftKind, b_draftData, b_heights, b_truth, b_next, b_marks, b_cellDefined, b_cellValue, b_levelFunction, b_levelAt, (upd b_levelTop L (nI (t - n + 1))), (upd b_def (8 * L + (t - n)) 0), (upd b_val (8 * L + (t - n)) 0), (upd b_need (8 * L + (t - n)) 0), (upd b_count (8 * L + (t - n)) 0)))
    (K2 : L < D → 0 < z → q_st eg h a n = false → Q (g_functionLimit, g_nodeLimit, g_depthLimit, g_draftFor, g_draftSize, g_analysed, (nI (L + 1)), g_runMode, (nI D), g_lastSet, g_hasValue, g_recordValue, g_recordCount, g_recordSet, b_arity, b_bodySize, b_bodyKind, b_bodyData, b_draftKind, b_draftData, b_heights, b_truth, b_next, b_marks, b_cellDefined, b_cellValue, (upd b_levelFunction (L + 1) (nI h)), (upd b_levelAt (L + 1) 0), (upd b_levelTop (L + 1) 0), b_def, b_val, b_need, b_count)) :
    wpY_enter Q (g_functionLimit, g_nodeLimit, g_depthLimit, g_draftFor, g_draftSize, g_analysed, (nI L), g_runMode, (nI D), g_lastSet, g_hasValue, g_recordValue, g_recordCount, g_recordSet, b_arity, b_bodySize, b_bodyKind, b_bodyData, b_draftKind, b_draftData, b_heights, b_truth, b_next, b_marks, b_cellDefined, b_cellValue, b_levelFunction, b_levelAt, b_levelTop, b_def, b_val, b_need, b_count) (nI h) := by
  unfold wpY_enter
  have eh : (nI h).toNatClampNeg = h := nI_clamp (by omega)
  have eL : (nI L).toNatClampNeg = L := nI_clamp (by omega)
  have hi4 : vp_in (nI h) 4 := vp_in_nI hh (by omega)
  refine ⟨hi4, nm_r (e' := nI n) (by rw [eh]; exact har) ⟨vp_in_nI hL (by omega), nm_r (e' := nI (8 * L + (t - n))) ?_ ?_⟩⟩
  · rw [eL, hlt, sa_m8, nI_add, pk_sub (by omega)]
    exact congrArg nI (by omega)
  have go : ∀ s0 : Bool, (s0 = true ↔ (D ≤ L ∨ z = 0)) → ∃ n58, wY_enter_58 Q (nI h) (nI n) (nI (8 * L + (t - n))) g_functionLimit g_nodeLimit g_depthLimit g_draftFor g_draftSize g_analysed (nI L) g_runMode (nI D) g_lastSet g_hasValue g_recordValue g_recordCount g_recordSet b_arity b_bodySize b_bodyKind b_bodyData b_draftKind b_draftData b_heights b_truth b_next b_marks b_cellDefined b_cellValue b_levelFunction b_levelAt b_levelTop b_def b_val b_need b_count n58 (y_b s0) 0 := by
    intro s0 hs0
    refine ⟨n + 1, ?_⟩
    have L := yw_el (Q := Q) (eg := eg) (a := a) (h := h) (s0 := s0) hn ht ht8 htt hL hlt hc hE (fun w => K1 ?_) (fun w => ?_) n 0 (by omega)
    · have e : (s0 || q_st eg h a 0) = s0 := Bool.or_false s0
      rw [e] at L
      exact L
    · rcases (Bool.or_eq_true _ _).mp w with y | y
      · rcases hs0.mp y with y | y
        · exact Or.inl y
        · exact Or.inr (Or.inl y)
      · exact Or.inr (Or.inr y)
    · have z1 : s0 = false := by
        cases e : s0
        · rfl
        · rw [e] at w; exact absurd w (by simp)
      have z2 : q_st eg h a n = false := by
        cases e : q_st eg h a n
        · rfl
        · rw [e] at w; exact absurd w (by simp)
      have z3 : ¬ (D ≤ L ∨ z = 0) := fun y => by rw [hs0.mpr y] at z1; exact absurd z1 (by decide)
      exact ⟨by omega, K2 (by omega) (by omega) z2⟩
  by_cases h1 : D ≤ L
  · refine br_t ?_ (go true ⟨fun _ => Or.inl h1, fun _ => rfl⟩)
    rw [Int32.le_iff_toInt_le, pk_sub_toInt' (by omega) (by omega)]
    show (D : Int) - L ≤ 0
    omega
  · refine br_f ?_ ⟨hi4, ?_⟩
    · rw [pk_sub (by omega)]
      exact nI_nle (by omega) (by omega)
    · by_cases h2 : z = 0
      · exact br_t (by rw [eh, hz, h2]; rfl) (go true ⟨fun _ => Or.inr h2, fun _ => rfl⟩)
      · exact br_f (by rw [eh, hz]; exact nI_ne0 (by omega) (by omega)) (go false ⟨fun z => absurd z (by decide), fun z => by omega⟩)
end
end
section
/-! Y's run: leave, node -/
section
variable {Q : SY → Prop} {g_functionLimit g_nodeLimit g_depthLimit g_draftFor g_draftSize g_analysed g_level g_runMode g_runDepth g_lastSet g_hasValue g_recordValue g_recordCount g_recordSet : Int32} {b_arity b_bodySize b_bodyKind b_bodyData b_draftKind b_draftData b_heights b_truth b_next b_marks b_cellDefined b_cellValue b_levelFunction b_levelAt b_levelTop b_def b_val b_need b_count : Nat → Int32}
theorem yw_l2 {ar : Nat → Nat} {eg : Nat → Nat → Bool} {a : Nat → QQ} {b : QQ} {h L t : Nat} (hn : ar h ≤ 3) (ht : ar h ≤ t) (ht8 : t - ar h + 1 ≤ 8) (hL : L + 1 < 7)
    (hc : ∀ i, i < ar h → b_need (8 * L + (t - ar h + i)) = (a i).2.2.1 ∧ b_count (8 * L + (t - ar h + i)) = nI (a i).2.2.2)
    (hb1 : b_def (8 * (L + 1)) = y_b b.1) (hb2 : b_val (8 * (L + 1)) = b.2.1)
    (K : Q (g_functionLimit, g_nodeLimit, g_depthLimit, g_draftFor, g_draftSize, g_analysed, g_level, g_runMode, g_runDepth, (q_set ar eg h b), g_hasValue, g_recordValue, g_recordCount, g_recordSet, b_arity, b_bodySize, b_bodyKind, b_bodyData, b_draftKind, b_draftData, b_heights, b_truth, b_next, b_marks, b_cellDefined, b_cellValue, b_levelFunction, b_levelAt, b_levelTop, (upd b_def (8 * L + (t - ar h)) (y_b (q_cv ar eg h a b).1)), (upd b_val (8 * L + (t - ar h)) (q_cv ar eg h a b).2.1), (upd b_need (8 * L + (t - ar h)) (q_cv ar eg h a b).2.2.1), (upd b_count (8 * L + (t - ar h)) (nI (q_cv ar eg h a b).2.2.2)))) :
    ∀ m i, i + m = ar h → wY_leave_133 Q (nI (8 * (L + 1))) (nI (ar h)) (nI (8 * L + (t - ar h))) (q_set ar eg h b) g_functionLimit g_nodeLimit g_depthLimit g_draftFor g_draftSize g_analysed g_level g_runMode g_runDepth g_lastSet g_hasValue g_recordValue g_recordCount g_recordSet b_arity b_bodySize b_bodyKind b_bodyData b_draftKind b_draftData b_heights b_truth b_next b_marks b_cellDefined b_cellValue b_levelFunction b_levelAt b_levelTop b_def b_val b_need b_count (m + 1) (q_or (fun i => bt (q_set ar eg h b) i) (fun i => (a i).2.2.1) 0 i) (nI (q_su (fun i => bt (q_set ar eg h b) i) (fun i => (a i).2.2.2) (q_su (fun i => !eg h i) (fun _ => 1) b.2.2.2 (ar h)) i)) (nI i) := by
  intro m
  have e8 : (nI (8 * (L + 1))).toNatClampNeg = 8 * (L + 1) := nI_clamp (by omega)
  have hi8 : vp_in (nI (8 * (L + 1))) 56 := vp_in_nI (by omega) (by omega)
  induction m with
  | zero =>
    intro i hi
    have : i = ar h := by omega
    subst this
    refine br_t (nI_le (Nat.le_refl _) (by omega)) ⟨hi8, ?_⟩
    cases eb : b.1
    · have eq : q_cv ar eg h a b = q_u := if_neg (by rw [eb]; decide)
      rw [eq] at K
      exact br_t (by rw [e8, hb1, eb]; rfl) (yw_pu (by omega) K)
    · have eq : q_cv ar eg h a b = (true, b.2.1, q_nd ar eg h a b, q_ct ar eg h a b) := if_pos eb
      rw [eq] at K
      refine br_f (by rw [e8, hb1, eb]; decide) ⟨hi8, ?_⟩
      rw [e8, hb2]
      exact yw_put (by omega) K
  | succ m ih =>
    intro i hi
    have ih' := ih (i + 1) (by omega)
    have t1 : q_or (fun i => bt (q_set ar eg h b) i) (fun i => (a i).2.2.1) 0 (i + 1) = if bt (q_set ar eg h b) i = true then q_or (fun i => bt (q_set ar eg h b) i) (fun i => (a i).2.2.1) 0 i ||| (a i).2.2.1 else q_or (fun i => bt (q_set ar eg h b) i) (fun i => (a i).2.2.1) 0 i := rfl
    have t2 : ∀ z, q_su (fun i => bt (q_set ar eg h b) i) (fun i => (a i).2.2.2) z (i + 1) = if bt (q_set ar eg h b) i = true then q_su (fun i => bt (q_set ar eg h b) i) (fun i => (a i).2.2.2) z i + (a i).2.2.2 else q_su (fun i => bt (q_set ar eg h b) i) (fun i => (a i).2.2.2) z i := fun _ => rfl
    rw [t1, t2] at ih'
    have e2 : nI (8 * L + (t - ar h)) + nI i = nI (8 * L + (t - ar h + i)) := by rw [nI_add]; exact congrArg nI (by omega)
    have e3 : (nI (8 * L + (t - ar h)) + nI i).toNatClampNeg = 8 * L + (t - ar h + i) := by rw [e2]; exact nI_clamp (by omega)
    have hi3 : vp_in (nI (8 * L + (t - ar h)) + nI i) 56 := by rw [e2]; exact vp_in_nI (by omega) (by omega)
    obtain ⟨c1, c2⟩ := hc i (by omega)
    refine br_f (nI_ge (by omega) (by omega)) ?_
    by_cases eb : bt (q_set ar eg h b) i = true
    · rw [if_pos eb, if_pos eb] at ih'
      exact br_t ((sa_bo _ (by omega)).mpr eb) ⟨hi3, nm_r (by rw [e3, c1]) ⟨hi3, nm_r (by rw [e3, c2, nI_add]) (nm_r (nI_1 i) ih')⟩⟩
    · rw [if_neg eb, if_neg eb] at ih'
      exact br_f (fun z => eb ((sa_bo _ (by omega)).mp z)) (nm_r (nI_1 i) ih')
theorem yw_l1 {ar : Nat → Nat} {eg : Nat → Nat → Bool} {b : QQ} {h : Nat} {X2 X4 : Int32} (hn : ar h ≤ 3)
    (hE : ∀ i, i < ar h → ∀ R : Int32 → Prop, R (y_b (eg h i)) → wpY_eager R (g_functionLimit, g_nodeLimit, g_depthLimit, g_draftFor, g_draftSize, g_analysed, g_level, g_runMode, g_runDepth, g_lastSet, g_hasValue, g_recordValue, g_recordCount, g_recordSet, b_arity, b_bodySize, b_bodyKind, b_bodyData, b_draftKind, b_draftData, b_heights, b_truth, b_next, b_marks, b_cellDefined, b_cellValue, b_levelFunction, b_levelAt, b_levelTop, b_def, b_val, b_need, b_count) (nI h) (nI i))
    (K : ∃ n133, wY_leave_133 Q X2 (nI (ar h)) X4 (q_set ar eg h b) g_functionLimit g_nodeLimit g_depthLimit g_draftFor g_draftSize g_analysed g_level g_runMode g_runDepth g_lastSet g_hasValue g_recordValue g_recordCount g_recordSet b_arity b_bodySize b_bodyKind b_bodyData b_draftKind b_draftData b_heights b_truth b_next b_marks b_cellDefined b_cellValue b_levelFunction b_levelAt b_levelTop b_def b_val b_need b_count n133 0 (nI (q_su (fun i => !eg h i) (fun _ => 1) b.2.2.2 (ar h))) 0) :
    ∀ m i, i + m = ar h → wY_leave_93 Q (nI h) X2 (nI (ar h)) X4 0 g_functionLimit g_nodeLimit g_depthLimit g_draftFor g_draftSize g_analysed g_level g_runMode g_runDepth g_lastSet g_hasValue g_recordValue g_recordCount g_recordSet b_arity b_bodySize b_bodyKind b_bodyData b_draftKind b_draftData b_heights b_truth b_next b_marks b_cellDefined b_cellValue b_levelFunction b_levelAt b_levelTop b_def b_val b_need b_count (m + 1) (q_or (eg h) (fun i => (1 : Int32) <<< (nI i &&& 31)) b.2.2.1 i) (nI (q_su (fun i => !eg h i) (fun _ => 1) b.2.2.2 i)) (nI i) := by
  intro m
  induction m with
  | zero =>
    intro i hi
    have : i = ar h := by omega
    subst this
    exact br_t (nI_le (Nat.le_refl _) (by omega)) K
  | succ m ih =>
    intro i hi
    have ih' := ih (i + 1) (by omega)
    have t1 : q_or (eg h) (fun i => (1 : Int32) <<< (nI i &&& 31)) b.2.2.1 (i + 1) = if eg h i = true then q_or (eg h) (fun i => (1 : Int32) <<< (nI i &&& 31)) b.2.2.1 i ||| ((1 : Int32) <<< (nI i &&& 31)) else q_or (eg h) (fun i => (1 : Int32) <<< (nI i &&& 31)) b.2.2.1 i := rfl
    have t2 : q_su (fun i => !eg h i) (fun _ => 1) b.2.2.2 (i + 1) = if (!eg h i) = true then q_su (fun i => !eg h i) (fun _ => 1) b.2.2.2 i + 1 else q_su (fun i => !eg h i) (fun _ => 1) b.2.2.2 i := rfl
    rw [t1, t2] at ih'
    refine br_f (nI_ge (by omega) (by omega)) (hE i (by omega) _ ?_)
    cases ee : eg h i
    · rw [ee, if_neg (by decide), if_pos (by decide)] at ih'
      exact br_t rfl (nm_r (nI_1 _) (nm_r (nI_1 i) ih'))
    · rw [ee, if_pos rfl, if_neg (by decide)] at ih'
      exact br_f (by decide) (nm_e (nm_r (nI_1 i) ih'))
theorem yw_lv {ar : Nat → Nat} {eg : Nat → Nat → Bool} {a : Nat → QQ} {b : QQ} {h L t : Nat} (hh : h < 4) (hn : ar h ≤ 3) (ht : ar h ≤ t) (ht8 : t - ar h + 1 ≤ 8) (htt : t ≤ 8) (hL : L + 1 < 7) (har : b_arity h = nI (ar h)) (hlf : b_levelFunction (L + 1) = nI h) (hlt : b_levelTop L = nI t)
    (hc : ∀ i, i < ar h → b_need (8 * L + (t - ar h + i)) = (a i).2.2.1 ∧ b_count (8 * L + (t - ar h + i)) = nI (a i).2.2.2)
    (hb1 : b_def (8 * (L + 1)) = y_b b.1) (hb2 : b_val (8 * (L + 1)) = b.2.1) (hb3 : b_need (8 * (L + 1)) = b.2.2.1) (hb4 : b_count (8 * (L + 1)) = nI b.2.2.2)
    (hE : ∀ i, i < ar h → ∀ R : Int32 → Prop, R (y_b (eg h i)) → wpY_eager R (g_functionLimit, g_nodeLimit, g_depthLimit, g_draftFor, g_draftSize, g_analysed, (nI L), g_runMode, g_runDepth, g_lastSet, g_hasValue, g_recordValue, g_recordCount, g_recordSet, b_arity, b_bodySize, b_bodyKind, b_bodyData, b_draftKind, b_draftData, b_heights, b_truth, b_next, b_marks, b_cellDefined, b_cellValue, b_levelFunction, b_levelAt, (upd b_levelTop L (nI (t - ar h + 1))), b_def, b_val, b_need, b_count) (nI h) (nI i))
    (K : Q (g_functionLimit, g_nodeLimit, g_depthLimit, g_draftFor, g_draftSize, g_analysed, (nI L), g_runMode, g_runDepth, (q_set ar eg h b), g_hasValue, g_recordValue, g_recordCount, g_recordSet, b_arity, b_bodySize, b_bodyKind, b_bodyData, b_draftKind, b_draftData, b_heights, b_truth, b_next, b_marks, b_cellDefined, b_cellValue, b_levelFunction, b_levelAt, (upd b_levelTop L (nI (t - ar h + 1))), (upd b_def (8 * L + (t - ar h)) (y_b (q_cv ar eg h a b).1)), (upd b_val (8 * L + (t - ar h)) (q_cv ar eg h a b).2.1), (upd b_need (8 * L + (t - ar h)) (q_cv ar eg h a b).2.2.1), (upd b_count (8 * L + (t - ar h)) (nI (q_cv ar eg h a b).2.2.2)))) : wpY_leave Q (g_functionLimit, g_nodeLimit, g_depthLimit, g_draftFor, g_draftSize, g_analysed, (nI (L + 1)), g_runMode, g_runDepth, g_lastSet, g_hasValue, g_recordValue, g_recordCount, g_recordSet, b_arity, b_bodySize, b_bodyKind, b_bodyData, b_draftKind, b_draftData, b_heights, b_truth, b_next, b_marks, b_cellDefined, b_cellValue, b_levelFunction, b_levelAt, b_levelTop, b_def, b_val, b_need, b_count) := by
  unfold wpY_leave
  have e1 : (nI (L + 1)).toNatClampNeg = L + 1 := nI_clamp (by omega)
  have eL : (nI L).toNatClampNeg = L := nI_clamp (by omega)
  have eh : (nI h).toNatClampNeg = h := nI_clamp (by omega)
  have e8 : (nI (8 * (L + 1))).toNatClampNeg = 8 * (L + 1) := nI_clamp (by omega)
  have hi8 : vp_in (nI (8 * (L + 1))) 56 := vp_in_nI (by omega) (by omega)
  have hiL : vp_in (nI L) 7 := vp_in_nI (by omega) (by omega)
  refine ⟨vp_in_nI hL (by omega), nm_r (e' := nI h) (by rw [e1]; exact hlf) (nm_r (sa_m8 (L + 1)) ⟨vp_in_nI hh (by omega), nm_r (e' := nI (ar h)) (by rw [eh]; exact har) (nm_r (nI_pred L) ⟨hiL, nm_r (e' := nI (8 * L + (t - ar h))) ?_ ⟨hiL, hiL, nm_r (e' := upd b_levelTop L (nI (t - ar h + 1))) ?_ ⟨hi8, nm_r (e' := b.2.2.1) (by rw [e8]; exact hb3) ⟨hi8, nm_r (e' := nI b.2.2.2) (by rw [e8]; exact hb4) ⟨ar h + 1, ?_⟩⟩⟩⟩⟩)⟩)⟩
  · rw [eL, hlt, sa_m8, nI_add, pk_sub (by omega)]
    exact congrArg nI (by omega)
  · rw [eL, hlt, sa_lt ht]
  · refine yw_l1 hn hE ⟨ar h + 1, ?_⟩ (ar h) 0 (by omega)
    exact yw_l2 hn ht ht8 hL hc hb1 hb2 K (ar h) 0 (by omega)
/-! a node with operands -/
theorem yw_377 {k x6 z0 : Nat} {o x : QQ} {v : Int32} (hk1 : 1 ≤ k) (hk7 : k ≤ 7) (h6 : x6 < 56) (h0 : z0 < 56) (ho1 : b_def z0 = y_b o.1) (hv : ¬ (nI k = 4 ∧ o.2.1 = 0) → v = q_cb (nI k) x.2.1 o.2.1)
    (hx3 : b_need x6 = x.2.2.1) (hx4 : b_count x6 = nI x.2.2.2) (ho3 : b_need z0 = o.2.2.1) (ho4 : b_count z0 = nI o.2.2.2)
    (K : Q (g_functionLimit, g_nodeLimit, g_depthLimit, g_draftFor, g_draftSize, g_analysed, g_level, g_runMode, g_runDepth, g_lastSet, g_hasValue, g_recordValue, g_recordCount, g_recordSet, b_arity, b_bodySize, b_bodyKind, b_bodyData, b_draftKind, b_draftData, b_heights, b_truth, b_next, b_marks, b_cellDefined, b_cellValue, b_levelFunction, b_levelAt, b_levelTop, (upd b_def (x6) (y_b (q_b (nI k) x o).1)), (upd b_val (x6) (q_b (nI k) x o).2.1), (upd b_need (x6) (q_b (nI k) x o).2.2.1), (upd b_count (x6) (nI (q_b (nI k) x o).2.2.2)))) : wY_node_377 Q (nI k) (nI x6) (nI z0) o.2.1 v g_functionLimit g_nodeLimit g_depthLimit g_draftFor g_draftSize g_analysed g_level g_runMode g_runDepth g_lastSet g_hasValue g_recordValue g_recordCount g_recordSet b_arity b_bodySize b_bodyKind b_bodyData b_draftKind b_draftData b_heights b_truth b_next b_marks b_cellDefined b_cellValue b_levelFunction b_levelAt b_levelTop b_def b_val b_need b_count := by
  unfold wY_node_377
  have ez : (nI z0).toNatClampNeg = z0 := nI_clamp (by omega)
  have e6 : (nI x6).toNatClampNeg = x6 := nI_clamp (by omega)
  have hiz : vp_in (nI z0) 56 := vp_in_nI h0 (by omega)
  have hi6 : vp_in (nI x6) 56 := vp_in_nI h6 (by omega)
  unfold q_b at K
  refine ⟨hiz, ?_⟩
  cases eo : o.1
  · rw [if_pos eo] at K
    refine br_t (by rw [ez, ho1, eo]; rfl) ?_
    unfold wY_node_397
    exact yw_pu h6 K
  · rw [if_neg (by rw [eo]; decide)] at K
    refine br_f (by rw [ez, ho1, eo]; decide) ?_
    by_cases hz : nI k = 4 ∧ o.2.1 = 0
    · rw [if_pos hz] at K
      refine br_t hz.1 (br_t hz.2 ?_)
      unfold wY_node_397
      exact yw_pu h6 K
    · rw [if_neg hz] at K
      have g : wY_node_406 Q (nI x6) (nI z0) v g_functionLimit g_nodeLimit g_depthLimit g_draftFor g_draftSize g_analysed g_level g_runMode g_runDepth g_lastSet g_hasValue g_recordValue g_recordCount g_recordSet b_arity b_bodySize b_bodyKind b_bodyData b_draftKind b_draftData b_heights b_truth b_next b_marks b_cellDefined b_cellValue b_levelFunction b_levelAt b_levelTop b_def b_val b_need b_count := by
        unfold wY_node_406
        refine ⟨hi6, hiz, hi6, hiz, ?_⟩
        rw [e6, ez, hx3, hx4, ho3, ho4, nI_add, hv hz]
        exact yw_put h6 K
      by_cases h4 : nI k = 4
      · exact br_t h4 (br_f (fun z => hz ⟨h4, z⟩) g)
      · exact br_f h4 g
theorem yw_297 {k : Nat} {X6 Z0 x y : Int32} (hk1 : 1 ≤ k) (hk7 : k ≤ 7)
    (G : ∀ v, (¬ (nI k = 4 ∧ y = 0) → v = q_cb (nI k) x y) → wY_node_377 Q (nI k) X6 Z0 y v g_functionLimit g_nodeLimit g_depthLimit g_draftFor g_draftSize g_analysed g_level g_runMode g_runDepth g_lastSet g_hasValue g_recordValue g_recordCount g_recordSet b_arity b_bodySize b_bodyKind b_bodyData b_draftKind b_draftData b_heights b_truth b_next b_marks b_cellDefined b_cellValue b_levelFunction b_levelAt b_levelTop b_def b_val b_need b_count) : (nI k = 1 → ∀ v, v = x + y → wY_node_297 Q (nI k) X6 Z0 x y v g_functionLimit g_nodeLimit g_depthLimit g_draftFor g_draftSize g_analysed g_level g_runMode g_runDepth g_lastSet g_hasValue g_recordValue g_recordCount g_recordSet b_arity b_bodySize b_bodyKind b_bodyData b_draftKind b_draftData b_heights b_truth b_next b_marks b_cellDefined b_cellValue b_levelFunction b_levelAt b_levelTop b_def b_val b_need b_count) ∧ (¬ nI k = 1 → wY_node_297 Q (nI k) X6 Z0 x y y g_functionLimit g_nodeLimit g_depthLimit g_draftFor g_draftSize g_analysed g_level g_runMode g_runDepth g_lastSet g_hasValue g_recordValue g_recordCount g_recordSet b_arity b_bodySize b_bodyKind b_bodyData b_draftKind b_draftData b_heights b_truth b_next b_marks b_cellDefined b_cellValue b_levelFunction b_levelAt b_levelTop b_def b_val b_need b_count) := by
  by_cases h1 : k = 1
  · subst h1
    exact br_t rfl (nm_e (br_f (by decide) (br_f (by decide) (br_f (by decide) (br_f (by decide) (br_f (by decide) (G _ (fun _ => rfl))))))))
  by_cases h2 : k = 2
  · subst h2
    exact br_f (by decide) (br_t rfl (nm_e (br_f (by decide) (br_f (by decide) (br_f (by decide) (br_f (by decide) (G _ (fun _ => rfl))))))))
  by_cases h3 : k = 3
  · subst h3
    exact br_f (by decide) (br_f (by decide) (br_t rfl (nm_e (br_f (by decide) (br_f (by decide) (br_f (by decide) (G _ (fun _ => rfl))))))))
  by_cases h4 : k = 4
  · subst h4
    refine br_f (by decide) (br_f (by decide) (br_f (by decide) (br_t rfl ?_)))
    by_cases y0 : y = 0
    · exact br_t y0 (br_f (by decide) (br_f (by decide) (G _ (fun z => absurd ⟨rfl, y0⟩ z))))
    · exact br_f y0 ⟨y0, nm_e (br_f (by decide) (br_f (by decide) (G _ (fun _ => rfl))))⟩
  by_cases h5 : k = 5
  · subst h5
    refine br_f (by decide) (br_f (by decide) (br_f (by decide) (br_f (by decide) (br_t rfl ?_))))
    have e : q_cb (nI 5) x y = if y ≤ x then 0 else 1 := rfl
    by_cases yx : y ≤ x
    · refine br_t yx ?_
      unfold wY_node_355
      exact br_f (by decide) (G _ (fun _ => by rw [e, if_pos yx]))
    · refine br_f yx ?_
      unfold wY_node_355
      exact br_f (by decide) (G _ (fun _ => by rw [e, if_neg yx]))
  by_cases h6 : k = 6
  · subst h6
    refine br_f (by decide) (br_f (by decide) (br_f (by decide) (br_f (by decide) (br_f (by decide) (br_t rfl ?_)))))
    have e : q_cb (nI 6) x y = if x = y then 1 else 0 := rfl
    by_cases yx : x = y
    · refine br_t yx ?_
      unfold wY_node_375
      exact G _ (fun _ => by rw [e, if_pos yx])
    · refine br_f yx ?_
      unfold wY_node_375
      exact G _ (fun _ => by rw [e, if_neg yx])
  have h7 : k = 7 := by omega
  subst h7
  exact br_f (by decide) (br_f (by decide) (br_f (by decide) (br_f (by decide) (br_f (by decide) (br_f (by decide) (G _ (fun _ => rfl)))))))
theorem yw_261 {k x6 z0 : Nat} {o x : QQ} (hk1 : 1 ≤ k) (hk7 : k ≤ 7) (h6 : x6 < 56) (h0 : z0 < 56) (ho1 : b_def z0 = y_b o.1)
    (hx2 : b_val x6 = x.2.1) (ho2 : b_val z0 = o.2.1) (hx3 : b_need x6 = x.2.2.1) (hx4 : b_count x6 = nI x.2.2.2) (ho3 : b_need z0 = o.2.2.1) (ho4 : b_count z0 = nI o.2.2.2)
    (K : Q (g_functionLimit, g_nodeLimit, g_depthLimit, g_draftFor, g_draftSize, g_analysed, g_level, g_runMode, g_runDepth, g_lastSet, g_hasValue, g_recordValue, g_recordCount, g_recordSet, b_arity, b_bodySize, b_bodyKind, b_bodyData, b_draftKind, b_draftData, b_heights, b_truth, b_next, b_marks, b_cellDefined, b_cellValue, b_levelFunction, b_levelAt, b_levelTop, (upd b_def (x6) (y_b (q_b (nI k) x o).1)), (upd b_val (x6) (q_b (nI k) x o).2.1), (upd b_need (x6) (q_b (nI k) x o).2.2.1), (upd b_count (x6) (nI (q_b (nI k) x o).2.2.2)))) : wY_node_261 Q (nI k) (nI x6) (nI z0) g_functionLimit g_nodeLimit g_depthLimit g_draftFor g_draftSize g_analysed g_level g_runMode g_runDepth g_lastSet g_hasValue g_recordValue g_recordCount g_recordSet b_arity b_bodySize b_bodyKind b_bodyData b_draftKind b_draftData b_heights b_truth b_next b_marks b_cellDefined b_cellValue b_levelFunction b_levelAt b_levelTop b_def b_val b_need b_count := by
  unfold wY_node_261
  have ez : (nI z0).toNatClampNeg = z0 := nI_clamp (by omega)
  have e6 : (nI x6).toNatClampNeg = x6 := nI_clamp (by omega)
  refine ⟨vp_in_nI h6 (by omega), nm_r (e' := x.2.1) (by rw [e6]; exact hx2) ⟨vp_in_nI h0 (by omega), nm_r (e' := o.2.1) (by rw [ez]; exact ho2) ?_⟩⟩
  exact yw_297 hk1 hk7 (fun v hv => yw_377 hk1 hk7 h6 h0 ho1 hv hx3 hx4 ho3 ho4 K)
end
end
section
/-! Y's run obeys the rules -/
section
variable {Q : SY → Prop} {g_functionLimit g_nodeLimit g_depthLimit g_draftFor g_draftSize g_analysed g_level g_runMode g_runDepth g_lastSet g_hasValue g_recordValue g_recordCount g_recordSet : Int32} {b_arity b_bodySize b_bodyKind b_bodyData b_draftKind b_draftData b_heights b_truth b_next b_marks b_cellDefined b_cellValue b_levelFunction b_levelAt b_levelTop b_def b_val b_need b_count : Nat → Int32}
theorem yw_nd {kd dt : Nat → Int32} {ar : Nat → Nat} {cal : Nat → (Nat → QQ) → QQ} {env a : Nat → QQ} {g p j t t' L k : Nat} (hg : g < 4) (hj : j = 16 * g + p) (hj64 : j < 64) (hp : p < 16) (hL : L + 1 < 7) (hlf : b_levelFunction (L + 1) = nI g) (hla : b_levelAt (L + 1) = nI p) (hlt : b_levelTop (L + 1) = nI t) (hlt' : b_levelTop L = nI t') (ht8 : t ≤ 8)
    (hkd : b_bodyKind j = kd j) (hdt : b_bodyData j = dt j) (hk : kd j = nI k) (hk9 : k ≤ 9) (h9 : kd j = 9 → ∃ i, i < ar g ∧ dt j = nI i) (har3 : ar g ≤ 3) (har : b_arity g = nI (ar g)) (hn : q_on kd dt ar j ≤ t) (hn8 : t - q_on kd dt ar j + 1 ≤ 8) (hat : ar g ≤ t') (ht8' : t' ≤ 8)
    (hc : ∀ i, i < q_on kd dt ar j → b_def (8 * (L + 1) + (t - q_on kd dt ar j + i)) = y_b (a i).1 ∧ b_val (8 * (L + 1) + (t - q_on kd dt ar j + i)) = (a i).2.1 ∧ b_need (8 * (L + 1) + (t - q_on kd dt ar j + i)) = (a i).2.2.1 ∧ b_count (8 * (L + 1) + (t - q_on kd dt ar j + i)) = nI (a i).2.2.2)
    (he : ∀ i, i < ar g → b_def (8 * L + (t' - ar g + i)) = y_b (env i).1 ∧ b_val (8 * L + (t' - ar g + i)) = (env i).2.1)
    (K : Q (g_functionLimit, g_nodeLimit, g_depthLimit, g_draftFor, g_draftSize, g_analysed, (nI (L + 1)), g_runMode, g_runDepth, g_lastSet, g_hasValue, g_recordValue, g_recordCount, g_recordSet, b_arity, b_bodySize, b_bodyKind, b_bodyData, b_draftKind, b_draftData, b_heights, b_truth, b_next, b_marks, b_cellDefined, b_cellValue, b_levelFunction, (upd b_levelAt (L + 1) (nI (p + 1))), (upd b_levelTop (L + 1) (nI (t - q_on kd dt ar j + 1))), (upd b_def (8 * (L + 1) + (t - q_on kd dt ar j)) (y_b (q_f kd dt ar cal env j a).1)), (upd b_val (8 * (L + 1) + (t - q_on kd dt ar j)) (q_f kd dt ar cal env j a).2.1), (upd b_need (8 * (L + 1) + (t - q_on kd dt ar j)) (q_f kd dt ar cal env j a).2.2.1), (upd b_count (8 * (L + 1) + (t - q_on kd dt ar j)) (nI (q_f kd dt ar cal env j a).2.2.2)))) : wpY_node Q (g_functionLimit, g_nodeLimit, g_depthLimit, g_draftFor, g_draftSize, g_analysed, (nI (L + 1)), g_runMode, g_runDepth, g_lastSet, g_hasValue, g_recordValue, g_recordCount, g_recordSet, b_arity, b_bodySize, b_bodyKind, b_bodyData, b_draftKind, b_draftData, b_heights, b_truth, b_next, b_marks, b_cellDefined, b_cellValue, b_levelFunction, b_levelAt, b_levelTop, b_def, b_val, b_need, b_count) := by
  unfold wpY_node
  have e1 : (nI (L + 1)).toNatClampNeg = L + 1 := nI_clamp (by omega)
  have ej : (nI j).toNatClampNeg = j := nI_clamp (by omega)
  have hi7 : vp_in (nI (L + 1)) 7 := vp_in_nI hL (by omega)
  have hij : vp_in (nI j) 64 := vp_in_nI hj64 (by omega)
  have d : ∀ l, l < 2 ^ 31 → l ≠ k → ¬ nI k = nI l := fun l hl hne z => hne (((nI_eq (by omega) hl).mp z).symm)
  have d10 : ¬ kd j = 10 := by rw [hk]; exact d 10 (by decide) (by omega)
  refine ⟨hi7, nm_r (e' := nI g) (by rw [e1]; exact hlf) ⟨hi7, nm_r (e' := nI j) (by rw [e1, hla, sa_m16, nI_add, hj]) ⟨hij, nm_r (e' := kd j) (by rw [ej]; exact hkd) ⟨hij, nm_r (e' := dt j) (by rw [ej]; exact hdt) ⟨hi7, hi7, nm_r (e' := upd b_levelAt (L + 1) (nI (p + 1))) (by rw [e1, hla, nI_1]) (br_f d10 ?_)⟩⟩⟩⟩⟩
  refine yw_on (ar := ar) (fun z => absurd z d10) ⟨hi7, nm_r (e' := nI (8 * (L + 1) + (t - q_on kd dt ar j))) ?_ ⟨hi7, hi7, nm_r (e' := upd b_levelTop (L + 1) (nI (t - q_on kd dt ar j + 1))) (by rw [e1, hlt, sa_lt hn]) ?_⟩⟩
  · rw [e1, hlt, sa_m8, nI_add, pk_sub (by omega)]
    exact congrArg nI (by omega)
  unfold q_f at K
  by_cases h8 : kd j = 8
  · rw [if_pos h8] at K
    exact br_t h8 (yw_put (by omega) K)
  rw [if_neg h8] at K
  refine br_f h8 ?_
  by_cases h9' : kd j = 9
  · rw [if_pos h9'] at K
    obtain ⟨i, hi, edt⟩ := h9 h9'
    have ecl : (dt j).toNatClampNeg = i := by rw [edt]; exact nI_clamp (by omega)
    rw [ecl] at K
    obtain ⟨c1, c2⟩ := he i hi
    have el : nI (L + 1) - 1 = nI L := nI_pred L
    have eL : (nI L).toNatClampNeg = L := nI_clamp (by omega)
    have eg : (nI g).toNatClampNeg = g := nI_clamp (by omega)
    have e7 : (nI (8 * L + (t' - ar g + i))).toNatClampNeg = 8 * L + (t' - ar g + i) := nI_clamp (by omega)
    have hi7' : vp_in (nI (8 * L + (t' - ar g + i))) 56 := vp_in_nI (by omega) (by omega)
    refine br_t h9' ⟨by rw [el]; exact vp_in_nI (by omega) (by omega), vp_in_nI hg (by omega), nm_r (e' := nI (8 * L + (t' - ar g + i))) ?_ ⟨hi7', ?_⟩⟩
    · rw [el, eL, eg, pk_un (by omega), hlt', har, edt, sa_m8, nI_add, pk_sub (by omega), nI_add]
      exact congrArg nI (by omega)
    · cases ed : (env i).1
      · rw [if_neg (by rw [ed]; decide)] at K
        exact br_t (by rw [e7, c1, ed]; rfl) (yw_pu (by omega) K)
      · rw [if_pos ed] at K
        refine br_f (by rw [e7, c1, ed]; decide) ⟨hi7', ?_⟩
        rw [e7, c2]
        exact yw_put (by omega) K
  rw [if_neg h9'] at K
  refine br_f h9' ?_
  by_cases h0 : kd j = 0
  · rw [if_pos h0] at K
    refine br_t h0 ?_
    unfold wY_node_225
    exact yw_pu (by omega) K
  rw [if_neg h0, if_neg d10] at K
  have hk8 : k ≠ 8 := fun z => h8 (by rw [hk, z]; rfl)
  have hk9' : k ≠ 9 := fun z => h9' (by rw [hk, z]; rfl)
  have hk0 : k ≠ 0 := fun z => h0 (by rw [hk, z]; rfl)
  have on2 : 2 ≤ q_on kd dt ar j := by
    unfold q_on
    rw [if_neg h0, if_neg h8, if_neg h9', if_neg d10]
    by_cases h7 : kd j = 7
    · rw [if_pos h7]; omega
    · rw [if_neg h7]; omega
  have on3 : k = 7 → q_on kd dt ar j = 3 := by
    intro z
    unfold q_on
    rw [if_neg h0, if_neg h8, if_neg h9', if_neg d10, if_pos (by rw [hk, z]; rfl)]
  generalize q_on kd dt ar j = n at *
  have e6 : (nI (8 * (L + 1) + (t - n))).toNatClampNeg = 8 * (L + 1) + (t - n) := nI_clamp (by omega)
  have hi6 : vp_in (nI (8 * (L + 1) + (t - n))) 56 := vp_in_nI (by omega) (by omega)
  have hc0 : b_def (8 * (L + 1) + (t - n)) = y_b (a 0).1 ∧ b_val (8 * (L + 1) + (t - n)) = (a 0).2.1 ∧ b_need (8 * (L + 1) + (t - n)) = (a 0).2.2.1 ∧ b_count (8 * (L + 1) + (t - n)) = nI (a 0).2.2.2 := hc 0 (by omega)
  obtain ⟨c1, c2, c3, c4⟩ := hc0
  obtain ⟨x1, x2, x3, x4⟩ := hc 1 (by omega)
  have eo : 8 * (L + 1) + (t - n) + 1 = 8 * (L + 1) + (t - n + 1) := by omega
  refine br_f h0 ⟨hi6, ?_⟩
  cases ed : (a 0).1
  · rw [if_pos ed] at K
    refine br_t (by rw [e6, c1, ed]; rfl) ?_
    unfold wY_node_225
    exact yw_pu (by omega) K
  · rw [if_neg (by rw [ed]; decide)] at K
    refine br_f (by rw [e6, c1, ed]; decide) ?_
    rw [hk] at K ⊢
    by_cases h7 : k = 7
    · have h7' : nI k = 7 := by rw [h7]; rfl
      obtain ⟨y1, y2, y3, y4⟩ := hc 2 (by have := on3 h7; omega)
      have eo2 : 8 * (L + 1) + (t - n) + 2 = 8 * (L + 1) + (t - n + 2) := by omega
      have on3' := on3 h7
      refine br_t h7' ⟨hi6, ?_⟩
      by_cases hv : (a 0).2.1 = 0
      · rw [if_pos ⟨h7', hv⟩] at K
        refine br_t (by rw [e6, c2]; exact hv) ?_
        rw [sa_c2, eo2]
        exact yw_261 (by omega) (by omega) (by omega) (by omega) y1 c2 y2 c3 c4 y3 y4 K
      · rw [if_neg (fun z => hv z.2)] at K
        refine br_f (by rw [e6, c2]; exact hv) ?_
        unfold wY_node_257
        rw [nI_1, eo]
        exact yw_261 (by omega) (by omega) (by omega) (by omega) x1 c2 x2 c3 c4 x3 x4 K
    · have h7' : ¬ nI k = 7 := d 7 (by decide) (by omega)
      rw [if_neg (fun z => h7' z.1)] at K
      refine br_f h7' ?_
      unfold wY_node_257
      rw [nI_1, eo]
      exact yw_261 (by omega) (by omega) (by omega) (by omega) x1 c2 x2 c3 c4 x3 x4 K
theorem yw_nc {g p j h L : Nat} (hg : g < 4) (hj : j = 16 * g + p) (hj64 : j < 64) (hp : p < 16) (hL : L < 7) (hlf : b_levelFunction L = nI g) (hla : b_levelAt L = nI p) (hkd : b_bodyKind j = 10) (hdt : b_bodyData j = nI h)
    (K : ∀ P : SY → Prop, (∀ (g_functionLimit' g_nodeLimit' g_depthLimit' g_draftFor' g_draftSize' g_analysed' g_level' g_runMode' g_runDepth' g_lastSet' g_hasValue' g_recordValue' g_recordCount' g_recordSet' : Int32) (b_arity' b_bodySize' b_bodyKind' b_bodyData' b_draftKind' b_draftData' b_heights' b_truth' b_next' b_marks' b_cellDefined' b_cellValue' b_levelFunction' b_levelAt' b_levelTop' b_def' b_val' b_need' b_count' : Nat → Int32), Q (g_functionLimit', g_nodeLimit', g_depthLimit', g_draftFor', g_draftSize', g_analysed', g_level', g_runMode', g_runDepth', g_lastSet', g_hasValue', g_recordValue', g_recordCount', g_recordSet', b_arity', b_bodySize', b_bodyKind', b_bodyData', b_draftKind', b_draftData', b_heights', b_truth', b_next', b_marks', b_cellDefined', b_cellValue', b_levelFunction', b_levelAt', b_levelTop', b_def', b_val', b_need', b_count') → P (g_functionLimit', g_nodeLimit', g_depthLimit', g_draftFor', g_draftSize', g_analysed', g_level', g_runMode', g_runDepth', g_lastSet', g_hasValue', g_recordValue', g_recordCount', g_recordSet', b_arity', b_bodySize', b_bodyKind', b_bodyData', b_draftKind', b_draftData', b_heights', b_truth', b_next', b_marks', b_cellDefined', b_cellValue', b_levelFunction', b_levelAt', b_levelTop', b_def', b_val', b_need', b_count')) → wpY_enter P (g_functionLimit, g_nodeLimit, g_depthLimit, g_draftFor, g_draftSize, g_analysed, (nI L), g_runMode, g_runDepth, g_lastSet, g_hasValue, g_recordValue, g_recordCount, g_recordSet, b_arity, b_bodySize, b_bodyKind, b_bodyData, b_draftKind, b_draftData, b_heights, b_truth, b_next, b_marks, b_cellDefined, b_cellValue, b_levelFunction, (upd b_levelAt L (nI (p + 1))), b_levelTop, b_def, b_val, b_need, b_count) (nI h)) : wpY_node Q (g_functionLimit, g_nodeLimit, g_depthLimit, g_draftFor, g_draftSize, g_analysed, (nI L), g_runMode, g_runDepth, g_lastSet, g_hasValue, g_recordValue, g_recordCount, g_recordSet, b_arity, b_bodySize, b_bodyKind, b_bodyData, b_draftKind, b_draftData, b_heights, b_truth, b_next, b_marks, b_cellDefined, b_cellValue, b_levelFunction, b_levelAt, b_levelTop, b_def, b_val, b_need, b_count) := by
  unfold wpY_node
  have e1 : (nI L).toNatClampNeg = L := nI_clamp (by omega)
  have ej : (nI j).toNatClampNeg = j := nI_clamp (by omega)
  have hi7 : vp_in (nI L) 7 := vp_in_nI hL (by omega)
  have hij : vp_in (nI j) 64 := vp_in_nI hj64 (by omega)
  refine ⟨hi7, nm_r (e' := nI g) (by rw [e1]; exact hlf) ⟨hi7, nm_r (e' := nI j) (by rw [e1, hla, sa_m16, nI_add, hj]) ⟨hij, nm_r (e' := 10) (by rw [ej]; exact hkd) ⟨hij, nm_r (e' := nI h) (by rw [ej]; exact hdt) ⟨hi7, hi7, nm_r (e' := upd b_levelAt L (nI (p + 1))) (by rw [e1, hla, nI_1]) (br_t rfl ?_)⟩⟩⟩⟩⟩
  refine K _ ?_
  intro g_functionLimit' g_nodeLimit' g_depthLimit' g_draftFor' g_draftSize' g_analysed' g_level' g_runMode' g_runDepth' g_lastSet' g_hasValue' g_recordValue' g_recordCount' g_recordSet' b_arity' b_bodySize' b_bodyKind' b_bodyData' b_draftKind' b_draftData' b_heights' b_truth' b_next' b_marks' b_cellDefined' b_cellValue' b_levelFunction' b_levelAt' b_levelTop' b_def' b_val' b_need' b_count' h
  exact h
end
end
section
/-! Y's run obeys the rules: the interface -/
section
variable (post : Int32 → SY → Prop) (g_functionLimit g_nodeLimit g_depthLimit g_draftFor g_draftSize g_analysed g_runMode g_runDepth g_hasValue g_recordValue g_recordCount g_recordSet : Int32) (b_arity b_bodySize b_bodyKind b_bodyData b_draftKind b_draftData b_heights b_truth b_next b_marks b_cellDefined b_cellValue : Nat → Int32)
def yr_R (s : YS) : Prop := ∀ n, 2001 ≤ n + y_x s → wY_run_146 post n (nI (y_x s)) g_functionLimit g_nodeLimit g_depthLimit g_draftFor g_draftSize g_analysed (nI (y_l s)) g_runMode g_runDepth (y_ls s) g_hasValue g_recordValue g_recordCount g_recordSet b_arity b_bodySize b_bodyKind b_bodyData b_draftKind b_draftData b_heights b_truth b_next b_marks b_cellDefined b_cellValue (y_lf s) (y_la s) (y_lt s) (y_df s) (y_vl s) (y_ne s) (y_co s)
end
section
variable (g_functionLimit g_nodeLimit g_depthLimit g_draftFor g_draftSize g_analysed g_runMode g_runDepth g_hasValue g_recordValue g_recordCount g_recordSet : Int32) (b_arity b_bodySize b_bodyKind b_bodyData b_draftKind b_draftData b_heights b_truth b_next b_marks b_cellDefined b_cellValue : Nat → Int32)
/-- eager as the reference asks it -/
def ye_L (ar : Nat → Nat) (eg : Nat → Nat → Bool) (dc : Nat → Bool) : Prop := ∀ (g_level g_lastSet : Int32) (b_levelFunction b_levelAt b_levelTop b_def b_val b_need b_count : Nat → Int32) (h i : Nat), h < 4 → dc h = true → i < ar h → ∀ R : Int32 → Prop, R (y_b (eg h i)) → wpY_eager R (g_functionLimit, g_nodeLimit, g_depthLimit, g_draftFor, g_draftSize, g_analysed, g_level, g_runMode, g_runDepth, g_lastSet, g_hasValue, g_recordValue, g_recordCount, g_recordSet, b_arity, b_bodySize, b_bodyKind, b_bodyData, b_draftKind, b_draftData, b_heights, b_truth, b_next, b_marks, b_cellDefined, b_cellValue, b_levelFunction, b_levelAt, b_levelTop, b_def, b_val, b_need, b_count) (nI h) (nI i)
end
/-- what the reference's walks ask of its program arrays -/
def yr_ok (kd dt : Nat → Int32) (ar sz : Nat → Nat) (dc : Nat → Bool) (b_arity b_bodySize b_bodyKind b_bodyData : Nat → Int32) : Prop :=
  (∀ h, h < 4 → b_bodySize h = nI (sz h) ∧ sz h ≤ 16 ∧ (0 < sz h → dc h = true) ∧ (dc h = true → ar h ≤ 3 ∧ b_arity h = nI (ar h)))
  ∧ (∀ j, j < 64 → b_bodyKind j = kd j ∧ b_bodyData j = dt j)
  ∧ (∀ g, g < 4 → ∀ p, p < sz g → pg_nd kd dt (16 * g + p) (ar g) ∧ (kd (16 * g + p) = 10 → ∀ h, h < 4 → dt (16 * g + p) = nI h → dc h = true))
section
variable {post : Int32 → SY → Prop} {g_functionLimit g_nodeLimit g_depthLimit g_draftFor g_draftSize g_analysed g_level g_runMode g_runDepth g_lastSet g_hasValue g_recordValue g_recordCount g_recordSet : Int32} {b_arity b_bodySize b_bodyKind b_bodyData b_draftKind b_draftData b_heights b_truth b_next b_marks b_cellDefined b_cellValue b_levelFunction b_levelAt b_levelTop b_def b_val b_need b_count : Nat → Int32}
theorem yr_lv {n x L h z p : Nat} (hx : x < 2000) (hL : L + 1 < 7) (hh : h < 4) (hlf : b_levelFunction (L + 1) = nI h) (hz : b_bodySize h = nI z) (hla : b_levelAt (L + 1) = nI p) (hp : p ≤ 16) (c : z ≤ p)
    (K : ∀ P : SY → Prop, (∀ (g_functionLimit' g_nodeLimit' g_depthLimit' g_draftFor' g_draftSize' g_analysed' g_level' g_runMode' g_runDepth' g_lastSet' g_hasValue' g_recordValue' g_recordCount' g_recordSet' : Int32) (b_arity' b_bodySize' b_bodyKind' b_bodyData' b_draftKind' b_draftData' b_heights' b_truth' b_next' b_marks' b_cellDefined' b_cellValue' b_levelFunction' b_levelAt' b_levelTop' b_def' b_val' b_need' b_count' : Nat → Int32), wY_run_146 post n (nI (x + 1)) g_functionLimit' g_nodeLimit' g_depthLimit' g_draftFor' g_draftSize' g_analysed' g_level' g_runMode' g_runDepth' g_lastSet' g_hasValue' g_recordValue' g_recordCount' g_recordSet' b_arity' b_bodySize' b_bodyKind' b_bodyData' b_draftKind' b_draftData' b_heights' b_truth' b_next' b_marks' b_cellDefined' b_cellValue' b_levelFunction' b_levelAt' b_levelTop' b_def' b_val' b_need' b_count' → P (g_functionLimit', g_nodeLimit', g_depthLimit', g_draftFor', g_draftSize', g_analysed', g_level', g_runMode', g_runDepth', g_lastSet', g_hasValue', g_recordValue', g_recordCount', g_recordSet', b_arity', b_bodySize', b_bodyKind', b_bodyData', b_draftKind', b_draftData', b_heights', b_truth', b_next', b_marks', b_cellDefined', b_cellValue', b_levelFunction', b_levelAt', b_levelTop', b_def', b_val', b_need', b_count')) → wpY_leave P (g_functionLimit, g_nodeLimit, g_depthLimit, g_draftFor, g_draftSize, g_analysed, (nI (L + 1)), g_runMode, g_runDepth, g_lastSet, g_hasValue, g_recordValue, g_recordCount, g_recordSet, b_arity, b_bodySize, b_bodyKind, b_bodyData, b_draftKind, b_draftData, b_heights, b_truth, b_next, b_marks, b_cellDefined, b_cellValue, b_levelFunction, b_levelAt, b_levelTop, b_def, b_val, b_need, b_count)) : wY_run_146 post (n + 1) (nI x) g_functionLimit g_nodeLimit g_depthLimit g_draftFor g_draftSize g_analysed (nI (L + 1)) g_runMode g_runDepth g_lastSet g_hasValue g_recordValue g_recordCount g_recordSet b_arity b_bodySize b_bodyKind b_bodyData b_draftKind b_draftData b_heights b_truth b_next b_marks b_cellDefined b_cellValue b_levelFunction b_levelAt b_levelTop b_def b_val b_need b_count := by
  have e1 : (nI (L + 1)).toNatClampNeg = L + 1 := nI_clamp (by omega)
  have eh : (nI h).toNatClampNeg = h := nI_clamp (by omega)
  have hi7 : vp_in (nI (L + 1)) 7 := vp_in_nI hL (by omega)
  refine br_f (nI_ge (b := 2000) hx (by decide)) (br_f (nI_nle (by omega) (by omega)) ⟨hi7, hi7, by rw [e1, hlf]; exact vp_in_nI hh (by omega), br_t ?_ (K _ ?_)⟩)
  · rw [e1, hlf, eh, hz, hla]
    exact nI_le c (by omega)
  · intro g_functionLimit' g_nodeLimit' g_depthLimit' g_draftFor' g_draftSize' g_analysed' g_level' g_runMode' g_runDepth' g_lastSet' g_hasValue' g_recordValue' g_recordCount' g_recordSet' b_arity' b_bodySize' b_bodyKind' b_bodyData' b_draftKind' b_draftData' b_heights' b_truth' b_next' b_marks' b_cellDefined' b_cellValue' b_levelFunction' b_levelAt' b_levelTop' b_def' b_val' b_need' b_count' h
    exact nm_r (nI_1 x) h
theorem yr_nd {n x L h z p : Nat} (hx : x < 2000) (hL : L + 1 < 7) (hh : h < 4) (hlf : b_levelFunction (L + 1) = nI h) (hz : b_bodySize h = nI z) (hla : b_levelAt (L + 1) = nI p) (hz16 : z ≤ 16) (c : p < z)
    (K : ∀ P : SY → Prop, (∀ (g_functionLimit' g_nodeLimit' g_depthLimit' g_draftFor' g_draftSize' g_analysed' g_level' g_runMode' g_runDepth' g_lastSet' g_hasValue' g_recordValue' g_recordCount' g_recordSet' : Int32) (b_arity' b_bodySize' b_bodyKind' b_bodyData' b_draftKind' b_draftData' b_heights' b_truth' b_next' b_marks' b_cellDefined' b_cellValue' b_levelFunction' b_levelAt' b_levelTop' b_def' b_val' b_need' b_count' : Nat → Int32), wY_run_146 post n (nI (x + 1)) g_functionLimit' g_nodeLimit' g_depthLimit' g_draftFor' g_draftSize' g_analysed' g_level' g_runMode' g_runDepth' g_lastSet' g_hasValue' g_recordValue' g_recordCount' g_recordSet' b_arity' b_bodySize' b_bodyKind' b_bodyData' b_draftKind' b_draftData' b_heights' b_truth' b_next' b_marks' b_cellDefined' b_cellValue' b_levelFunction' b_levelAt' b_levelTop' b_def' b_val' b_need' b_count' → P (g_functionLimit', g_nodeLimit', g_depthLimit', g_draftFor', g_draftSize', g_analysed', g_level', g_runMode', g_runDepth', g_lastSet', g_hasValue', g_recordValue', g_recordCount', g_recordSet', b_arity', b_bodySize', b_bodyKind', b_bodyData', b_draftKind', b_draftData', b_heights', b_truth', b_next', b_marks', b_cellDefined', b_cellValue', b_levelFunction', b_levelAt', b_levelTop', b_def', b_val', b_need', b_count')) → wpY_node P (g_functionLimit, g_nodeLimit, g_depthLimit, g_draftFor, g_draftSize, g_analysed, (nI (L + 1)), g_runMode, g_runDepth, g_lastSet, g_hasValue, g_recordValue, g_recordCount, g_recordSet, b_arity, b_bodySize, b_bodyKind, b_bodyData, b_draftKind, b_draftData, b_heights, b_truth, b_next, b_marks, b_cellDefined, b_cellValue, b_levelFunction, b_levelAt, b_levelTop, b_def, b_val, b_need, b_count)) : wY_run_146 post (n + 1) (nI x) g_functionLimit g_nodeLimit g_depthLimit g_draftFor g_draftSize g_analysed (nI (L + 1)) g_runMode g_runDepth g_lastSet g_hasValue g_recordValue g_recordCount g_recordSet b_arity b_bodySize b_bodyKind b_bodyData b_draftKind b_draftData b_heights b_truth b_next b_marks b_cellDefined b_cellValue b_levelFunction b_levelAt b_levelTop b_def b_val b_need b_count := by
  have e1 : (nI (L + 1)).toNatClampNeg = L + 1 := nI_clamp (by omega)
  have eh : (nI h).toNatClampNeg = h := nI_clamp (by omega)
  have hi7 : vp_in (nI (L + 1)) 7 := vp_in_nI hL (by omega)
  refine br_f (nI_ge (b := 2000) hx (by decide)) (br_f (nI_nle (by omega) (by omega)) ⟨hi7, hi7, by rw [e1, hlf]; exact vp_in_nI hh (by omega), br_f ?_ (K _ ?_)⟩)
  · rw [e1, hlf, eh, hz, hla]
    exact nI_ge c (by omega)
  · intro g_functionLimit' g_nodeLimit' g_depthLimit' g_draftFor' g_draftSize' g_analysed' g_level' g_runMode' g_runDepth' g_lastSet' g_hasValue' g_recordValue' g_recordCount' g_recordSet' b_arity' b_bodySize' b_bodyKind' b_bodyData' b_draftKind' b_draftData' b_heights' b_truth' b_next' b_marks' b_cellDefined' b_cellValue' b_levelFunction' b_levelAt' b_levelTop' b_def' b_val' b_need' b_count' h
    exact nm_r (nI_1 x) h
variable {kd dt : Nat → Int32} {ar sz : Nat → Nat} {eg : Nat → Nat → Bool} {dc : Nat → Bool} {RD : Nat}
theorem yr_1 (ho : yr_ok kd dt ar sz dc b_arity b_bodySize b_bodyKind b_bodyData) : ∀ s l g p t j a env cal t', y_x s < 2000 → y_l s = l + 1 → l + 1 < 7 → g < 4 → y_lf s (l + 1) = nI g → y_la s (l + 1) = nI p → p < sz g → j = 16 * g + p → y_lt s (l + 1) = nI t → t ≤ 8 → kd j ≠ 10 → q_on kd dt ar j ≤ t → t - q_on kd dt ar j + 1 ≤ 8 →
      (∀ i, i < q_on kd dt ar j → y_c s (8 * (l + 1) + (t - q_on kd dt ar j + i)) (a i)) → y_lt s l = nI t' → ar g ≤ t' → t' ≤ 8 → (∀ i, i < ar g → y_c s (8 * l + (t' - ar g + i)) (env i)) →
      yr_R post g_functionLimit g_nodeLimit g_depthLimit g_draftFor g_draftSize g_analysed g_runMode g_runDepth g_hasValue g_recordValue g_recordCount g_recordSet b_arity b_bodySize b_bodyKind b_bodyData b_draftKind b_draftData b_heights b_truth b_next b_marks b_cellDefined b_cellValue (y_nd s (l + 1) p t (q_on kd dt ar j) (q_f kd dt ar cal env j a)) → yr_R post g_functionLimit g_nodeLimit g_depthLimit g_draftFor g_draftSize g_analysed g_runMode g_runDepth g_hasValue g_recordValue g_recordCount g_recordSet b_arity b_bodySize b_bodyKind b_bodyData b_draftKind b_draftData b_heights b_truth b_next b_marks b_cellDefined b_cellValue s := by
  intro s l g p t j a env cal t' hx hl hl7 hg hlf hla hp hj hlt ht8 h10 hn hn8 hc hlt' hat ht8' he hR n hn2
  obtain ⟨m, rfl⟩ : ∃ m, n = m + 1 := ⟨n - 1, by omega⟩
  obtain ⟨o1, o2, o3, o4⟩ := ho.1 g hg
  obtain ⟨o5, o6⟩ := o4 (o3 (by omega))
  obtain ⟨⟨k, hk, ek⟩, p9, _⟩ := (ho.2.2 g hg p hp).1
  have hk9 : k ≤ 9 := by
    have : k ≠ 10 := fun z => h10 (by rw [hj, ek, z]; rfl)
    omega
  obtain ⟨b1, b2⟩ := ho.2.1 j (by omega)
  rw [hl]
  refine yr_nd hx hl7 hg hlf o1 hla o2 hp (fun P hP => ?_)
  refine yw_nd (kd := kd) (dt := dt) (cal := cal) (env := env) (a := a) (k := k) hg hj (by omega) (by omega) hl7 hlf hla hlt hlt' ht8 b1 b2 (by rw [hj]; exact ek) hk9 (by rw [hj]; exact p9) o5 o6 hn hn8 hat ht8' hc (fun i hi => ⟨(he i hi).1, (he i hi).2.1⟩) ?_
  refine hP _ _ _ _ _ _ _ _ _ _ _ _ _ _ _ _ _ _ _ _ _ _ _ _ _ _ _ _ _ _ _ _ _ ?_
  have R := hR m (by show 2001 ≤ m + (y_x s + 1); omega)
  have e : y_l (y_nd s (l + 1) p t (q_on kd dt ar j) (q_f kd dt ar cal env j a)) = l + 1 := hl
  rw [e] at R
  exact R
theorem yr_2 (ho : yr_ok kd dt ar sz dc b_arity b_bodySize b_bodyKind b_bodyData) (hE : ye_L g_functionLimit g_nodeLimit g_depthLimit g_draftFor g_draftSize g_analysed g_runMode (nI RD) g_hasValue g_recordValue g_recordCount g_recordSet b_arity b_bodySize b_bodyKind b_bodyData b_draftKind b_draftData b_heights b_truth b_next b_marks b_cellDefined b_cellValue ar eg dc) (hRD : RD ≤ 6) : ∀ s l g p t j h a, y_x s < 2000 → y_l s = l + 1 → l + 1 < 7 → g < 4 → y_lf s (l + 1) = nI g → y_la s (l + 1) = nI p → p < sz g → j = 16 * g + p → y_lt s (l + 1) = nI t → t ≤ 8 → kd j = 10 → dt j = nI h → h < 4 → ar h ≤ t → t - ar h + 1 ≤ 8 →
      (∀ i, i < ar h → y_c s (8 * (l + 1) + (t - ar h + i)) (a i)) → ((RD ≤ l + 1 ∨ sz h = 0 ∨ q_st eg h a (ar h) = true) →
      yr_R post g_functionLimit g_nodeLimit g_depthLimit g_draftFor g_draftSize g_analysed g_runMode (nI RD) g_hasValue g_recordValue g_recordCount g_recordSet b_arity b_bodySize b_bodyKind b_bodyData b_draftKind b_draftData b_heights b_truth b_next b_marks b_cellDefined b_cellValue (y_nd s (l + 1) p t (ar h) q_u)) → (l + 1 < RD → 0 < sz h → q_st eg h a (ar h) = false → yr_R post g_functionLimit g_nodeLimit g_depthLimit g_draftFor g_draftSize g_analysed g_runMode (nI RD) g_hasValue g_recordValue g_recordCount g_recordSet b_arity b_bodySize b_bodyKind b_bodyData b_draftKind b_draftData b_heights b_truth b_next b_marks b_cellDefined b_cellValue (y_en s (l + 1) p h)) → yr_R post g_functionLimit g_nodeLimit g_depthLimit g_draftFor g_draftSize g_analysed g_runMode (nI RD) g_hasValue g_recordValue g_recordCount g_recordSet b_arity b_bodySize b_bodyKind b_bodyData b_draftKind b_draftData b_heights b_truth b_next b_marks b_cellDefined b_cellValue s := by
  intro s l g p t j h a hx hl hl7 hg hlf hla hp hj hlt ht8 h10 hdt hh hn hn8 hc hR1 hR2 n hn2
  obtain ⟨m, rfl⟩ : ∃ m, n = m + 1 := ⟨n - 1, by omega⟩
  obtain ⟨o1, o2, o3, o4⟩ := ho.1 g hg
  have hdc := (ho.2.2 g hg p hp).2 (by rw [← hj]; exact h10) h hh (by rw [← hj]; exact hdt)
  obtain ⟨q1, q2, q3, q4⟩ := ho.1 h hh
  obtain ⟨q5, q6⟩ := q4 hdc
  obtain ⟨b1, b2⟩ := ho.2.1 j (by omega)
  rw [hl]
  refine yr_nd hx hl7 hg hlf o1 hla o2 hp (fun P hP => ?_)
  refine yw_nc hg hj (by omega) (by omega) hl7 hlf hla (b1.trans h10) (b2.trans hdt) (fun P' hP' => ?_)
  refine yw_en (eg := eg) (a := a) hh q5 hn hn8 ht8 hl7 hlt q6 q1 q2 hRD (fun i hi => (hc i hi).1) (fun i hi R hR => hE _ _ _ _ _ _ _ _ _ h i hh hdc hi R hR) (fun z => ?_) (fun z1 z2 z3 => ?_)
  · refine hP' _ _ _ _ _ _ _ _ _ _ _ _ _ _ _ _ _ _ _ _ _ _ _ _ _ _ _ _ _ _ _ _ _ (hP _ _ _ _ _ _ _ _ _ _ _ _ _ _ _ _ _ _ _ _ _ _ _ _ _ _ _ _ _ _ _ _ _ ?_)
    have R := hR1 z m (by show 2001 ≤ m + (y_x s + 1); omega)
    have e : y_l (y_nd s (l + 1) p t (ar h) q_u) = l + 1 := hl
    rw [e] at R
    exact R
  · refine hP' _ _ _ _ _ _ _ _ _ _ _ _ _ _ _ _ _ _ _ _ _ _ _ _ _ _ _ _ _ _ _ _ _ (hP _ _ _ _ _ _ _ _ _ _ _ _ _ _ _ _ _ _ _ _ _ _ _ _ _ _ _ _ _ _ _ _ _ ?_)
    exact hR2 z1 z2 z3 m (by show 2001 ≤ m + (y_x s + 1); omega)
theorem yr_4 (ho : yr_ok kd dt ar sz dc b_arity b_bodySize b_bodyKind b_bodyData) (hE : ye_L g_functionLimit g_nodeLimit g_depthLimit g_draftFor g_draftSize g_analysed g_runMode g_runDepth g_hasValue g_recordValue g_recordCount g_recordSet b_arity b_bodySize b_bodyKind b_bodyData b_draftKind b_draftData b_heights b_truth b_next b_marks b_cellDefined b_cellValue ar eg dc) : ∀ s l h t a b, y_x s < 2000 → y_l s = l + 1 → l + 1 < 7 → h < 4 → 0 < sz h → y_lf s (l + 1) = nI h → y_la s (l + 1) = nI (sz h) → y_lt s l = nI t → t ≤ 8 → ar h ≤ t → t - ar h + 1 ≤ 8 →
      (∀ i, i < ar h → y_c s (8 * l + (t - ar h + i)) (a i)) → y_c s (8 * (l + 1)) b →
      yr_R post g_functionLimit g_nodeLimit g_depthLimit g_draftFor g_draftSize g_analysed g_runMode g_runDepth g_hasValue g_recordValue g_recordCount g_recordSet b_arity b_bodySize b_bodyKind b_bodyData b_draftKind b_draftData b_heights b_truth b_next b_marks b_cellDefined b_cellValue (y_lv s l t (ar h) (q_set ar eg h b) (q_cv ar eg h a b)) → yr_R post g_functionLimit g_nodeLimit g_depthLimit g_draftFor g_draftSize g_analysed g_runMode g_runDepth g_hasValue g_recordValue g_recordCount g_recordSet b_arity b_bodySize b_bodyKind b_bodyData b_draftKind b_draftData b_heights b_truth b_next b_marks b_cellDefined b_cellValue s := by
  intro s l h t a b hx hl hl7 hh hs hlf hla hlt ht8 hn hn8 hc hb hR n hn2
  obtain ⟨m, rfl⟩ : ∃ m, n = m + 1 := ⟨n - 1, by omega⟩
  obtain ⟨q1, q2, q3, q4⟩ := ho.1 h hh
  have hdc := q3 hs
  obtain ⟨q5, q6⟩ := q4 hdc
  rw [hl]
  refine yr_lv hx hl7 hh hlf q1 hla q2 (Nat.le_refl _) (fun P hP => ?_)
  refine yw_lv (ar := ar) (eg := eg) (a := a) (b := b) hh q5 hn hn8 ht8 hl7 q6 hlf hlt (fun i hi => (hc i hi).2.2) hb.1 hb.2.1 hb.2.2.1 hb.2.2.2 (fun i hi R hR => hE _ _ _ _ _ _ _ _ _ h i hh hdc hi R hR) ?_
  exact hP _ _ _ _ _ _ _ _ _ _ _ _ _ _ _ _ _ _ _ _ _ _ _ _ _ _ _ _ _ _ _ _ _ (hR m (by show 2001 ≤ m + (y_x s + 1); omega))
theorem yr_ym (ho : yr_ok kd dt ar sz dc b_arity b_bodySize b_bodyKind b_bodyData) (hE : ye_L g_functionLimit g_nodeLimit g_depthLimit g_draftFor g_draftSize g_analysed g_runMode (nI RD) g_hasValue g_recordValue g_recordCount g_recordSet b_arity b_bodySize b_bodyKind b_bodyData b_draftKind b_draftData b_heights b_truth b_next b_marks b_cellDefined b_cellValue ar eg dc) (hRD : RD ≤ 6) : ym_ok kd dt ar sz eg RD (yr_R post g_functionLimit g_nodeLimit g_depthLimit g_draftFor g_draftSize g_analysed g_runMode (nI RD) g_hasValue g_recordValue g_recordCount g_recordSet b_arity b_bodySize b_bodyKind b_bodyData b_draftKind b_draftData b_heights b_truth b_next b_marks b_cellDefined b_cellValue) :=
  ⟨yr_1 ho,
   fun s l g p t j h a h1 h2 h3 h4 h5 h6 h7 h8 h9 h10 h11 h12 hh h13 h14 h15 h16 h17 => yr_2 ho hE hRD s l g p t j h a h1 h2 h3 h4 h5 h6 h7 h8 h9 h10 h11 h12 hh h13 h14 h15 (fun _ => h17) (fun z1 z2 z3 => absurd h16 (by
      rintro (z | z | z)
      · omega
      · omega
      · rw [z3] at z; exact absurd z (by decide))),
   fun s l g p t j h a h1 h2 h3 h4 h5 h6 h7 h8 h9 h10 h11 h12 hh h13 h14 h15 h16 h17 h18 h19 => yr_2 ho hE hRD s l g p t j h a h1 h2 (by omega) h4 h5 h6 h7 h8 h9 h10 h11 h12 hh h13 h14 h15 (fun z => absurd z (by
      rintro (z | z | z)
      · omega
      · omega
      · rw [h18] at z; exact absurd z (by decide))) (fun _ _ _ => h19),
   yr_4 ho hE⟩
end
end
section
/-! the relation -/
def h_mx (a : Nat → Nat) : Nat → Nat
  | 0 => 0
  | n + 1 => if a n ≤ h_mx a n then h_mx a n else a n
def h_t (o : Nat → Nat) (m k : Nat) : Nat := sk_a o (fun p a => h_mx a (o p) + 1) 0 m k
section
variable (kd dt : Nat → Int32) (ar : Nat → Nat) (dc : Nat → Bool)
/-- sound code: s nodes from b on, with n parameters -/
def rl_B (b s n : Nat) : Prop :=
  (∀ p, p < s → pg_nd kd dt (b + p) n ∧ (kd (b + p) = 10 → ∀ h, h < 4 → dt (b + p) = nI h → dc h = true))
  ∧ (∀ p, p < s → q_o kd dt ar b p ≤ sk_l (q_o kd dt ar b) p ∧ sk_l (q_o kd dt ar b) (p + 1) ≤ 8)
  ∧ su (fun q => if kd (b + q) = 10 then 1 else 0) s ≤ 2
/-- X's operand numbers of that code -/
def rl_C (ch : Nat → Int32) (b s e : Nat) : Prop := ∀ p, p < s → ∀ i, i < q_o kd dt ar b p → ch (3 * (b + p) + i) = nI (e + sk_c (q_o kd dt ar b) p i)
end
/-- declared functions and bodies -/
def rl_P (F : Nat) (dc : Nat → Bool) (ar sz : Nat → Nat) (a_declared a_arity a_size a_kindAt a_datumAt a_childAt b_arity b_bodySize b_bodyKind b_bodyData : Nat → Int32) : Prop :=
  (∀ h, ar h ≤ 3)
  ∧ (∀ h, h < 4 → (dc h = true → h < F ∧ a_declared h = 1 ∧ a_arity h = nI (ar h) ∧ b_arity h = nI (ar h)) ∧ (dc h = false → ar h = 0 ∧ sz h = 0 ∧ a_declared h = 0 ∧ a_arity h = 0 ∧ b_arity h = -1))
  ∧ (∀ h, h < 4 → a_size h = nI (sz h) ∧ b_bodySize h = nI (sz h) ∧ sz h ≤ 16)
  ∧ (∀ j, j < 64 → b_bodyKind j = a_kindAt j ∧ b_bodyData j = a_datumAt j)
  ∧ (∀ g, g < 4 → rl_B a_kindAt a_datumAt ar dc (16 * g) (sz g) (ar g) ∧ (0 < sz g → sk_l (q_o a_kindAt a_datumAt ar (16 * g)) (sz g) = 1) ∧ rl_C a_kindAt a_datumAt ar a_childAt (16 * g) (sz g) (16 * g))
/-- the draft -/
def rl_D (NL : Nat) (dc : Nat → Bool) (ar : Nat → Nat) (f_draftOpen f_draftFor f_draftNodes f_draftCalls f_treeCount : Int32) (a_kindAt a_datumAt a_childAt a_treeRoot a_treeHeight : Nat → Int32) (g_draftFor g_draftSize : Int32) (b_draftKind b_draftData : Nat → Int32) : Prop :=
  (∀ p, p < 16 → b_draftKind p = a_kindAt (64 + p) ∧ b_draftData p = a_datumAt (64 + p))
  ∧ ((f_draftOpen = 0 ∧ g_draftFor = -1)
    ∨ ∃ df m, (df < 4 ∧ dc df = true ∧ m ≤ NL) ∧ f_draftOpen = 1 ∧ f_draftFor = nI df ∧ g_draftFor = nI df ∧ f_draftNodes = nI m ∧ g_draftSize = nI m
      ∧ f_draftCalls = nI (su (fun q => if a_kindAt (64 + q) = 10 then 1 else 0) m) ∧ f_treeCount = nI (sk_l (q_o a_kindAt a_datumAt ar 64) m)
      ∧ (∀ k, k < sk_l (q_o a_kindAt a_datumAt ar 64) m → a_treeRoot k = nI (sk_r (q_o a_kindAt a_datumAt ar 64) m k) ∧ a_treeHeight k = nI (h_t (q_o a_kindAt a_datumAt ar 64) m k) ∧ h_t (q_o a_kindAt a_datumAt ar 64) m k ≤ 6)
      ∧ rl_B a_kindAt a_datumAt ar dc 64 m (ar df) ∧ rl_C a_kindAt a_datumAt ar a_childAt 64 m 0)
def rl_A (ar : Nat → Nat) (f_analysed g_analysed : Int32) (a_tables b_truth : Nat → Int32) : Prop :=
  f_analysed = g_analysed ∧ (f_analysed = 0 ∨ (f_analysed = 1 ∧ ∃ T : Nat → Nat → Bool, ∀ h, h < 4 → (∀ i, i < 32 → bt (a_tables h) i = T h i) ∧ (∀ i, 2 ^ ar h ≤ i → T h i = false) ∧ ∀ c, c < 8 → b_truth (8 * h + c) = y_b (T h c)))
def rl_K (a_cellDefined a_cellValue b_cellDefined b_cellValue : Nat → Int32) : Prop :=
  ∀ i, i < 3 → b_cellDefined i = a_cellDefined i ∧ (a_cellDefined i = 0 ∨ (a_cellDefined i = 1 ∧ b_cellValue i = a_cellValue i))
def rl_V (f_recordValue f_recordThunks f_recordNeeds g_hasValue g_recordValue g_recordCount g_recordSet : Int32) : Prop :=
  (g_hasValue = 0 ∧ f_recordValue = 0 ∧ f_recordThunks = -1 ∧ f_recordNeeds = 0) ∨ (g_hasValue = 1 ∧ f_recordValue = g_recordValue ∧ f_recordThunks = g_recordCount ∧ ∀ i, i < 3 → bt f_recordNeeds i = bt g_recordSet i)
def rl_L (F NL DL : Nat) (f_functionCount f_nodeLimit f_depthLimit g_functionLimit g_nodeLimit g_depthLimit : Int32) : Prop :=
  (1 ≤ F ∧ F ≤ 4 ∧ 4 ≤ NL ∧ NL ≤ 16 ∧ 1 ≤ DL ∧ DL ≤ 6) ∧ f_functionCount = nI F ∧ f_nodeLimit = nI NL ∧ f_depthLimit = nI DL ∧ g_functionLimit = nI F ∧ g_nodeLimit = nI NL ∧ g_depthLimit = nI DL
def rl_F (f_functionCount : Int32) (f_nodeLimit : Int32) (f_depthLimit : Int32) (f_draftOpen : Int32) (f_draftFor : Int32) (f_draftNodes : Int32) (f_draftCalls : Int32) (f_treeCount : Int32) (f_analysed : Int32) (f_recordValue : Int32) (f_recordThunks : Int32) (f_recordNeeds : Int32) (a_declared : Nat → Int32) (a_arity : Nat → Int32) (a_size : Nat → Int32) (a_kindAt : Nat → Int32) (a_datumAt : Nat → Int32) (a_childAt : Nat → Int32) (a_treeRoot : Nat → Int32) (a_treeHeight : Nat → Int32) (a_tables : Nat → Int32) (a_cellDefined : Nat → Int32) (a_cellValue : Nat → Int32) (g_functionLimit : Int32) (g_nodeLimit : Int32) (g_depthLimit : Int32) (g_draftFor : Int32) (g_draftSize : Int32) (g_analysed : Int32) (g_hasValue : Int32) (g_recordValue : Int32) (g_recordCount : Int32) (g_recordSet : Int32) (b_arity : Nat → Int32) (b_bodySize : Nat → Int32) (b_bodyKind : Nat → Int32) (b_bodyData : Nat → Int32) (b_draftKind : Nat → Int32) (b_draftData : Nat → Int32) (b_truth : Nat → Int32) (b_cellDefined : Nat → Int32) (b_cellValue : Nat → Int32) : Prop :=
  ∃ (F NL DL : Nat) (dc : Nat → Bool) (ar sz : Nat → Nat),
    rl_L F NL DL f_functionCount f_nodeLimit f_depthLimit g_functionLimit g_nodeLimit g_depthLimit
    ∧ rl_P F dc ar sz a_declared a_arity a_size a_kindAt a_datumAt a_childAt b_arity b_bodySize b_bodyKind b_bodyData
    ∧ rl_D NL dc ar f_draftOpen f_draftFor f_draftNodes f_draftCalls f_treeCount a_kindAt a_datumAt a_childAt a_treeRoot a_treeHeight g_draftFor g_draftSize b_draftKind b_draftData
    ∧ rl_A ar f_analysed g_analysed a_tables b_truth
    ∧ rl_K a_cellDefined a_cellValue b_cellDefined b_cellValue
    ∧ rl_V f_recordValue f_recordThunks f_recordNeeds g_hasValue g_recordValue g_recordCount g_recordSet
/-- the relation of the two states -/
def i_Rel (k : Nat) (u : SX) (v : SY) : Prop := rl_F u.2.2.2.2.2.2.2.2.2.2.2.1 u.2.2.2.2.2.2.2.2.2.2.2.2.1 u.2.2.2.2.2.2.2.2.2.2.2.2.2.1 u.2.2.2.2.2.2.2.2.2.2.2.2.2.2.1 u.2.2.2.2.2.2.2.2.2.2.2.2.2.2.2.1 u.2.2.2.2.2.2.2.2.2.2.2.2.2.2.2.2.1 u.2.2.2.2.2.2.2.2.2.2.2.2.2.2.2.2.2.1 u.2.2.2.2.2.2.2.2.2.2.2.2.2.2.2.2.2.2.1 u.2.2.2.2.2.2.2.2.2.2.2.2.2.2.2.2.2.2.2.1 u.2.2.2.2.2.2.2.2.2.2.2.2.2.2.2.2.2.2.2.2.1 u.2.2.2.2.2.2.2.2.2.2.2.2.2.2.2.2.2.2.2.2.2.1 u.2.2.2.2.2.2.2.2.2.2.2.2.2.2.2.2.2.2.2.2.2.2.1 u.2.2.2.2.2.2.2.2.2.2.2.2.2.2.2.2.2.2.2.2.2.2.2.2.2.2.2.2.2.1 u.2.2.2.2.2.2.2.2.2.2.2.2.2.2.2.2.2.2.2.2.2.2.2.2.2.2.2.2.2.2.1 u.2.2.2.2.2.2.2.2.2.2.2.2.2.2.2.2.2.2.2.2.2.2.2.2.2.2.2.2.2.2.2.1 u.2.2.2.2.2.2.2.2.2.2.2.2.2.2.2.2.2.2.2.2.2.2.2.2.2.2.2.2.2.2.2.2.1 u.2.2.2.2.2.2.2.2.2.2.2.2.2.2.2.2.2.2.2.2.2.2.2.2.2.2.2.2.2.2.2.2.2.1 u.2.2.2.2.2.2.2.2.2.2.2.2.2.2.2.2.2.2.2.2.2.2.2.2.2.2.2.2.2.2.2.2.2.2.1 u.2.2.2.2.2.2.2.2.2.2.2.2.2.2.2.2.2.2.2.2.2.2.2.2.2.2.2.2.2.2.2.2.2.2.2.1 u.2.2.2.2.2.2.2.2.2.2.2.2.2.2.2.2.2.2.2.2.2.2.2.2.2.2.2.2.2.2.2.2.2.2.2.2.1 u.2.2.2.2.2.2.2.2.2.2.2.2.2.2.2.2.2.2.2.2.2.2.2.2.2.2.2.2.2.2.2.2.2.2.2.2.2.1 u.2.2.2.2.2.2.2.2.2.2.2.2.2.2.2.2.2.2.2.2.2.2.2.2.2.2.2.2.2.2.2.2.2.2.2.2.2.2.2.1 u.2.2.2.2.2.2.2.2.2.2.2.2.2.2.2.2.2.2.2.2.2.2.2.2.2.2.2.2.2.2.2.2.2.2.2.2.2.2.2.2.1 v.1 v.2.1 v.2.2.1 v.2.2.2.1 v.2.2.2.2.1 v.2.2.2.2.2.1 v.2.2.2.2.2.2.2.2.2.2.1 v.2.2.2.2.2.2.2.2.2.2.2.1 v.2.2.2.2.2.2.2.2.2.2.2.2.1 v.2.2.2.2.2.2.2.2.2.2.2.2.2.1 v.2.2.2.2.2.2.2.2.2.2.2.2.2.2.1 v.2.2.2.2.2.2.2.2.2.2.2.2.2.2.2.1 v.2.2.2.2.2.2.2.2.2.2.2.2.2.2.2.2.1 v.2.2.2.2.2.2.2.2.2.2.2.2.2.2.2.2.2.1 v.2.2.2.2.2.2.2.2.2.2.2.2.2.2.2.2.2.2.1 v.2.2.2.2.2.2.2.2.2.2.2.2.2.2.2.2.2.2.2.1 v.2.2.2.2.2.2.2.2.2.2.2.2.2.2.2.2.2.2.2.2.2.1 v.2.2.2.2.2.2.2.2.2.2.2.2.2.2.2.2.2.2.2.2.2.2.2.2.1 v.2.2.2.2.2.2.2.2.2.2.2.2.2.2.2.2.2.2.2.2.2.2.2.2.2.1
theorem i_up {k : Nat} {u : SX} {v : SY} (h : i_Rel k u v) : i_Rel (k + 4) u v := h
theorem zz_el {P : SX → SY → Prop} {k : Nat} {u : SX} {v : SY} (h : ∀ (f_literalKind f_paramKind f_callKind f_evalTask f_applyTask f_branchTask f_updateTask f_storeTask f_slotAbsent f_slotDelayed f_slotReady f_functionCount f_nodeLimit f_depthLimit f_draftOpen f_draftFor f_draftNodes f_draftCalls f_treeCount f_analysed f_recordValue f_recordThunks f_recordNeeds f_taskTop f_valueTop f_frameCount f_failed f_thunkCount f_demanded : Int32) (a_declared a_arity a_size a_kindAt a_datumAt a_childAt a_treeRoot a_treeHeight a_tables a_marks a_cellDefined a_cellValue a_eager a_taskKind a_taskSubject a_taskFrame a_valueStack a_frameDepth a_slotState a_slotValue a_slotNode a_slotFrame : Nat → Int32) (g_functionLimit g_nodeLimit g_depthLimit g_draftFor g_draftSize g_analysed g_level g_runMode g_runDepth g_lastSet g_hasValue g_recordValue g_recordCount g_recordSet : Int32) (b_arity b_bodySize b_bodyKind b_bodyData b_draftKind b_draftData b_heights b_truth b_next b_marks b_cellDefined b_cellValue b_levelFunction b_levelAt b_levelTop b_def b_val b_need b_count : Nat → Int32), rl_F f_functionCount f_nodeLimit f_depthLimit f_draftOpen f_draftFor f_draftNodes f_draftCalls f_treeCount f_analysed f_recordValue f_recordThunks f_recordNeeds a_declared a_arity a_size a_kindAt a_datumAt a_childAt a_treeRoot a_treeHeight a_tables a_cellDefined a_cellValue g_functionLimit g_nodeLimit g_depthLimit g_draftFor g_draftSize g_analysed g_hasValue g_recordValue g_recordCount g_recordSet b_arity b_bodySize b_bodyKind b_bodyData b_draftKind b_draftData b_truth b_cellDefined b_cellValue → P (f_literalKind, f_paramKind, f_callKind, f_evalTask, f_applyTask, f_branchTask, f_updateTask, f_storeTask, f_slotAbsent, f_slotDelayed, f_slotReady, f_functionCount, f_nodeLimit, f_depthLimit, f_draftOpen, f_draftFor, f_draftNodes, f_draftCalls, f_treeCount, f_analysed, f_recordValue, f_recordThunks, f_recordNeeds, f_taskTop, f_valueTop, f_frameCount, f_failed, f_thunkCount, f_demanded, a_declared, a_arity, a_size, a_kindAt, a_datumAt, a_childAt, a_treeRoot, a_treeHeight, a_tables, a_marks, a_cellDefined, a_cellValue, a_eager, a_taskKind, a_taskSubject, a_taskFrame, a_valueStack, a_frameDepth, a_slotState, a_slotValue, a_slotNode, a_slotFrame) (g_functionLimit, g_nodeLimit, g_depthLimit, g_draftFor, g_draftSize, g_analysed, g_level, g_runMode, g_runDepth, g_lastSet, g_hasValue, g_recordValue, g_recordCount, g_recordSet, b_arity, b_bodySize, b_bodyKind, b_bodyData, b_draftKind, b_draftData, b_heights, b_truth, b_next, b_marks, b_cellDefined, b_cellValue, b_levelFunction, b_levelAt, b_levelTop, b_def, b_val, b_need, b_count)) (I : i_Rel k u v) : P u v := h u.1 u.2.1 u.2.2.1 u.2.2.2.1 u.2.2.2.2.1 u.2.2.2.2.2.1 u.2.2.2.2.2.2.1 u.2.2.2.2.2.2.2.1 u.2.2.2.2.2.2.2.2.1 u.2.2.2.2.2.2.2.2.2.1 u.2.2.2.2.2.2.2.2.2.2.1 u.2.2.2.2.2.2.2.2.2.2.2.1 u.2.2.2.2.2.2.2.2.2.2.2.2.1 u.2.2.2.2.2.2.2.2.2.2.2.2.2.1 u.2.2.2.2.2.2.2.2.2.2.2.2.2.2.1 u.2.2.2.2.2.2.2.2.2.2.2.2.2.2.2.1 u.2.2.2.2.2.2.2.2.2.2.2.2.2.2.2.2.1 u.2.2.2.2.2.2.2.2.2.2.2.2.2.2.2.2.2.1 u.2.2.2.2.2.2.2.2.2.2.2.2.2.2.2.2.2.2.1 u.2.2.2.2.2.2.2.2.2.2.2.2.2.2.2.2.2.2.2.1 u.2.2.2.2.2.2.2.2.2.2.2.2.2.2.2.2.2.2.2.2.1 u.2.2.2.2.2.2.2.2.2.2.2.2.2.2.2.2.2.2.2.2.2.1 u.2.2.2.2.2.2.2.2.2.2.2.2.2.2.2.2.2.2.2.2.2.2.1 u.2.2.2.2.2.2.2.2.2.2.2.2.2.2.2.2.2.2.2.2.2.2.2.1 u.2.2.2.2.2.2.2.2.2.2.2.2.2.2.2.2.2.2.2.2.2.2.2.2.1 u.2.2.2.2.2.2.2.2.2.2.2.2.2.2.2.2.2.2.2.2.2.2.2.2.2.1 u.2.2.2.2.2.2.2.2.2.2.2.2.2.2.2.2.2.2.2.2.2.2.2.2.2.2.1 u.2.2.2.2.2.2.2.2.2.2.2.2.2.2.2.2.2.2.2.2.2.2.2.2.2.2.2.1 u.2.2.2.2.2.2.2.2.2.2.2.2.2.2.2.2.2.2.2.2.2.2.2.2.2.2.2.2.1 u.2.2.2.2.2.2.2.2.2.2.2.2.2.2.2.2.2.2.2.2.2.2.2.2.2.2.2.2.2.1 u.2.2.2.2.2.2.2.2.2.2.2.2.2.2.2.2.2.2.2.2.2.2.2.2.2.2.2.2.2.2.1 u.2.2.2.2.2.2.2.2.2.2.2.2.2.2.2.2.2.2.2.2.2.2.2.2.2.2.2.2.2.2.2.1 u.2.2.2.2.2.2.2.2.2.2.2.2.2.2.2.2.2.2.2.2.2.2.2.2.2.2.2.2.2.2.2.2.1 u.2.2.2.2.2.2.2.2.2.2.2.2.2.2.2.2.2.2.2.2.2.2.2.2.2.2.2.2.2.2.2.2.2.1 u.2.2.2.2.2.2.2.2.2.2.2.2.2.2.2.2.2.2.2.2.2.2.2.2.2.2.2.2.2.2.2.2.2.2.1 u.2.2.2.2.2.2.2.2.2.2.2.2.2.2.2.2.2.2.2.2.2.2.2.2.2.2.2.2.2.2.2.2.2.2.2.1 u.2.2.2.2.2.2.2.2.2.2.2.2.2.2.2.2.2.2.2.2.2.2.2.2.2.2.2.2.2.2.2.2.2.2.2.2.1 u.2.2.2.2.2.2.2.2.2.2.2.2.2.2.2.2.2.2.2.2.2.2.2.2.2.2.2.2.2.2.2.2.2.2.2.2.2.1 u.2.2.2.2.2.2.2.2.2.2.2.2.2.2.2.2.2.2.2.2.2.2.2.2.2.2.2.2.2.2.2.2.2.2.2.2.2.2.1 u.2.2.2.2.2.2.2.2.2.2.2.2.2.2.2.2.2.2.2.2.2.2.2.2.2.2.2.2.2.2.2.2.2.2.2.2.2.2.2.1 u.2.2.2.2.2.2.2.2.2.2.2.2.2.2.2.2.2.2.2.2.2.2.2.2.2.2.2.2.2.2.2.2.2.2.2.2.2.2.2.2.1 u.2.2.2.2.2.2.2.2.2.2.2.2.2.2.2.2.2.2.2.2.2.2.2.2.2.2.2.2.2.2.2.2.2.2.2.2.2.2.2.2.2.1 u.2.2.2.2.2.2.2.2.2.2.2.2.2.2.2.2.2.2.2.2.2.2.2.2.2.2.2.2.2.2.2.2.2.2.2.2.2.2.2.2.2.2.1 u.2.2.2.2.2.2.2.2.2.2.2.2.2.2.2.2.2.2.2.2.2.2.2.2.2.2.2.2.2.2.2.2.2.2.2.2.2.2.2.2.2.2.2.1 u.2.2.2.2.2.2.2.2.2.2.2.2.2.2.2.2.2.2.2.2.2.2.2.2.2.2.2.2.2.2.2.2.2.2.2.2.2.2.2.2.2.2.2.2.1 u.2.2.2.2.2.2.2.2.2.2.2.2.2.2.2.2.2.2.2.2.2.2.2.2.2.2.2.2.2.2.2.2.2.2.2.2.2.2.2.2.2.2.2.2.2.1 u.2.2.2.2.2.2.2.2.2.2.2.2.2.2.2.2.2.2.2.2.2.2.2.2.2.2.2.2.2.2.2.2.2.2.2.2.2.2.2.2.2.2.2.2.2.2.1 u.2.2.2.2.2.2.2.2.2.2.2.2.2.2.2.2.2.2.2.2.2.2.2.2.2.2.2.2.2.2.2.2.2.2.2.2.2.2.2.2.2.2.2.2.2.2.2.1 u.2.2.2.2.2.2.2.2.2.2.2.2.2.2.2.2.2.2.2.2.2.2.2.2.2.2.2.2.2.2.2.2.2.2.2.2.2.2.2.2.2.2.2.2.2.2.2.2.1 u.2.2.2.2.2.2.2.2.2.2.2.2.2.2.2.2.2.2.2.2.2.2.2.2.2.2.2.2.2.2.2.2.2.2.2.2.2.2.2.2.2.2.2.2.2.2.2.2.2.1 u.2.2.2.2.2.2.2.2.2.2.2.2.2.2.2.2.2.2.2.2.2.2.2.2.2.2.2.2.2.2.2.2.2.2.2.2.2.2.2.2.2.2.2.2.2.2.2.2.2.2 v.1 v.2.1 v.2.2.1 v.2.2.2.1 v.2.2.2.2.1 v.2.2.2.2.2.1 v.2.2.2.2.2.2.1 v.2.2.2.2.2.2.2.1 v.2.2.2.2.2.2.2.2.1 v.2.2.2.2.2.2.2.2.2.1 v.2.2.2.2.2.2.2.2.2.2.1 v.2.2.2.2.2.2.2.2.2.2.2.1 v.2.2.2.2.2.2.2.2.2.2.2.2.1 v.2.2.2.2.2.2.2.2.2.2.2.2.2.1 v.2.2.2.2.2.2.2.2.2.2.2.2.2.2.1 v.2.2.2.2.2.2.2.2.2.2.2.2.2.2.2.1 v.2.2.2.2.2.2.2.2.2.2.2.2.2.2.2.2.1 v.2.2.2.2.2.2.2.2.2.2.2.2.2.2.2.2.2.1 v.2.2.2.2.2.2.2.2.2.2.2.2.2.2.2.2.2.2.1 v.2.2.2.2.2.2.2.2.2.2.2.2.2.2.2.2.2.2.2.1 v.2.2.2.2.2.2.2.2.2.2.2.2.2.2.2.2.2.2.2.2.1 v.2.2.2.2.2.2.2.2.2.2.2.2.2.2.2.2.2.2.2.2.2.1 v.2.2.2.2.2.2.2.2.2.2.2.2.2.2.2.2.2.2.2.2.2.2.1 v.2.2.2.2.2.2.2.2.2.2.2.2.2.2.2.2.2.2.2.2.2.2.2.1 v.2.2.2.2.2.2.2.2.2.2.2.2.2.2.2.2.2.2.2.2.2.2.2.2.1 v.2.2.2.2.2.2.2.2.2.2.2.2.2.2.2.2.2.2.2.2.2.2.2.2.2.1 v.2.2.2.2.2.2.2.2.2.2.2.2.2.2.2.2.2.2.2.2.2.2.2.2.2.2.1 v.2.2.2.2.2.2.2.2.2.2.2.2.2.2.2.2.2.2.2.2.2.2.2.2.2.2.2.1 v.2.2.2.2.2.2.2.2.2.2.2.2.2.2.2.2.2.2.2.2.2.2.2.2.2.2.2.2.1 v.2.2.2.2.2.2.2.2.2.2.2.2.2.2.2.2.2.2.2.2.2.2.2.2.2.2.2.2.2.1 v.2.2.2.2.2.2.2.2.2.2.2.2.2.2.2.2.2.2.2.2.2.2.2.2.2.2.2.2.2.2.1 v.2.2.2.2.2.2.2.2.2.2.2.2.2.2.2.2.2.2.2.2.2.2.2.2.2.2.2.2.2.2.2.1 v.2.2.2.2.2.2.2.2.2.2.2.2.2.2.2.2.2.2.2.2.2.2.2.2.2.2.2.2.2.2.2.2 I
theorem zz_in {k : Nat} {f_literalKind f_paramKind f_callKind f_evalTask f_applyTask f_branchTask f_updateTask f_storeTask f_slotAbsent f_slotDelayed f_slotReady f_functionCount f_nodeLimit f_depthLimit f_draftOpen f_draftFor f_draftNodes f_draftCalls f_treeCount f_analysed f_recordValue f_recordThunks f_recordNeeds f_taskTop f_valueTop f_frameCount f_failed f_thunkCount f_demanded : Int32} {a_declared a_arity a_size a_kindAt a_datumAt a_childAt a_treeRoot a_treeHeight a_tables a_marks a_cellDefined a_cellValue a_eager a_taskKind a_taskSubject a_taskFrame a_valueStack a_frameDepth a_slotState a_slotValue a_slotNode a_slotFrame : Nat → Int32} {g_functionLimit g_nodeLimit g_depthLimit g_draftFor g_draftSize g_analysed g_level g_runMode g_runDepth g_lastSet g_hasValue g_recordValue g_recordCount g_recordSet : Int32} {b_arity b_bodySize b_bodyKind b_bodyData b_draftKind b_draftData b_heights b_truth b_next b_marks b_cellDefined b_cellValue b_levelFunction b_levelAt b_levelTop b_def b_val b_need b_count : Nat → Int32} (h : rl_F f_functionCount f_nodeLimit f_depthLimit f_draftOpen f_draftFor f_draftNodes f_draftCalls f_treeCount f_analysed f_recordValue f_recordThunks f_recordNeeds a_declared a_arity a_size a_kindAt a_datumAt a_childAt a_treeRoot a_treeHeight a_tables a_cellDefined a_cellValue g_functionLimit g_nodeLimit g_depthLimit g_draftFor g_draftSize g_analysed g_hasValue g_recordValue g_recordCount g_recordSet b_arity b_bodySize b_bodyKind b_bodyData b_draftKind b_draftData b_truth b_cellDefined b_cellValue) : i_Rel k (f_literalKind, f_paramKind, f_callKind, f_evalTask, f_applyTask, f_branchTask, f_updateTask, f_storeTask, f_slotAbsent, f_slotDelayed, f_slotReady, f_functionCount, f_nodeLimit, f_depthLimit, f_draftOpen, f_draftFor, f_draftNodes, f_draftCalls, f_treeCount, f_analysed, f_recordValue, f_recordThunks, f_recordNeeds, f_taskTop, f_valueTop, f_frameCount, f_failed, f_thunkCount, f_demanded, a_declared, a_arity, a_size, a_kindAt, a_datumAt, a_childAt, a_treeRoot, a_treeHeight, a_tables, a_marks, a_cellDefined, a_cellValue, a_eager, a_taskKind, a_taskSubject, a_taskFrame, a_valueStack, a_frameDepth, a_slotState, a_slotValue, a_slotNode, a_slotFrame) (g_functionLimit, g_nodeLimit, g_depthLimit, g_draftFor, g_draftSize, g_analysed, g_level, g_runMode, g_runDepth, g_lastSet, g_hasValue, g_recordValue, g_recordCount, g_recordSet, b_arity, b_bodySize, b_bodyKind, b_bodyData, b_draftKind, b_draftData, b_heights, b_truth, b_next, b_marks, b_cellDefined, b_cellValue, b_levelFunction, b_levelAt, b_levelTop, b_def, b_val, b_need, b_count) := h
end
section
/-! code carried from one place to another -/
theorem tr_o {kd dt kd' dt' : Nat → Int32} {ar ar' : Nat → Nat} {b b' s : Nat} (h : ∀ p, p < s → kd' (b' + p) = kd (b + p) ∧ dt' (b' + p) = dt (b + p)) (ha : ∀ p, p < s → kd (b + p) = 10 → ar' (dt (b + p)).toNatClampNeg = ar (dt (b + p)).toNatClampNeg) :
    ∀ p, p < s → q_o kd' dt' ar' b' p = q_o kd dt ar b p := by
  intro p hp
  obtain ⟨h1, h2⟩ := h p hp
  unfold q_o q_on
  rw [h1, h2]
  by_cases h10 : kd (b + p) = 10
  · rw [ha p hp h10]
  · rw [if_neg h10, if_neg h10]
theorem tr_B {kd dt kd' dt' : Nat → Int32} {ar ar' : Nat → Nat} {dc dc' : Nat → Bool} {b b' s n : Nat} (h : ∀ p, p < s → kd' (b' + p) = kd (b + p) ∧ dt' (b' + p) = dt (b + p)) (hd : ∀ g, g < 4 → dc g = true → dc' g = true ∧ ar' g = ar g) (hB : rl_B kd dt ar dc b s n) :
    rl_B kd' dt' ar' dc' b' s n ∧ ∀ p, p < s → q_o kd' dt' ar' b' p = q_o kd dt ar b p := by
  obtain ⟨B1, B2, B3⟩ := hB
  have ho := tr_o (ar := ar) (ar' := ar') h (fun p hp h10 => by
    obtain ⟨g, hg, e⟩ := (B1 p hp).1.2.2 h10
    rw [e, nI_clamp (by omega)]
    exact (hd g hg ((B1 p hp).2 h10 g hg e)).2)
  refine ⟨⟨fun p hp => ?_, fun p hp => ?_, ?_⟩, ho⟩
  · obtain ⟨h1, h2⟩ := h p hp
    obtain ⟨⟨b1, b2, b3⟩, b4⟩ := B1 p hp
    unfold pg_nd
    rw [h1, h2]
    exact ⟨⟨b1, b2, b3⟩, fun z g hg e => (hd g hg (b4 z g hg e)).1⟩
  · rw [ho p hp, sk_l_c p (fun q hq => ho q (by omega)), sk_l_c (p + 1) (fun q hq => ho q (by omega))]
    exact B2 p hp
  · rw [su_c (g := fun q => if kd (b + q) = 10 then 1 else 0) s (fun q hq => by rw [(h q hq).1])]
    exact B3
theorem tr_C {kd dt kd' dt' : Nat → Int32} {ar ar' : Nat → Nat} {ch ch' : Nat → Int32} {b b' s e e' : Nat} (ho : ∀ p, p < s → q_o kd' dt' ar' b' p = q_o kd dt ar b p) (hch : ∀ p, p < s → ∀ i, i < q_o kd dt ar b p → ∀ c, ch (3 * (b + p) + i) = nI (e + c) → ch' (3 * (b' + p) + i) = nI (e' + c)) (hC : rl_C kd dt ar ch b s e) : rl_C kd' dt' ar' ch' b' s e' := by
  intro p hp i hi
  rw [ho p hp] at hi
  rw [sk_c_c i (fun q hq => ho q (by omega))]
  exact hch p hp i hi _ (hC p hp i hi)
theorem tr_m {kd dt : Nat → Int32} {ar : Nat → Nat} {dc : Nat → Bool} {b s s' n : Nat} (h : rl_B kd dt ar dc b s n) (hs : s' ≤ s) : rl_B kd dt ar dc b s' n :=
  ⟨fun p hp => h.1 p (by omega), fun p hp => h.2.1 p (by omega), by
    obtain ⟨m, rfl⟩ : ∃ m, s = s' + m := ⟨s - s', by omega⟩
    have := h.2.2
    rw [su_app] at this
    omega⟩
theorem B_ok {kd dt : Nat → Int32} {ar : Nat → Nat} {dc : Nat → Bool} {b s n : Nat} (h : rl_B kd dt ar dc b s n) : sk_ok (q_o kd dt ar b) s := fun p hp => (h.2.1 p hp).1
theorem B_8 {kd dt : Nat → Int32} {ar : Nat → Nat} {dc : Nat → Bool} {b s n : Nat} (h : rl_B kd dt ar dc b s n) : ∀ p, p ≤ s → sk_l (q_o kd dt ar b) p ≤ 8 := by
  intro p hp
  cases p with
  | zero => exact Nat.zero_le _
  | succ p => exact (h.2.1 p (by omega)).2
/-! numbers -/
def z_cl (x a b : Int32) : Int32 := if a ≤ x then (if x ≤ b then x else b) else a
theorem z_cl_n (x : Int32) {a b : Nat} (hab : a ≤ b) (hb : b < 2 ^ 31) : ∃ j, a ≤ j ∧ j ≤ b ∧ z_cl x (nI a) (nI b) = nI j := by
  unfold z_cl
  by_cases h1 : nI a ≤ x
  · rw [if_pos h1]
    by_cases h2 : x ≤ nI b
    · rw [if_pos h2]
      have h0 : ¬ x < 0 := Int32.not_lt.mpr (Int32.le_trans (nI_pos' (by omega)) h1)
      obtain ⟨j, hj, rfl⟩ := nI_of h0
      exact ⟨j, (nI_leI (by omega) hj).mp h1, (nI_leI hj hb).mp h2, rfl⟩
    · rw [if_neg h2]; exact ⟨b, hab, Nat.le_refl _, rfl⟩
  · rw [if_neg h1]; exact ⟨a, Nat.le_refl _, hab, rfl⟩
section
variable {f_literalKind f_paramKind f_callKind f_evalTask f_applyTask f_branchTask f_updateTask f_storeTask f_slotAbsent f_slotDelayed f_slotReady f_functionCount f_nodeLimit f_depthLimit f_draftOpen f_draftFor f_draftNodes f_draftCalls f_treeCount f_analysed f_recordValue f_recordThunks f_recordNeeds f_taskTop f_valueTop f_frameCount f_failed f_thunkCount f_demanded : Int32} {a_declared a_arity a_size a_kindAt a_datumAt a_childAt a_treeRoot a_treeHeight a_tables a_marks a_cellDefined a_cellValue a_eager a_taskKind a_taskSubject a_taskFrame a_valueStack a_frameDepth a_slotState a_slotValue a_slotNode a_slotFrame : Nat → Int32}
theorem xw_cl {R : Int32 → Prop} {x a b : Int32} (h : R (z_cl x a b)) : wpX_clamp R (f_literalKind, f_paramKind, f_callKind, f_evalTask, f_applyTask, f_branchTask, f_updateTask, f_storeTask, f_slotAbsent, f_slotDelayed, f_slotReady, f_functionCount, f_nodeLimit, f_depthLimit, f_draftOpen, f_draftFor, f_draftNodes, f_draftCalls, f_treeCount, f_analysed, f_recordValue, f_recordThunks, f_recordNeeds, f_taskTop, f_valueTop, f_frameCount, f_failed, f_thunkCount, f_demanded, a_declared, a_arity, a_size, a_kindAt, a_datumAt, a_childAt, a_treeRoot, a_treeHeight, a_tables, a_marks, a_cellDefined, a_cellValue, a_eager, a_taskKind, a_taskSubject, a_taskFrame, a_valueStack, a_frameDepth, a_slotState, a_slotValue, a_slotNode, a_slotFrame) x a b := by
  unfold wpX_clamp
  unfold z_cl at h
  by_cases h1 : a ≤ x
  · rw [if_pos h1] at h
    by_cases h2 : x ≤ b
    · rw [if_pos h2] at h; exact br_t h1 (br_t h2 h)
    · rw [if_neg h2] at h; exact br_t h1 (br_f h2 h)
  · rw [if_neg h1] at h; exact br_f h1 h
theorem xw_id1 {R : Int32 → Prop} {F g : Nat} (hF : f_functionCount = nI F) (hF4 : F ≤ 4) (hg : g < F) (hd : a_declared g = 1) (h : R 1) : wpX_isDeclared R (f_literalKind, f_paramKind, f_callKind, f_evalTask, f_applyTask, f_branchTask, f_updateTask, f_storeTask, f_slotAbsent, f_slotDelayed, f_slotReady, f_functionCount, f_nodeLimit, f_depthLimit, f_draftOpen, f_draftFor, f_draftNodes, f_draftCalls, f_treeCount, f_analysed, f_recordValue, f_recordThunks, f_recordNeeds, f_taskTop, f_valueTop, f_frameCount, f_failed, f_thunkCount, f_demanded, a_declared, a_arity, a_size, a_kindAt, a_datumAt, a_childAt, a_treeRoot, a_treeHeight, a_tables, a_marks, a_cellDefined, a_cellValue, a_eager, a_taskKind, a_taskSubject, a_taskFrame, a_valueStack, a_frameDepth, a_slotState, a_slotValue, a_slotNode, a_slotFrame) (nI g) := by
  unfold wpX_isDeclared
  subst hF
  exact br_f (nI_pos (by omega)) (br_f (nI_ge hg (by omega)) ⟨vp_in_nI (by omega) (by omega), br_f (by rw [nI_clamp (by omega), hd]; decide) h⟩)
theorem xw_id0 {R : Int32 → Prop} {F : Nat} {p0 : Int32} (hF : f_functionCount = nI F) (hF4 : F ≤ 4) (hd : ∀ g, g < F → p0 = nI g → a_declared g = 0) (h : R 0) : wpX_isDeclared R (f_literalKind, f_paramKind, f_callKind, f_evalTask, f_applyTask, f_branchTask, f_updateTask, f_storeTask, f_slotAbsent, f_slotDelayed, f_slotReady, f_functionCount, f_nodeLimit, f_depthLimit, f_draftOpen, f_draftFor, f_draftNodes, f_draftCalls, f_treeCount, f_analysed, f_recordValue, f_recordThunks, f_recordNeeds, f_taskTop, f_valueTop, f_frameCount, f_failed, f_thunkCount, f_demanded, a_declared, a_arity, a_size, a_kindAt, a_datumAt, a_childAt, a_treeRoot, a_treeHeight, a_tables, a_marks, a_cellDefined, a_cellValue, a_eager, a_taskKind, a_taskSubject, a_taskFrame, a_valueStack, a_frameDepth, a_slotState, a_slotValue, a_slotNode, a_slotFrame) p0 := by
  unfold wpX_isDeclared
  subst hF
  rcases pk_ix p0 (n := F) (by omega) with z | z | ⟨g, hg, rfl⟩
  · exact br_t z h
  · by_cases z0 : p0 < 0
    · exact br_t z0 h
    · exact br_f z0 (br_t z h)
  · exact br_f (nI_pos (by omega)) (br_f (nI_ge hg (by omega)) ⟨vp_in_nI (by omega) (by omega), br_t (by rw [nI_clamp (by omega)]; exact hd g hg rfl) h⟩)
end
section
variable {g_functionLimit g_nodeLimit g_depthLimit g_draftFor g_draftSize g_analysed g_level g_runMode g_runDepth g_lastSet g_hasValue g_recordValue g_recordCount g_recordSet : Int32} {b_arity b_bodySize b_bodyKind b_bodyData b_draftKind b_draftData b_heights b_truth b_next b_marks b_cellDefined b_cellValue b_levelFunction b_levelAt b_levelTop b_def b_val b_need b_count : Nat → Int32}
theorem yw_id1 {R : Int32 → Prop} {F g n : Nat} (hF : g_functionLimit = nI F) (hF4 : F ≤ 4) (hg : g < F) (hd : b_arity g = nI n) (hn : n ≤ 3) (h : R 1) : wpY_declared R (g_functionLimit, g_nodeLimit, g_depthLimit, g_draftFor, g_draftSize, g_analysed, g_level, g_runMode, g_runDepth, g_lastSet, g_hasValue, g_recordValue, g_recordCount, g_recordSet, b_arity, b_bodySize, b_bodyKind, b_bodyData, b_draftKind, b_draftData, b_heights, b_truth, b_next, b_marks, b_cellDefined, b_cellValue, b_levelFunction, b_levelAt, b_levelTop, b_def, b_val, b_need, b_count) (nI g) := by
  unfold wpY_declared
  subst hF
  exact br_f (nI_pos (by omega)) (br_f (nI_ge hg (by omega)) ⟨vp_in_nI (by omega) (by omega), br_f (by rw [nI_clamp (by omega), hd]; exact nI_pos (by omega)) h⟩)
theorem yw_id0 {R : Int32 → Prop} {F : Nat} {p0 : Int32} (hF : g_functionLimit = nI F) (hF4 : F ≤ 4) (hd : ∀ g, g < F → p0 = nI g → b_arity g = -1) (h : R 0) : wpY_declared R (g_functionLimit, g_nodeLimit, g_depthLimit, g_draftFor, g_draftSize, g_analysed, g_level, g_runMode, g_runDepth, g_lastSet, g_hasValue, g_recordValue, g_recordCount, g_recordSet, b_arity, b_bodySize, b_bodyKind, b_bodyData, b_draftKind, b_draftData, b_heights, b_truth, b_next, b_marks, b_cellDefined, b_cellValue, b_levelFunction, b_levelAt, b_levelTop, b_def, b_val, b_need, b_count) p0 := by
  unfold wpY_declared
  subst hF
  rcases pk_ix p0 (n := F) (by omega) with z | z | ⟨g, hg, rfl⟩
  · exact br_t z h
  · by_cases z0 : p0 < 0
    · exact br_t z0 h
    · exact br_f z0 (br_t z h)
  · exact br_f (nI_pos (by omega)) (br_f (nI_ge hg (by omega)) ⟨vp_in_nI (by omega) (by omega), br_t (by rw [nI_clamp (by omega), hd g hg rfl]; decide) h⟩)
end
/-- is p0 a declared function? -/
theorem dc_or {F : Nat} {dc : Nat → Bool} {ar sz : Nat → Nat} {a_declared a_arity a_size a_kindAt a_datumAt a_childAt b_arity b_bodySize b_bodyKind b_bodyData : Nat → Int32} (hP : rl_P F dc ar sz a_declared a_arity a_size a_kindAt a_datumAt a_childAt b_arity b_bodySize b_bodyKind b_bodyData) (hF4 : F ≤ 4) (p0 : Int32) :
    (∃ g, g < F ∧ g < 4 ∧ p0 = nI g ∧ dc g = true ∧ a_declared g = 1 ∧ a_arity g = nI (ar g) ∧ b_arity g = nI (ar g)) ∨ (∀ g, g < F → p0 = nI g → a_declared g = 0 ∧ b_arity g = -1) := by
  rcases Classical.em (∃ g, g < F ∧ p0 = nI g ∧ dc g = true) with ⟨g, hg, e, hd⟩ | z
  · obtain ⟨h1, h2, h3, h4⟩ := (hP.2.1 g (by omega)).1 hd
    exact Or.inl ⟨g, hg, by omega, e, hd, h2, h3, h4⟩
  · refine Or.inr (fun g hg e => ?_)
    have hd : dc g = false := by
      cases hd : dc g
      · rfl
      · exact absurd ⟨g, hg, e, hd⟩ z
    obtain ⟨h1, h2, h3, h4, h5⟩ := (hP.2.1 g (by omega)).2 hd
    exact ⟨h3, h5⟩
end
section
/-! the simple methods -/
theorem z_1_4 (x : Int32) : ∃ j, 1 ≤ j ∧ j ≤ 4 ∧ z_cl x 1 4 = nI j := z_cl_n x (a := 1) (b := 4) (by omega) (by omega)
theorem z_4_16 (x : Int32) : ∃ j, 4 ≤ j ∧ j ≤ 16 ∧ z_cl x 4 16 = nI j := z_cl_n x (a := 4) (b := 16) (by omega) (by omega)
theorem z_1_6 (x : Int32) : ∃ j, 1 ≤ j ∧ j ≤ 6 ∧ z_cl x 1 6 = nI j := z_cl_n x (a := 1) (b := 6) (by omega) (by omega)
section
variable {g_functionLimit g_nodeLimit g_depthLimit g_draftFor g_draftSize g_analysed g_level g_runMode g_runDepth g_lastSet g_hasValue g_recordValue g_recordCount g_recordSet : Int32} {b_arity b_bodySize b_bodyKind b_bodyData b_draftKind b_draftData b_heights b_truth b_next b_marks b_cellDefined b_cellValue b_levelFunction b_levelAt b_levelTop b_def b_val b_need b_count : Nat → Int32}
theorem yw_i1 {R : SY → Prop} (h : ∀ b_arity' : Nat → Int32, (∀ h, h < 4 → b_arity' h = -1) → R (g_functionLimit, g_nodeLimit, g_depthLimit, g_draftFor, g_draftSize, g_analysed, g_level, g_runMode, g_runDepth, g_lastSet, g_hasValue, g_recordValue, g_recordCount, g_recordSet, b_arity', b_bodySize, b_bodyKind, b_bodyData, b_draftKind, b_draftData, b_heights, b_truth, b_next, b_marks, b_cellDefined, b_cellValue, b_levelFunction, b_levelAt, b_levelTop, b_def, b_val, b_need, b_count)) : ∃ n, wY_init_233 R g_functionLimit g_nodeLimit g_depthLimit g_draftFor g_draftSize g_analysed g_level g_runMode g_runDepth g_lastSet g_hasValue g_recordValue g_recordCount g_recordSet n 0 b_arity b_bodySize b_bodyKind b_bodyData b_draftKind b_draftData b_heights b_truth b_next b_marks b_cellDefined b_cellValue b_levelFunction b_levelAt b_levelTop b_def b_val b_need b_count := by
  refine ⟨5, ?_⟩
  refine br_f (by decide) ⟨vp_in_nI (n := 0) (by decide) (by decide), nm_e (nm_r (e' := 1) rfl (br_f (by decide) ⟨vp_in_nI (n := 1) (by decide) (by decide), nm_e (nm_r (e' := 2) rfl (br_f (by decide) ⟨vp_in_nI (n := 2) (by decide) (by decide), nm_e (nm_r (e' := 3) rfl (br_f (by decide) ⟨vp_in_nI (n := 3) (by decide) (by decide), nm_e (nm_r (e' := 4) rfl (br_t (by decide) (h _ ?_)))⟩))⟩))⟩))⟩
  intro h hh
  have e0 : (0 : Int32).toNatClampNeg = 0 := by decide
  have e1 : (1 : Int32).toNatClampNeg = 1 := by decide
  have e2 : (2 : Int32).toNatClampNeg = 2 := by decide
  have e3 : (3 : Int32).toNatClampNeg = 3 := by decide
  rw [e0, e1, e2, e3]
  unfold upd
  by_cases z3 : h = 3
  · rw [if_pos z3]
  by_cases z2 : h = 2
  · rw [if_neg z3, if_pos z2]
  by_cases z1 : h = 1
  · rw [if_neg z3, if_neg z2, if_pos z1]
  rw [if_neg z3, if_neg z2, if_neg z1, if_pos (by omega)]
end
theorem yw_in {R : SY → Prop} {p0 p1 p2 : Int32} (h : ∀ b_arity' : Nat → Int32, (∀ h, h < 4 → b_arity' h = -1) → R (z_cl p0 1 4, z_cl p1 4 16, z_cl p2 1 6, -1, 0, 0, 0, 0, 0, 0, 0, 0, 0, 0, b_arity', (fun _ => 0), (fun _ => 0), (fun _ => 0), (fun _ => 0), (fun _ => 0), (fun _ => 0), (fun _ => 0), (fun _ => 0), (fun _ => 0), (fun _ => 0), (fun _ => 0), (fun _ => 0), (fun _ => 0), (fun _ => 0), (fun _ => 0), (fun _ => 0), (fun _ => 0), (fun _ => 0))) : wpY_init R p0 p1 p2 := by
  have s3 : ∀ z0 z1 : Int32, (∀ b_arity' : Nat → Int32, (∀ h, h < 4 → b_arity' h = -1) → R (z0, z1, z_cl p2 1 6, -1, 0, 0, 0, 0, 0, 0, 0, 0, 0, 0, b_arity', (fun _ => 0), (fun _ => 0), (fun _ => 0), (fun _ => 0), (fun _ => 0), (fun _ => 0), (fun _ => 0), (fun _ => 0), (fun _ => 0), (fun _ => 0), (fun _ => 0), (fun _ => 0), (fun _ => 0), (fun _ => 0), (fun _ => 0), (fun _ => 0), (fun _ => 0), (fun _ => 0))) → wY_init_202 R p2 z1 z0 0 0 (-1) 0 0 0 0 0 0 0 0 0 0 (fun _ => 0) (fun _ => 0) (fun _ => 0) (fun _ => 0) (fun _ => 0) (fun _ => 0) (fun _ => 0) (fun _ => 0) (fun _ => 0) (fun _ => 0) (fun _ => 0) (fun _ => 0) (fun _ => 0) (fun _ => 0) (fun _ => 0) (fun _ => 0) (fun _ => 0) (fun _ => 0) (fun _ => 0) := by
    intro z0 z1 k
    unfold wY_init_202
    unfold z_cl at k
    by_cases h1 : 1 ≤ p2
    · rw [if_pos h1] at k
      by_cases h2 : p2 ≤ 6
      · rw [if_pos h2] at k; exact br_t h1 (br_t h2 (yw_i1 k))
      · rw [if_neg h2] at k; exact br_t h1 (br_f h2 (yw_i1 k))
    · rw [if_neg h1] at k; exact br_f h1 (yw_i1 k)
  have s2 : ∀ z0 : Int32, (∀ b_arity' : Nat → Int32, (∀ h, h < 4 → b_arity' h = -1) → R (z0, z_cl p1 4 16, z_cl p2 1 6, -1, 0, 0, 0, 0, 0, 0, 0, 0, 0, 0, b_arity', (fun _ => 0), (fun _ => 0), (fun _ => 0), (fun _ => 0), (fun _ => 0), (fun _ => 0), (fun _ => 0), (fun _ => 0), (fun _ => 0), (fun _ => 0), (fun _ => 0), (fun _ => 0), (fun _ => 0), (fun _ => 0), (fun _ => 0), (fun _ => 0), (fun _ => 0), (fun _ => 0))) → wY_init_177 R p1 p2 z0 0 0 0 (-1) 0 0 0 0 0 0 0 0 0 0 (fun _ => 0) (fun _ => 0) (fun _ => 0) (fun _ => 0) (fun _ => 0) (fun _ => 0) (fun _ => 0) (fun _ => 0) (fun _ => 0) (fun _ => 0) (fun _ => 0) (fun _ => 0) (fun _ => 0) (fun _ => 0) (fun _ => 0) (fun _ => 0) (fun _ => 0) (fun _ => 0) (fun _ => 0) := by
    intro z0 k
    have k' := s3 z0 (z_cl p1 4 16) k
    unfold wY_init_177
    unfold z_cl at k'
    by_cases h1 : 4 ≤ p1
    · rw [if_pos h1] at k'
      by_cases h2 : p1 ≤ 16
      · rw [if_pos h2] at k'; exact br_t h1 (br_t h2 k')
      · rw [if_neg h2] at k'; exact br_t h1 (br_f h2 k')
    · rw [if_neg h1] at k'; exact br_f h1 k'
  have k' := s2 (z_cl p0 1 4) h
  unfold wpY_init
  unfold z_cl at k'
  by_cases h1 : 1 ≤ p0
  · rw [if_pos h1] at k'
    by_cases h2 : p0 ≤ 4
    · rw [if_pos h2] at k'; exact br_t h1 (br_t h2 k')
    · rw [if_neg h2] at k'; exact br_t h1 (br_f h2 k')
  · rw [if_neg h1] at k'; exact br_f h1 k'
theorem i_vc0 (k0 : Int32) (k1 : Int32) (k2 : Int32) : wpX_init (fun u => wpY_init (fun v => i_Rel 3 u v) k0 k1 k2) k0 k1 k2 := by
  unfold wpX_init
  refine xw_cl (xw_cl (xw_cl (yw_in (fun b_arity' hb => ?_))))
  obtain ⟨F, f1, f2, f3⟩ := z_1_4 k0
  obtain ⟨NL, n1, n2, n3⟩ := z_4_16 k1
  obtain ⟨DL, d1, d2, d3⟩ := z_1_6 k2
  refine zz_in ⟨F, NL, DL, fun _ => false, fun _ => 0, fun _ => 0, ⟨⟨f1, f2, n1, n2, d1, d2⟩, f3, n3, d3, f3, n3, d3⟩, ⟨fun _ => Nat.zero_le _, fun h hh => ⟨fun z => ff_t z, fun _ => ⟨rfl, rfl, rfl, rfl, hb h hh⟩⟩, fun _ _ => ⟨rfl, rfl, Nat.zero_le _⟩, fun _ _ => ⟨rfl, rfl⟩, fun g _ => ⟨⟨fun p hp => absurd hp (Nat.not_lt_zero _), fun p hp => absurd hp (Nat.not_lt_zero _), Nat.zero_le _⟩, fun z => absurd z (Nat.lt_irrefl _), fun p hp => absurd hp (Nat.not_lt_zero _)⟩⟩, ⟨fun _ _ => ⟨rfl, rfl⟩, Or.inl ⟨rfl, rfl⟩⟩, ⟨rfl, Or.inl rfl⟩, fun _ _ => ⟨rfl, Or.inl rfl⟩, Or.inl ⟨rfl, rfl, rfl, rfl⟩⟩
theorem i_vc_result {k : Nat} {u : SX} {v : SY} (I : i_Rel k u v) (hk : k + 4 ≤ 2051) : wpX_result (fun r => wpY_result (fun r' => r' = r ∧ i_Rel (k + 4) u v) v) u := by
  refine zz_el (P := fun u v => wpX_result (fun r => wpY_result (fun r' => r' = r ∧ i_Rel (k + 4) u v) v) u) ?_ I
  intro f_literalKind f_paramKind f_callKind f_evalTask f_applyTask f_branchTask f_updateTask f_storeTask f_slotAbsent f_slotDelayed f_slotReady f_functionCount f_nodeLimit f_depthLimit f_draftOpen f_draftFor f_draftNodes f_draftCalls f_treeCount f_analysed f_recordValue f_recordThunks f_recordNeeds f_taskTop f_valueTop f_frameCount f_failed f_thunkCount f_demanded a_declared a_arity a_size a_kindAt a_datumAt a_childAt a_treeRoot a_treeHeight a_tables a_marks a_cellDefined a_cellValue a_eager a_taskKind a_taskSubject a_taskFrame a_valueStack a_frameDepth a_slotState a_slotValue a_slotNode a_slotFrame g_functionLimit g_nodeLimit g_depthLimit g_draftFor g_draftSize g_analysed g_level g_runMode g_runDepth g_lastSet g_hasValue g_recordValue g_recordCount g_recordSet b_arity b_bodySize b_bodyKind b_bodyData b_draftKind b_draftData b_heights b_truth b_next b_marks b_cellDefined b_cellValue b_levelFunction b_levelAt b_levelTop b_def b_val b_need b_count hR
  have hI : i_Rel (k + 4) (f_literalKind, f_paramKind, f_callKind, f_evalTask, f_applyTask, f_branchTask, f_updateTask, f_storeTask, f_slotAbsent, f_slotDelayed, f_slotReady, f_functionCount, f_nodeLimit, f_depthLimit, f_draftOpen, f_draftFor, f_draftNodes, f_draftCalls, f_treeCount, f_analysed, f_recordValue, f_recordThunks, f_recordNeeds, f_taskTop, f_valueTop, f_frameCount, f_failed, f_thunkCount, f_demanded, a_declared, a_arity, a_size, a_kindAt, a_datumAt, a_childAt, a_treeRoot, a_treeHeight, a_tables, a_marks, a_cellDefined, a_cellValue, a_eager, a_taskKind, a_taskSubject, a_taskFrame, a_valueStack, a_frameDepth, a_slotState, a_slotValue, a_slotNode, a_slotFrame) (g_functionLimit, g_nodeLimit, g_depthLimit, g_draftFor, g_draftSize, g_analysed, g_level, g_runMode, g_runDepth, g_lastSet, g_hasValue, g_recordValue, g_recordCount, g_recordSet, b_arity, b_bodySize, b_bodyKind, b_bodyData, b_draftKind, b_draftData, b_heights, b_truth, b_next, b_marks, b_cellDefined, b_cellValue, b_levelFunction, b_levelAt, b_levelTop, b_def, b_val, b_need, b_count) := zz_in hR
  obtain ⟨F, NL, DL, dc, ar, sz, hL, hP, hD, hA, hK, hV⟩ := hR
  unfold wpX_result wpY_result
  rcases hV with ⟨v1, v2, v3, v4⟩ | ⟨v1, v2, v3, v4⟩
  · exact br_t v1 ⟨v2.symm, hI⟩
  · exact br_f (by rw [v1]; decide) ⟨v2.symm, hI⟩
theorem i_vc_thunks {k : Nat} {u : SX} {v : SY} (I : i_Rel k u v) (hk : k + 4 ≤ 2051) : wpX_thunks (fun r => wpY_thunks (fun r' => r' = r ∧ i_Rel (k + 4) u v) v) u := by
  refine zz_el (P := fun u v => wpX_thunks (fun r => wpY_thunks (fun r' => r' = r ∧ i_Rel (k + 4) u v) v) u) ?_ I
  intro f_literalKind f_paramKind f_callKind f_evalTask f_applyTask f_branchTask f_updateTask f_storeTask f_slotAbsent f_slotDelayed f_slotReady f_functionCount f_nodeLimit f_depthLimit f_draftOpen f_draftFor f_draftNodes f_draftCalls f_treeCount f_analysed f_recordValue f_recordThunks f_recordNeeds f_taskTop f_valueTop f_frameCount f_failed f_thunkCount f_demanded a_declared a_arity a_size a_kindAt a_datumAt a_childAt a_treeRoot a_treeHeight a_tables a_marks a_cellDefined a_cellValue a_eager a_taskKind a_taskSubject a_taskFrame a_valueStack a_frameDepth a_slotState a_slotValue a_slotNode a_slotFrame g_functionLimit g_nodeLimit g_depthLimit g_draftFor g_draftSize g_analysed g_level g_runMode g_runDepth g_lastSet g_hasValue g_recordValue g_recordCount g_recordSet b_arity b_bodySize b_bodyKind b_bodyData b_draftKind b_draftData b_heights b_truth b_next b_marks b_cellDefined b_cellValue b_levelFunction b_levelAt b_levelTop b_def b_val b_need b_count hR
  have hI : i_Rel (k + 4) (f_literalKind, f_paramKind, f_callKind, f_evalTask, f_applyTask, f_branchTask, f_updateTask, f_storeTask, f_slotAbsent, f_slotDelayed, f_slotReady, f_functionCount, f_nodeLimit, f_depthLimit, f_draftOpen, f_draftFor, f_draftNodes, f_draftCalls, f_treeCount, f_analysed, f_recordValue, f_recordThunks, f_recordNeeds, f_taskTop, f_valueTop, f_frameCount, f_failed, f_thunkCount, f_demanded, a_declared, a_arity, a_size, a_kindAt, a_datumAt, a_childAt, a_treeRoot, a_treeHeight, a_tables, a_marks, a_cellDefined, a_cellValue, a_eager, a_taskKind, a_taskSubject, a_taskFrame, a_valueStack, a_frameDepth, a_slotState, a_slotValue, a_slotNode, a_slotFrame) (g_functionLimit, g_nodeLimit, g_depthLimit, g_draftFor, g_draftSize, g_analysed, g_level, g_runMode, g_runDepth, g_lastSet, g_hasValue, g_recordValue, g_recordCount, g_recordSet, b_arity, b_bodySize, b_bodyKind, b_bodyData, b_draftKind, b_draftData, b_heights, b_truth, b_next, b_marks, b_cellDefined, b_cellValue, b_levelFunction, b_levelAt, b_levelTop, b_def, b_val, b_need, b_count) := zz_in hR
  obtain ⟨F, NL, DL, dc, ar, sz, hL, hP, hD, hA, hK, hV⟩ := hR
  unfold wpX_thunks wpY_thunks
  rcases hV with ⟨v1, v2, v3, v4⟩ | ⟨v1, v2, v3, v4⟩
  · exact br_t v1 ⟨v3.symm, hI⟩
  · exact br_f (by rw [v1]; decide) ⟨v3.symm, hI⟩
theorem i_vc_needed {k : Nat} {u : SX} {v : SY} (I : i_Rel k u v) (hk : k + 4 ≤ 2051) (v1 : Int32) : wpX_needed (fun r => wpY_needed (fun r' => r' = r ∧ i_Rel (k + 4) u v) v v1) u v1 := by
  refine zz_el (P := fun u v => wpX_needed (fun r => wpY_needed (fun r' => r' = r ∧ i_Rel (k + 4) u v) v v1) u v1) ?_ I
  intro f_literalKind f_paramKind f_callKind f_evalTask f_applyTask f_branchTask f_updateTask f_storeTask f_slotAbsent f_slotDelayed f_slotReady f_functionCount f_nodeLimit f_depthLimit f_draftOpen f_draftFor f_draftNodes f_draftCalls f_treeCount f_analysed f_recordValue f_recordThunks f_recordNeeds f_taskTop f_valueTop f_frameCount f_failed f_thunkCount f_demanded a_declared a_arity a_size a_kindAt a_datumAt a_childAt a_treeRoot a_treeHeight a_tables a_marks a_cellDefined a_cellValue a_eager a_taskKind a_taskSubject a_taskFrame a_valueStack a_frameDepth a_slotState a_slotValue a_slotNode a_slotFrame g_functionLimit g_nodeLimit g_depthLimit g_draftFor g_draftSize g_analysed g_level g_runMode g_runDepth g_lastSet g_hasValue g_recordValue g_recordCount g_recordSet b_arity b_bodySize b_bodyKind b_bodyData b_draftKind b_draftData b_heights b_truth b_next b_marks b_cellDefined b_cellValue b_levelFunction b_levelAt b_levelTop b_def b_val b_need b_count hR
  have hI : i_Rel (k + 4) (f_literalKind, f_paramKind, f_callKind, f_evalTask, f_applyTask, f_branchTask, f_updateTask, f_storeTask, f_slotAbsent, f_slotDelayed, f_slotReady, f_functionCount, f_nodeLimit, f_depthLimit, f_draftOpen, f_draftFor, f_draftNodes, f_draftCalls, f_treeCount, f_analysed, f_recordValue, f_recordThunks, f_recordNeeds, f_taskTop, f_valueTop, f_frameCount, f_failed, f_thunkCount, f_demanded, a_declared, a_arity, a_size, a_kindAt, a_datumAt, a_childAt, a_treeRoot, a_treeHeight, a_tables, a_marks, a_cellDefined, a_cellValue, a_eager, a_taskKind, a_taskSubject, a_taskFrame, a_valueStack, a_frameDepth, a_slotState, a_slotValue, a_slotNode, a_slotFrame) (g_functionLimit, g_nodeLimit, g_depthLimit, g_draftFor, g_draftSize, g_analysed, g_level, g_runMode, g_runDepth, g_lastSet, g_hasValue, g_recordValue, g_recordCount, g_recordSet, b_arity, b_bodySize, b_bodyKind, b_bodyData, b_draftKind, b_draftData, b_heights, b_truth, b_next, b_marks, b_cellDefined, b_cellValue, b_levelFunction, b_levelAt, b_levelTop, b_def, b_val, b_need, b_count) := zz_in hR
  obtain ⟨F, NL, DL, dc, ar, sz, hL, hP, hD, hA, hK, hV⟩ := hR
  unfold wpX_needed wpY_needed
  have z : ∀ r, r = 0 → g_hasValue = 0 → ((g_hasValue = 0 → ((0 : Int32) = r ∧ i_Rel (k + 4) (f_literalKind, f_paramKind, f_callKind, f_evalTask, f_applyTask, f_branchTask, f_updateTask, f_storeTask, f_slotAbsent, f_slotDelayed, f_slotReady, f_functionCount, f_nodeLimit, f_depthLimit, f_draftOpen, f_draftFor, f_draftNodes, f_draftCalls, f_treeCount, f_analysed, f_recordValue, f_recordThunks, f_recordNeeds, f_taskTop, f_valueTop, f_frameCount, f_failed, f_thunkCount, f_demanded, a_declared, a_arity, a_size, a_kindAt, a_datumAt, a_childAt, a_treeRoot, a_treeHeight, a_tables, a_marks, a_cellDefined, a_cellValue, a_eager, a_taskKind, a_taskSubject, a_taskFrame, a_valueStack, a_frameDepth, a_slotState, a_slotValue, a_slotNode, a_slotFrame) (g_functionLimit, g_nodeLimit, g_depthLimit, g_draftFor, g_draftSize, g_analysed, g_level, g_runMode, g_runDepth, g_lastSet, g_hasValue, g_recordValue, g_recordCount, g_recordSet, b_arity, b_bodySize, b_bodyKind, b_bodyData, b_draftKind, b_draftData, b_heights, b_truth, b_next, b_marks, b_cellDefined, b_cellValue, b_levelFunction, b_levelAt, b_levelTop, b_def, b_val, b_need, b_count))) ∧ True) := fun r hr _ => ⟨fun _ => ⟨hr.symm, hI⟩, trivial⟩
  rcases pk_ix v1 (n := 3) (by omega) with w | w | ⟨i, hi, rfl⟩
  · refine br_t w ?_
    by_cases h0 : g_hasValue = 0
    · exact br_t h0 ⟨rfl, hI⟩
    · exact br_f h0 (br_t w ⟨rfl, hI⟩)
  · have w2 : ¬ v1 < 0 := Int32.not_lt.mpr (Int32.le_trans (by decide) w)
    have w3 : 2 < v1 := Int32.lt_of_lt_of_le (by decide) w
    refine br_f w2 (br_t w3 ?_)
    by_cases h0 : g_hasValue = 0
    · exact br_t h0 ⟨rfl, hI⟩
    · exact br_f h0 (br_f w2 (br_t w3 ⟨rfl, hI⟩))
  · have w2 : ¬ nI i < 0 := nI_pos (by omega)
    have w3 : ¬ 2 < nI i := nI_nlt (a := 2) (by omega) (by decide)
    refine br_f w2 (br_f w3 ?_)
    rcases hV with ⟨y1, y2, y3, y4⟩ | ⟨y1, y2, y3, y4⟩
    · refine br_t ?_ (br_t y1 ⟨rfl, hI⟩)
      rw [sa_bz _ (by omega), y4, b_0]
    · have e := y4 i hi
      have n0 : ¬ g_hasValue = 0 := by rw [y1]; decide
      cases eb : bt f_recordNeeds i
      · refine br_t ((sa_bz _ (by omega)).mpr eb) (br_f n0 (br_f w2 (br_f w3 (br_f ?_ ⟨rfl, hI⟩))))
        rw [sa_bo _ (by omega), ← e, eb]
        decide
      · refine br_f ?_ (br_f n0 (br_f w2 (br_f w3 (br_t ?_ ⟨rfl, hI⟩))))
        · rw [sa_bz _ (by omega), eb]; decide
        · rw [sa_bo _ (by omega), ← e, eb]
end
section
/-! declaring, beginning a draft, argument -/
def fu_u {A : Type} (f : Nat → A) (g : Nat) (x : A) : Nat → A := fun h => if h = g then x else f h
theorem fu_s {A : Type} {f : Nat → A} {g : Nat} {x : A} : fu_u f g x g = x := if_pos rfl
theorem fu_n {A : Type} {f : Nat → A} {g h : Nat} {x : A} (e : h ≠ g) : fu_u f g x h = f h := if_neg e
theorem i_vc_argument {k : Nat} {u : SX} {v : SY} (I : i_Rel k u v) (hk : k + 4 ≤ 2051) (v1 : Int32) (v2 : Int32) (v3 : Int32) : wpX_argument (fun r u' => wpY_argument (fun r' v' => r' = r ∧ i_Rel (k + 4) u' v') v v1 (lw_bz v2) v3) u v1 (lw_bz v2) v3 := by
  refine zz_el (P := fun u v => wpX_argument (fun r u' => wpY_argument (fun r' v' => r' = r ∧ i_Rel (k + 4) u' v') v v1 (lw_bz v2) v3) u v1 (lw_bz v2) v3) ?_ I
  intro f_literalKind f_paramKind f_callKind f_evalTask f_applyTask f_branchTask f_updateTask f_storeTask f_slotAbsent f_slotDelayed f_slotReady f_functionCount f_nodeLimit f_depthLimit f_draftOpen f_draftFor f_draftNodes f_draftCalls f_treeCount f_analysed f_recordValue f_recordThunks f_recordNeeds f_taskTop f_valueTop f_frameCount f_failed f_thunkCount f_demanded a_declared a_arity a_size a_kindAt a_datumAt a_childAt a_treeRoot a_treeHeight a_tables a_marks a_cellDefined a_cellValue a_eager a_taskKind a_taskSubject a_taskFrame a_valueStack a_frameDepth a_slotState a_slotValue a_slotNode a_slotFrame g_functionLimit g_nodeLimit g_depthLimit g_draftFor g_draftSize g_analysed g_level g_runMode g_runDepth g_lastSet g_hasValue g_recordValue g_recordCount g_recordSet b_arity b_bodySize b_bodyKind b_bodyData b_draftKind b_draftData b_heights b_truth b_next b_marks b_cellDefined b_cellValue b_levelFunction b_levelAt b_levelTop b_def b_val b_need b_count hR
  have hI : i_Rel (k + 4) (f_literalKind, f_paramKind, f_callKind, f_evalTask, f_applyTask, f_branchTask, f_updateTask, f_storeTask, f_slotAbsent, f_slotDelayed, f_slotReady, f_functionCount, f_nodeLimit, f_depthLimit, f_draftOpen, f_draftFor, f_draftNodes, f_draftCalls, f_treeCount, f_analysed, f_recordValue, f_recordThunks, f_recordNeeds, f_taskTop, f_valueTop, f_frameCount, f_failed, f_thunkCount, f_demanded, a_declared, a_arity, a_size, a_kindAt, a_datumAt, a_childAt, a_treeRoot, a_treeHeight, a_tables, a_marks, a_cellDefined, a_cellValue, a_eager, a_taskKind, a_taskSubject, a_taskFrame, a_valueStack, a_frameDepth, a_slotState, a_slotValue, a_slotNode, a_slotFrame) (g_functionLimit, g_nodeLimit, g_depthLimit, g_draftFor, g_draftSize, g_analysed, g_level, g_runMode, g_runDepth, g_lastSet, g_hasValue, g_recordValue, g_recordCount, g_recordSet, b_arity, b_bodySize, b_bodyKind, b_bodyData, b_draftKind, b_draftData, b_heights, b_truth, b_next, b_marks, b_cellDefined, b_cellValue, b_levelFunction, b_levelAt, b_levelTop, b_def, b_val, b_need, b_count) := zz_in hR
  obtain ⟨F, NL, DL, dc, ar, sz, hL, hP, hD, hA, hK, hV⟩ := hR
  unfold wpX_argument wpY_argument
  rcases pk_ix v1 (n := 3) (by omega) with w | w | ⟨i, hi, rfl⟩
  · exact br_t w (br_t w ⟨rfl, hI⟩)
  · have w2 : ¬ v1 < 0 := Int32.not_lt.mpr (Int32.le_trans (by decide) w)
    have w3 : ¬ v1 ≤ 2 := fun z => absurd (Int32.le_trans w z) (by decide)
    exact br_f w2 (br_f w3 (br_f w2 (br_f w3 ⟨rfl, hI⟩)))
  · have w2 : ¬ nI i < 0 := nI_pos (by omega)
    have w3 : nI i ≤ 2 := nI_le (b := 2) (by omega) (by decide)
    have ei : (nI i).toNatClampNeg = i := nI_clamp (by omega)
    have hi3 : vp_in (nI i) 3 := vp_in_nI hi (by omega)
    refine br_f w2 (br_t w3 ⟨hi3, nm_r (e' := upd a_cellDefined i (vp_nar .boolean (lw_bz v2))) (by rw [ei]) ?_⟩)
    rcases lw_bz_01 v2 with e | e
    · rw [e, sa_vb0]
      refine br_t rfl ⟨hi3, nm_r (e' := upd a_cellValue i 0) (by rw [ei]) ?_⟩
      refine br_f w2 (br_t w3 ⟨hi3, nm_r (e' := upd b_cellDefined i 0) (by rw [ei]) ⟨hi3, nm_r (e' := upd b_cellValue i v3) (by rw [ei]) ⟨rfl, zz_in ⟨F, NL, DL, dc, ar, sz, hL, hP, hD, hA, fun j hj => ?_, hV⟩⟩⟩⟩)
      by_cases ej : j = i
      · subst ej
        exact ⟨pk_us.trans pk_us.symm, Or.inl pk_us⟩
      · rw [pk_un ej, pk_un ej, pk_un ej, pk_un ej]
        exact hK j hj
    · rw [e, sa_vb1]
      refine br_f (by decide) ⟨hi3, nm_r (e' := upd a_cellValue i v3) (by rw [ei]) ?_⟩
      refine br_f w2 (br_t w3 ⟨hi3, nm_r (e' := upd b_cellDefined i 1) (by rw [ei]) ⟨hi3, nm_r (e' := upd b_cellValue i v3) (by rw [ei]) ⟨rfl, zz_in ⟨F, NL, DL, dc, ar, sz, hL, hP, hD, hA, fun j hj => ?_, hV⟩⟩⟩⟩)
      by_cases ej : j = i
      · subst ej
        exact ⟨pk_us.trans pk_us.symm, Or.inr ⟨pk_us, pk_us.trans pk_us.symm⟩⟩
      · rw [pk_un ej, pk_un ej, pk_un ej, pk_un ej]
        exact hK j hj
theorem i_vc_open {k : Nat} {u : SX} {v : SY} (I : i_Rel k u v) (hk : k + 4 ≤ 2051) (v1 : Int32) : wpX_open (fun r u' => wpY_open (fun r' v' => r' = r ∧ i_Rel (k + 4) u' v') v v1) u v1 := by
  refine zz_el (P := fun u v => wpX_open (fun r u' => wpY_open (fun r' v' => r' = r ∧ i_Rel (k + 4) u' v') v v1) u v1) ?_ I
  intro f_literalKind f_paramKind f_callKind f_evalTask f_applyTask f_branchTask f_updateTask f_storeTask f_slotAbsent f_slotDelayed f_slotReady f_functionCount f_nodeLimit f_depthLimit f_draftOpen f_draftFor f_draftNodes f_draftCalls f_treeCount f_analysed f_recordValue f_recordThunks f_recordNeeds f_taskTop f_valueTop f_frameCount f_failed f_thunkCount f_demanded a_declared a_arity a_size a_kindAt a_datumAt a_childAt a_treeRoot a_treeHeight a_tables a_marks a_cellDefined a_cellValue a_eager a_taskKind a_taskSubject a_taskFrame a_valueStack a_frameDepth a_slotState a_slotValue a_slotNode a_slotFrame g_functionLimit g_nodeLimit g_depthLimit g_draftFor g_draftSize g_analysed g_level g_runMode g_runDepth g_lastSet g_hasValue g_recordValue g_recordCount g_recordSet b_arity b_bodySize b_bodyKind b_bodyData b_draftKind b_draftData b_heights b_truth b_next b_marks b_cellDefined b_cellValue b_levelFunction b_levelAt b_levelTop b_def b_val b_need b_count hR
  have hI : i_Rel (k + 4) (f_literalKind, f_paramKind, f_callKind, f_evalTask, f_applyTask, f_branchTask, f_updateTask, f_storeTask, f_slotAbsent, f_slotDelayed, f_slotReady, f_functionCount, f_nodeLimit, f_depthLimit, f_draftOpen, f_draftFor, f_draftNodes, f_draftCalls, f_treeCount, f_analysed, f_recordValue, f_recordThunks, f_recordNeeds, f_taskTop, f_valueTop, f_frameCount, f_failed, f_thunkCount, f_demanded, a_declared, a_arity, a_size, a_kindAt, a_datumAt, a_childAt, a_treeRoot, a_treeHeight, a_tables, a_marks, a_cellDefined, a_cellValue, a_eager, a_taskKind, a_taskSubject, a_taskFrame, a_valueStack, a_frameDepth, a_slotState, a_slotValue, a_slotNode, a_slotFrame) (g_functionLimit, g_nodeLimit, g_depthLimit, g_draftFor, g_draftSize, g_analysed, g_level, g_runMode, g_runDepth, g_lastSet, g_hasValue, g_recordValue, g_recordCount, g_recordSet, b_arity, b_bodySize, b_bodyKind, b_bodyData, b_draftKind, b_draftData, b_heights, b_truth, b_next, b_marks, b_cellDefined, b_cellValue, b_levelFunction, b_levelAt, b_levelTop, b_def, b_val, b_need, b_count) := zz_in hR
  obtain ⟨F, NL, DL, dc, ar, sz, hL, hP, hD, hA, hK, hV⟩ := hR
  unfold wpX_open wpY_open
  have hF4 := hL.1.2.1
  rcases dc_or hP hF4 v1 with ⟨g, hg, hg4, rfl, hd, h1, h2, h3⟩ | hno
  · refine xw_id1 hL.2.1 hF4 hg h1 (br_f (by decide) ?_)
    refine yw_id1 hL.2.2.2.2.1 hF4 hg h3 (hP.1 g) (br_f (by decide) ⟨rfl, zz_in ⟨F, NL, DL, dc, ar, sz, hL, hP, ⟨hD.1, Or.inr ⟨g, 0, ⟨hg4, hd, Nat.zero_le _⟩, rfl, rfl, rfl, rfl, rfl, rfl, rfl, fun k hk => absurd hk (Nat.not_lt_zero _), ⟨fun p hp => absurd hp (Nat.not_lt_zero _), fun p hp => absurd hp (Nat.not_lt_zero _), Nat.zero_le _⟩, fun p hp => absurd hp (Nat.not_lt_zero _)⟩⟩, hA, hK, hV⟩⟩)
  · refine xw_id0 hL.2.1 hF4 (fun g hg e => (hno g hg e).1) (br_t rfl ?_)
    exact yw_id0 hL.2.2.2.2.1 hF4 (fun g hg e => (hno g hg e).2) (br_t rfl ⟨rfl, hI⟩)
/-- a new declaration leaves all sound code sound -/
theorem tr_dec {F g n : Nat} {dc : Nat → Bool} {ar sz : Nat → Nat} {a_declared a_arity a_size a_kindAt a_datumAt a_childAt b_arity b_bodySize b_bodyKind b_bodyData : Nat → Int32} (hP : rl_P F dc ar sz a_declared a_arity a_size a_kindAt a_datumAt a_childAt b_arity b_bodySize b_bodyKind b_bodyData) (hg : g < 4) (hgF : g < F) (hn : n ≤ 3) (hd : dc g = false) :
    rl_P F (fu_u dc g true) (fu_u ar g n) sz (upd a_declared g 1) (upd a_arity g (nI n)) a_size a_kindAt a_datumAt a_childAt (upd b_arity g (nI n)) b_bodySize b_bodyKind b_bodyData := by
  obtain ⟨P1, P2, P3, P4, P5⟩ := hP
  have hsz := (((P2 g hg).2 hd).2).1
  have hdd : ∀ h, h < 4 → dc h = true → fu_u dc g true h = true ∧ fu_u ar g n h = ar h := by
    intro h _ z
    have e : h ≠ g := fun e => by rw [e, hd] at z; exact absurd z (by decide)
    rw [fu_n e, fu_n e]
    exact ⟨z, rfl⟩
  refine ⟨fun h => ?_, fun h hh => ?_, P3, P4, fun h hh => ?_⟩
  · by_cases e : h = g
    · rw [e, fu_s]; exact hn
    · rw [fu_n e]; exact P1 h
  · by_cases e : h = g
    · subst e
      rw [fu_s, fu_s]
      exact ⟨fun _ => ⟨hgF, pk_us, pk_us, pk_us⟩, fun z => absurd z (by decide)⟩
    · rw [fu_n e, fu_n e, pk_un e, pk_un e, pk_un e]
      exact P2 h hh
  · obtain ⟨B1, B2, B3⟩ := P5 h hh
    obtain ⟨T1, T2⟩ := tr_B (kd' := a_kindAt) (dt' := a_datumAt) (b' := 16 * h) (fun p _ => ⟨rfl, rfl⟩) hdd B1
    refine ⟨?_, fun z => ?_, ?_⟩
    · by_cases e : h = g
      · subst e
        rw [hsz]
        exact ⟨fun p hp => absurd hp (Nat.not_lt_zero _), fun p hp => absurd hp (Nat.not_lt_zero _), Nat.zero_le _⟩
      · rw [fu_n e]; exact T1
    · rw [sk_l_c (sz h) T2]; exact B2 z
    · exact tr_C T2 (fun p hp i hi c z => z) B3
theorem i_vc_declare {k : Nat} {u : SX} {v : SY} (I : i_Rel k u v) (hk : k + 4 ≤ 2051) (v1 : Int32) (v2 : Int32) : wpX_declare (fun r u' => wpY_declare (fun r' v' => r' = r ∧ i_Rel (k + 4) u' v') v v1 v2) u v1 v2 := by
  refine zz_el (P := fun u v => wpX_declare (fun r u' => wpY_declare (fun r' v' => r' = r ∧ i_Rel (k + 4) u' v') v v1 v2) u v1 v2) ?_ I
  intro f_literalKind f_paramKind f_callKind f_evalTask f_applyTask f_branchTask f_updateTask f_storeTask f_slotAbsent f_slotDelayed f_slotReady f_functionCount f_nodeLimit f_depthLimit f_draftOpen f_draftFor f_draftNodes f_draftCalls f_treeCount f_analysed f_recordValue f_recordThunks f_recordNeeds f_taskTop f_valueTop f_frameCount f_failed f_thunkCount f_demanded a_declared a_arity a_size a_kindAt a_datumAt a_childAt a_treeRoot a_treeHeight a_tables a_marks a_cellDefined a_cellValue a_eager a_taskKind a_taskSubject a_taskFrame a_valueStack a_frameDepth a_slotState a_slotValue a_slotNode a_slotFrame g_functionLimit g_nodeLimit g_depthLimit g_draftFor g_draftSize g_analysed g_level g_runMode g_runDepth g_lastSet g_hasValue g_recordValue g_recordCount g_recordSet b_arity b_bodySize b_bodyKind b_bodyData b_draftKind b_draftData b_heights b_truth b_next b_marks b_cellDefined b_cellValue b_levelFunction b_levelAt b_levelTop b_def b_val b_need b_count hR
  have hI : i_Rel (k + 4) (f_literalKind, f_paramKind, f_callKind, f_evalTask, f_applyTask, f_branchTask, f_updateTask, f_storeTask, f_slotAbsent, f_slotDelayed, f_slotReady, f_functionCount, f_nodeLimit, f_depthLimit, f_draftOpen, f_draftFor, f_draftNodes, f_draftCalls, f_treeCount, f_analysed, f_recordValue, f_recordThunks, f_recordNeeds, f_taskTop, f_valueTop, f_frameCount, f_failed, f_thunkCount, f_demanded, a_declared, a_arity, a_size, a_kindAt, a_datumAt, a_childAt, a_treeRoot, a_treeHeight, a_tables, a_marks, a_cellDefined, a_cellValue, a_eager, a_taskKind, a_taskSubject, a_taskFrame, a_valueStack, a_frameDepth, a_slotState, a_slotValue, a_slotNode, a_slotFrame) (g_functionLimit, g_nodeLimit, g_depthLimit, g_draftFor, g_draftSize, g_analysed, g_level, g_runMode, g_runDepth, g_lastSet, g_hasValue, g_recordValue, g_recordCount, g_recordSet, b_arity, b_bodySize, b_bodyKind, b_bodyData, b_draftKind, b_draftData, b_heights, b_truth, b_next, b_marks, b_cellDefined, b_cellValue, b_levelFunction, b_levelAt, b_levelTop, b_def, b_val, b_need, b_count) := zz_in hR
  obtain ⟨F, NL, DL, dc, ar, sz, hL, hP, hD, hA, hK, hV⟩ := hR
  unfold wpX_declare wpY_declare
  have hF4 := hL.1.2.1
  have eF := hL.2.1
  have eF' := hL.2.2.2.2.1
  rcases pk_ix v1 (n := F) (by omega) with w | w | ⟨g, hg, rfl⟩
  · exact br_t w (br_t w ⟨rfl, hI⟩)
  · have w2 : ¬ v1 < 0 := Int32.not_lt.mpr (Int32.le_trans (nI_pos' (by omega)) w)
    exact br_f w2 (br_t (by rw [eF]; exact w) (br_f w2 (br_t (by rw [eF']; exact w) ⟨rfl, hI⟩)))
  have w2 : ¬ nI g < 0 := nI_pos (by omega)
  have w3 : ¬ f_functionCount ≤ nI g := by rw [eF]; exact nI_ge hg (by omega)
  have w3' : ¬ g_functionLimit ≤ nI g := by rw [eF']; exact nI_ge hg (by omega)
  rcases pk_ix v2 (n := 4) (by omega) with y | y | ⟨n, hn, rfl⟩
  · exact br_f w2 (br_f w3 (br_t y (br_f w2 (br_f w3' (br_t y ⟨rfl, hI⟩)))))
  · have y2 : ¬ v2 < 0 := Int32.not_lt.mpr (Int32.le_trans (by decide) y)
    have y3 : 3 < v2 := Int32.lt_of_lt_of_le (by decide) y
    exact br_f w2 (br_f w3 (br_f y2 (br_t y3 (br_f w2 (br_f w3' (br_f y2 (br_t y3 ⟨rfl, hI⟩)))))))
  have y2 : ¬ nI n < 0 := nI_pos (by omega)
  have y3 : ¬ 3 < nI n := nI_nlt (a := 3) (by omega) (by decide)
  have eg : (nI g).toNatClampNeg = g := nI_clamp (by omega)
  have hi4 : vp_in (nI g) 4 := vp_in_nI (by omega) (by omega)
  cases hd : dc g
  · obtain ⟨q1, q2, q3, q4, q5⟩ := (hP.2.1 g (by omega)).2 hd
    refine br_f w2 (br_f w3 (br_f y2 (br_f y3 ⟨hi4, br_t (by rw [eg]; exact q3) ⟨hi4, nm_r (e' := upd a_declared g 1) (by rw [eg, sa_vb1]) ⟨hi4, nm_r (e' := upd a_arity g (nI n)) (by rw [eg]) ?_⟩⟩⟩)))
    refine br_f w2 (br_f w3' (br_f y2 (br_f y3 ⟨hi4, br_t (by rw [eg, q5]; decide) ⟨hi4, nm_r (e' := upd b_arity g (nI n)) (by rw [eg]) ⟨rfl, ?_⟩⟩⟩)))
    have hdd : ∀ h, h < 4 → dc h = true → fu_u dc g true h = true ∧ fu_u ar g n h = ar h := by
      intro h _ z
      have e : h ≠ g := fun e => by rw [e, hd] at z; exact absurd z (by decide)
      rw [fu_n e, fu_n e]
      exact ⟨z, rfl⟩
    refine zz_in ⟨F, NL, DL, _, _, sz, hL, tr_dec hP (by omega) hg (by omega) hd, ⟨hD.1, ?_⟩, ⟨rfl, Or.inl rfl⟩, hK, hV⟩
    rcases hD.2 with z | ⟨df, m, ⟨d1, d2, d3⟩, d4, d5, d6, d7, d8, d9, d10, d11, d12, d13⟩
    · exact Or.inl z
    · right
      have e : df ≠ g := fun e => by rw [e, hd] at d2; exact absurd d2 (by decide)
      obtain ⟨T1, T2⟩ := tr_B (kd' := a_kindAt) (dt' := a_datumAt) (b' := 64) (fun p _ => ⟨rfl, rfl⟩) hdd d12
      refine ⟨df, m, ⟨d1, by rw [fu_n e]; exact d2, d3⟩, d4, d5, d6, d7, d8, d9, ?_, ?_, by rw [fu_n e]; exact T1, tr_C T2 (fun p hp i hi c z => z) d13⟩
      · rw [sk_l_c m T2]; exact d10
      · intro k hk
        rw [sk_l_c m T2] at hk
        have e1 := sk_r_c k T2
        have e2 : h_t (q_o a_kindAt a_datumAt (fu_u ar g n) 64) m k = h_t (q_o a_kindAt a_datumAt ar 64) m k := by
          unfold h_t
          rw [sk_a_c m T2 (fun q hq => by rw [T2 q hq])]
        rw [e1, e2]
        exact d11 k hk
  · obtain ⟨q1, q2, q3, q4⟩ := (hP.2.1 g (by omega)).1 hd
    have := hP.1 g
    exact br_f w2 (br_f w3 (br_f y2 (br_f y3 ⟨hi4, br_f (by rw [eg, q2]; decide) (br_f w2 (br_f w3' (br_f y2 (br_f y3 ⟨hi4, br_f (by rw [eg, q4]; exact nI_pos (by omega)) ⟨rfl, hI⟩⟩))))⟩)))
end
section
/-! table, strict; the strictness masks -/
theorem s8 (t : Bool) : ∀ b, b < 8 → y_b t <<< (nI b &&& 31) = nI (if t = true then 2 ^ b else 0) := by
  cases t
  · decide +kernel
  · decide +kernel
theorem pw_lt {i n : Nat} (h : i < n) : 2 ^ i ≤ 2 ^ n - 1 := by
  have := Nat.pow_lt_pow_right (a := 2) (by decide) h
  omega
section
variable {g_functionLimit g_nodeLimit g_depthLimit g_draftFor g_draftSize g_analysed g_level g_runMode g_runDepth g_lastSet g_hasValue g_recordValue g_recordCount g_recordSet : Int32} {b_arity b_bodySize b_bodyKind b_bodyData b_draftKind b_draftData b_heights b_truth b_next b_marks b_cellDefined b_cellValue b_levelFunction b_levelAt b_levelTop b_def b_val b_need b_count : Nat → Int32}
theorem yw_tb {R : Int32 → Prop} {f n : Nat} {T : Nat → Bool} (hf : f < 4) (hn : n ≤ 3) (har : b_arity f = nI n) (hT : ∀ c, c < 8 → b_truth (8 * f + c) = y_b (T c)) (h : R (nI (m_ix T (2 ^ n)))) :
    ∀ m i, i + m = 2 ^ n → wY_table_24 R (nI f) g_functionLimit g_nodeLimit g_depthLimit g_draftFor g_draftSize g_analysed g_level g_runMode g_runDepth g_lastSet g_hasValue g_recordValue g_recordCount g_recordSet b_arity b_bodySize b_bodyKind b_bodyData b_draftKind b_draftData b_heights b_truth b_next b_marks b_cellDefined b_cellValue b_levelFunction b_levelAt b_levelTop b_def b_val b_need b_count (m + 1) (nI (m_ix T i)) (nI i) := by
  have h8 := pw_8 hn
  have ef : (nI f).toNatClampNeg = f := nI_clamp (by omega)
  have hi4 : vp_in (nI f) 4 := vp_in_nI hf (by omega)
  intro m
  induction m with
  | zero =>
    intro i hi
    have : i = 2 ^ n := by omega
    rw [← this] at h
    refine ⟨hi4, br_t ?_ h⟩
    rw [ef, har, sa_s1 n (by omega)]
    exact nI_le (by omega) (by omega)
  | succ m ih =>
    intro i hi
    have e2 : nI f * 8 + nI i = nI (8 * f + i) := by rw [sa_m8, nI_add]
    refine ⟨hi4, br_f ?_ ⟨by rw [e2]; exact vp_in_nI (by omega) (by omega), nm_r (e' := nI (m_ix T (i + 1))) ?_ (nm_r (nI_1 i) (ih (i + 1) (by omega)))⟩⟩
    · rw [ef, har, sa_s1 n (by omega)]
      exact nI_ge (by omega) (by omega)
    · rw [e2, nI_clamp (by omega), hT i (by omega), s8 _ i (by omega), nI_add]
      rfl
theorem yw_st {R : Int32 → Prop} {F f n i : Nat} {T : Nat → Bool} (hF : g_functionLimit = nI F) (hF4 : F ≤ 4) (hf : f < F) (hn : n ≤ 3) (hi : i < n) (har : b_arity f = nI n) (han : ¬ g_analysed = 0) (hT : ∀ c, c < 8 → b_truth (8 * f + c) = y_b (T c)) (h : R (y_b (!T (2 ^ n - 1 - 2 ^ i)))) : wpY_strict R (g_functionLimit, g_nodeLimit, g_depthLimit, g_draftFor, g_draftSize, g_analysed, g_level, g_runMode, g_runDepth, g_lastSet, g_hasValue, g_recordValue, g_recordCount, g_recordSet, b_arity, b_bodySize, b_bodyKind, b_bodyData, b_draftKind, b_draftData, b_heights, b_truth, b_next, b_marks, b_cellDefined, b_cellValue, b_levelFunction, b_levelAt, b_levelTop, b_def, b_val, b_need, b_count) (nI f) (nI i) := by
  unfold wpY_strict
  have h8 := pw_8 hn
  have hp := pw_lt hi
  have hq : 1 ≤ 2 ^ i := Nat.one_le_two_pow
  have ef : (nI f).toNatClampNeg = f := nI_clamp (by omega)
  have hi4 : vp_in (nI f) 4 := vp_in_nI (by omega) (by omega)
  have e1 : (((nI f * 8 + ((1 : Int32) <<< (b_arity (nI f).toNatClampNeg &&& 31))) - 1) - ((1 : Int32) <<< (nI i &&& 31))) = nI (8 * f + (2 ^ n - 1 - 2 ^ i)) := by
    have h1 : 1 ≤ 2 ^ n := Nat.one_le_two_pow
    rw [ef, har, sa_s1 n (by omega), sa_s1 i (by omega), sa_m8, nI_add, sa_s (by omega), pk_sub (by omega)]
    exact congrArg nI (by omega)
  refine yw_id1 hF hF4 hf har hn (br_f (by decide) (br_f (nI_pos (by omega)) ⟨hi4, br_t ?_ (br_f han ⟨hi4, ?_⟩)⟩))
  · rw [ef, har]; exact nI_lt hi (by omega)
  · rw [e1, nI_clamp (by omega), hT _ (by omega)]
    refine ⟨vp_in_nI (by omega) (by omega), ?_⟩
    cases et : T (2 ^ n - 1 - 2 ^ i)
    · rw [et] at h; exact br_t rfl h
    · rw [et] at h; exact br_f (by decide) h
end
section
variable {f_literalKind f_paramKind f_callKind f_evalTask f_applyTask f_branchTask f_updateTask f_storeTask f_slotAbsent f_slotDelayed f_slotReady f_functionCount f_nodeLimit f_depthLimit f_draftOpen f_draftFor f_draftNodes f_draftCalls f_treeCount f_analysed f_recordValue f_recordThunks f_recordNeeds f_taskTop f_valueTop f_frameCount f_failed f_thunkCount f_demanded : Int32} {a_declared a_arity a_size a_kindAt a_datumAt a_childAt a_treeRoot a_treeHeight a_tables a_marks a_cellDefined a_cellValue a_eager a_taskKind a_taskSubject a_taskFrame a_valueStack a_frameDepth a_slotState a_slotValue a_slotNode a_slotFrame : Nat → Int32}
theorem xw_sl {R : Int32 → Prop} {f n : Nat} {T : Nat → Bool} (hf : f < 4) (hn : n ≤ 3) (har : a_arity f = nI n) (hT : ∀ c, c < 32 → bt (a_tables f) c = T c) (h : R (q_or (fun i => !T (2 ^ n - 1 - 2 ^ i)) (fun i => (1 : Int32) <<< (nI i &&& 31)) 0 n)) :
    ∀ m i, i + m = n → wX_strictMask_16 R (nI f) (nI (2 ^ n - 1)) f_literalKind f_paramKind f_callKind f_evalTask f_applyTask f_branchTask f_updateTask f_storeTask f_slotAbsent f_slotDelayed f_slotReady f_functionCount f_nodeLimit f_depthLimit f_draftOpen f_draftFor f_draftNodes f_draftCalls f_treeCount f_analysed f_recordValue f_recordThunks f_recordNeeds f_taskTop f_valueTop f_frameCount f_failed f_thunkCount f_demanded a_declared a_arity a_size a_kindAt a_datumAt a_childAt a_treeRoot a_treeHeight a_tables a_marks a_cellDefined a_cellValue a_eager a_taskKind a_taskSubject a_taskFrame a_valueStack a_frameDepth a_slotState a_slotValue a_slotNode a_slotFrame (m + 1) (q_or (fun i => !T (2 ^ n - 1 - 2 ^ i)) (fun i => (1 : Int32) <<< (nI i &&& 31)) 0 i) (nI i) := by
  have h8 := pw_8 hn
  have ef : (nI f).toNatClampNeg = f := nI_clamp (by omega)
  have hi4 : vp_in (nI f) 4 := vp_in_nI hf (by omega)
  intro m
  induction m with
  | zero =>
    intro i hi
    have : i = n := by omega
    subst this
    refine ⟨hi4, br_t ?_ h⟩
    rw [ef, har]
    exact nI_le (by omega) (by omega)
  | succ m ih =>
    intro i hi
    have hp := pw_lt (show i < n by omega)
    have hq : 1 ≤ 2 ^ i := Nat.one_le_two_pow
    have ih' := ih (i + 1) (by omega)
    have t1 : q_or (fun i => !T (2 ^ n - 1 - 2 ^ i)) (fun i => (1 : Int32) <<< (nI i &&& 31)) 0 (i + 1) = if (!T (2 ^ n - 1 - 2 ^ i)) = true then q_or (fun i => !T (2 ^ n - 1 - 2 ^ i)) (fun i => (1 : Int32) <<< (nI i &&& 31)) 0 i ||| ((1 : Int32) <<< (nI i &&& 31)) else q_or (fun i => !T (2 ^ n - 1 - 2 ^ i)) (fun i => (1 : Int32) <<< (nI i &&& 31)) 0 i := rfl
    rw [t1] at ih'
    refine ⟨hi4, br_f ?_ (nm_r (e' := nI (2 ^ n - 1 - 2 ^ i)) (by rw [sa_s1 i (by omega), pk_sub (by omega)]) ⟨hi4, ?_⟩)⟩
    · rw [ef, har]; exact nI_ge (by omega) (by omega)
    · cases et : T (2 ^ n - 1 - 2 ^ i)
      · rw [et, if_pos (by decide)] at ih'
        refine br_t ?_ (nm_e (nm_r (nI_1 i) ih'))
        rw [ef, sa_bz _ (by omega), hT _ (by omega), et]
      · rw [et, if_neg (by decide)] at ih'
        refine br_f ?_ (nm_r (nI_1 i) ih')
        rw [ef, sa_bz _ (by omega), hT _ (by omega), et]
        decide
theorem xw_sm {R : Int32 → Prop} {f n : Nat} {T : Nat → Bool} (hf : f < 4) (hn : n ≤ 3) (har : a_arity f = nI n) (hT : ∀ c, c < 32 → bt (a_tables f) c = T c) (h : R (q_or (fun i => !T (2 ^ n - 1 - 2 ^ i)) (fun i => (1 : Int32) <<< (nI i &&& 31)) 0 n)) : wpX_strictMask R (f_literalKind, f_paramKind, f_callKind, f_evalTask, f_applyTask, f_branchTask, f_updateTask, f_storeTask, f_slotAbsent, f_slotDelayed, f_slotReady, f_functionCount, f_nodeLimit, f_depthLimit, f_draftOpen, f_draftFor, f_draftNodes, f_draftCalls, f_treeCount, f_analysed, f_recordValue, f_recordThunks, f_recordNeeds, f_taskTop, f_valueTop, f_frameCount, f_failed, f_thunkCount, f_demanded, a_declared, a_arity, a_size, a_kindAt, a_datumAt, a_childAt, a_treeRoot, a_treeHeight, a_tables, a_marks, a_cellDefined, a_cellValue, a_eager, a_taskKind, a_taskSubject, a_taskFrame, a_valueStack, a_frameDepth, a_slotState, a_slotValue, a_slotNode, a_slotFrame) (nI f) := by
  unfold wpX_strictMask
  have ef : (nI f).toNatClampNeg = f := nI_clamp (by omega)
  have h1 : 1 ≤ 2 ^ n := Nat.one_le_two_pow
  exact ⟨vp_in_nI hf (by omega), nm_r (e' := nI (2 ^ n - 1)) (by rw [ef, har, sa_s1 n (by omega), sa_s (by omega)]) ⟨n + 1, xw_sl hf hn har hT h n 0 (by omega)⟩⟩
end
/-- the mask's bits -/
theorem sm_b {T : Nat → Bool} {n : Nat} (hn : n ≤ 3) {i : Nat} (hi : i < 32) : bt (q_or (fun i => !T (2 ^ n - 1 - 2 ^ i)) (fun i => (1 : Int32) <<< (nI i &&& 31)) 0 n) i = (decide (i < n) && !T (2 ^ n - 1 - 2 ^ i)) := by
  apply Bool.eq_iff_iff.mpr
  rw [q_or_b, b_0, Bool.and_eq_true, decide_eq_true_eq]
  constructor
  · rintro (z | ⟨j, hj, z1, z2⟩)
    · exact ff_t z
    · rw [sa_bsh j (by omega) i hi, decide_eq_true_eq] at z2
      subst z2
      exact ⟨hj, z1⟩
  · rintro ⟨z1, z2⟩
    exact Or.inr ⟨i, z1, z2, by rw [sa_bsh i hi i hi]; exact decide_eq_true rfl⟩
theorem i_vc_table {k : Nat} {u : SX} {v : SY} (I : i_Rel k u v) (hk : k + 4 ≤ 2051) (v1 : Int32) : wpX_table (fun r => wpY_table (fun r' => r' = r ∧ i_Rel (k + 4) u v) v v1) u v1 := by
  refine zz_el (P := fun u v => wpX_table (fun r => wpY_table (fun r' => r' = r ∧ i_Rel (k + 4) u v) v v1) u v1) ?_ I
  intro f_literalKind f_paramKind f_callKind f_evalTask f_applyTask f_branchTask f_updateTask f_storeTask f_slotAbsent f_slotDelayed f_slotReady f_functionCount f_nodeLimit f_depthLimit f_draftOpen f_draftFor f_draftNodes f_draftCalls f_treeCount f_analysed f_recordValue f_recordThunks f_recordNeeds f_taskTop f_valueTop f_frameCount f_failed f_thunkCount f_demanded a_declared a_arity a_size a_kindAt a_datumAt a_childAt a_treeRoot a_treeHeight a_tables a_marks a_cellDefined a_cellValue a_eager a_taskKind a_taskSubject a_taskFrame a_valueStack a_frameDepth a_slotState a_slotValue a_slotNode a_slotFrame g_functionLimit g_nodeLimit g_depthLimit g_draftFor g_draftSize g_analysed g_level g_runMode g_runDepth g_lastSet g_hasValue g_recordValue g_recordCount g_recordSet b_arity b_bodySize b_bodyKind b_bodyData b_draftKind b_draftData b_heights b_truth b_next b_marks b_cellDefined b_cellValue b_levelFunction b_levelAt b_levelTop b_def b_val b_need b_count hR
  have hI : i_Rel (k + 4) (f_literalKind, f_paramKind, f_callKind, f_evalTask, f_applyTask, f_branchTask, f_updateTask, f_storeTask, f_slotAbsent, f_slotDelayed, f_slotReady, f_functionCount, f_nodeLimit, f_depthLimit, f_draftOpen, f_draftFor, f_draftNodes, f_draftCalls, f_treeCount, f_analysed, f_recordValue, f_recordThunks, f_recordNeeds, f_taskTop, f_valueTop, f_frameCount, f_failed, f_thunkCount, f_demanded, a_declared, a_arity, a_size, a_kindAt, a_datumAt, a_childAt, a_treeRoot, a_treeHeight, a_tables, a_marks, a_cellDefined, a_cellValue, a_eager, a_taskKind, a_taskSubject, a_taskFrame, a_valueStack, a_frameDepth, a_slotState, a_slotValue, a_slotNode, a_slotFrame) (g_functionLimit, g_nodeLimit, g_depthLimit, g_draftFor, g_draftSize, g_analysed, g_level, g_runMode, g_runDepth, g_lastSet, g_hasValue, g_recordValue, g_recordCount, g_recordSet, b_arity, b_bodySize, b_bodyKind, b_bodyData, b_draftKind, b_draftData, b_heights, b_truth, b_next, b_marks, b_cellDefined, b_cellValue, b_levelFunction, b_levelAt, b_levelTop, b_def, b_val, b_need, b_count) := zz_in hR
  obtain ⟨F, NL, DL, dc, ar, sz, hL, hP, hD, hA, hK, hV⟩ := hR
  unfold wpX_table wpY_table
  have hF4 := hL.1.2.1
  rcases dc_or hP hF4 v1 with ⟨g, hg, hg4, rfl, hd, h1, h2, h3⟩ | hno
  · refine xw_id1 hL.2.1 hF4 hg h1 (br_f (by decide) ?_)
    have hn := hP.1 g
    rcases hA with ⟨e, a1 | ⟨a1, T, hT⟩⟩
    · refine br_t a1 (yw_id1 hL.2.2.2.2.1 hF4 hg h3 hn (br_f (by decide) (br_t (by rw [← e]; exact a1) ⟨rfl, hI⟩)))
    · have n1 : ¬ f_analysed = 0 := by rw [a1]; decide
      obtain ⟨T1, T2, T3⟩ := hT g hg4
      refine br_f n1 ⟨vp_in_nI hg4 (by omega), yw_id1 hL.2.2.2.2.1 hF4 hg h3 hn (br_f (by decide) (br_f (by rw [← e]; exact n1) ⟨2 ^ ar g + 1, ?_⟩))⟩
      refine yw_tb (T := T g) hg4 hn h3 T3 ⟨?_, hI⟩ (2 ^ ar g) 0 (by omega)
      rw [nI_clamp (by omega)]
      apply b_ext
      intro i hi
      rw [T1 i hi, sa_btn hi]
      by_cases hi2 : i < 2 ^ ar g
      · exact m_ix_b _ _ i hi2
      · rw [T2 i (by omega)]
        exact Nat.testBit_lt_two_pow (Nat.lt_of_lt_of_le (m_ix_lt _ _) (Nat.pow_le_pow_right (by decide) (by omega)))
  · refine xw_id0 hL.2.1 hF4 (fun g hg e => (hno g hg e).1) (br_t rfl ?_)
    exact yw_id0 hL.2.2.2.2.1 hF4 (fun g hg e => (hno g hg e).2) (br_t rfl ⟨rfl, hI⟩)
theorem i_vc_strict {k : Nat} {u : SX} {v : SY} (I : i_Rel k u v) (hk : k + 4 ≤ 2051) (v1 : Int32) (v2 : Int32) : wpX_strict (fun r => wpY_strict (fun r' => r' = r ∧ i_Rel (k + 4) u v) v v1 v2) u v1 v2 := by
  refine zz_el (P := fun u v => wpX_strict (fun r => wpY_strict (fun r' => r' = r ∧ i_Rel (k + 4) u v) v v1 v2) u v1 v2) ?_ I
  intro f_literalKind f_paramKind f_callKind f_evalTask f_applyTask f_branchTask f_updateTask f_storeTask f_slotAbsent f_slotDelayed f_slotReady f_functionCount f_nodeLimit f_depthLimit f_draftOpen f_draftFor f_draftNodes f_draftCalls f_treeCount f_analysed f_recordValue f_recordThunks f_recordNeeds f_taskTop f_valueTop f_frameCount f_failed f_thunkCount f_demanded a_declared a_arity a_size a_kindAt a_datumAt a_childAt a_treeRoot a_treeHeight a_tables a_marks a_cellDefined a_cellValue a_eager a_taskKind a_taskSubject a_taskFrame a_valueStack a_frameDepth a_slotState a_slotValue a_slotNode a_slotFrame g_functionLimit g_nodeLimit g_depthLimit g_draftFor g_draftSize g_analysed g_level g_runMode g_runDepth g_lastSet g_hasValue g_recordValue g_recordCount g_recordSet b_arity b_bodySize b_bodyKind b_bodyData b_draftKind b_draftData b_heights b_truth b_next b_marks b_cellDefined b_cellValue b_levelFunction b_levelAt b_levelTop b_def b_val b_need b_count hR
  have hI : i_Rel (k + 4) (f_literalKind, f_paramKind, f_callKind, f_evalTask, f_applyTask, f_branchTask, f_updateTask, f_storeTask, f_slotAbsent, f_slotDelayed, f_slotReady, f_functionCount, f_nodeLimit, f_depthLimit, f_draftOpen, f_draftFor, f_draftNodes, f_draftCalls, f_treeCount, f_analysed, f_recordValue, f_recordThunks, f_recordNeeds, f_taskTop, f_valueTop, f_frameCount, f_failed, f_thunkCount, f_demanded, a_declared, a_arity, a_size, a_kindAt, a_datumAt, a_childAt, a_treeRoot, a_treeHeight, a_tables, a_marks, a_cellDefined, a_cellValue, a_eager, a_taskKind, a_taskSubject, a_taskFrame, a_valueStack, a_frameDepth, a_slotState, a_slotValue, a_slotNode, a_slotFrame) (g_functionLimit, g_nodeLimit, g_depthLimit, g_draftFor, g_draftSize, g_analysed, g_level, g_runMode, g_runDepth, g_lastSet, g_hasValue, g_recordValue, g_recordCount, g_recordSet, b_arity, b_bodySize, b_bodyKind, b_bodyData, b_draftKind, b_draftData, b_heights, b_truth, b_next, b_marks, b_cellDefined, b_cellValue, b_levelFunction, b_levelAt, b_levelTop, b_def, b_val, b_need, b_count) := zz_in hR
  obtain ⟨F, NL, DL, dc, ar, sz, hL, hP, hD, hA, hK, hV⟩ := hR
  unfold wpX_strict
  have hF4 := hL.1.2.1
  rcases dc_or hP hF4 v1 with ⟨g, hg, hg4, rfl, hd, h1, h2, h3⟩ | hno
  · refine xw_id1 hL.2.1 hF4 hg h1 (br_f (by decide) ?_)
    have hn := hP.1 g
    have eg : (nI g).toNatClampNeg = g := nI_clamp (by omega)
    have hi4 : vp_in (nI g) 4 := vp_in_nI hg4 (by omega)
    rcases pk_ix v2 (n := ar g) (by omega) with w | w | ⟨i, hi, rfl⟩
    · refine br_t w ?_
      unfold wpY_strict
      exact yw_id1 hL.2.2.2.2.1 hF4 hg h3 hn (br_f (by decide) (br_t w ⟨rfl, hI⟩))
    · have w2 : ¬ v2 < 0 := Int32.not_lt.mpr (Int32.le_trans (nI_pos' (by omega)) w)
      have w3 : ¬ v2 < nI (ar g) := Int32.not_lt.mpr w
      refine br_f w2 ⟨hi4, br_f (by rw [eg, h2]; exact w3) ?_⟩
      unfold wpY_strict
      exact yw_id1 hL.2.2.2.2.1 hF4 hg h3 hn (br_f (by decide) (br_f w2 ⟨hi4, br_f (by rw [eg, h3]; exact w3) ⟨rfl, hI⟩⟩))
    · have w2 : ¬ nI i < 0 := nI_pos (by omega)
      have w3 : nI i < nI (ar g) := nI_lt hi (by omega)
      rcases hA with ⟨e, a1 | ⟨a1, T, hT⟩⟩
      · refine br_f w2 ⟨hi4, br_t (by rw [eg, h2]; exact w3) (br_t a1 ?_)⟩
        unfold wpY_strict
        exact yw_id1 hL.2.2.2.2.1 hF4 hg h3 hn (br_f (by decide) (br_f w2 ⟨hi4, br_t (by rw [eg, h3]; exact w3) (br_t (by rw [← e]; exact a1) ⟨rfl, hI⟩)⟩))
      · have n1 : ¬ f_analysed = 0 := by rw [a1]; decide
        obtain ⟨T1, T2, T3⟩ := hT g hg4
        refine br_f w2 ⟨hi4, br_t (by rw [eg, h2]; exact w3) (br_f n1 (xw_sm (T := T g) hg4 hn h2 T1 ?_))⟩
        refine yw_st (T := T g) hL.2.2.2.2.1 hF4 hg hn hi h3 (by rw [← e]; exact n1) T3 ⟨?_, hI⟩
        rw [sa_bit _ (by omega), sm_b hn (by omega), decide_eq_true hi, Bool.true_and]
        rfl
  · refine xw_id0 hL.2.1 hF4 (fun g hg e => (hno g hg e).1) (br_t rfl ?_)
    unfold wpY_strict
    exact yw_id0 hL.2.2.2.2.1 hF4 (fun g hg e => (hno g hg e).2) (br_t rfl ⟨rfl, hI⟩)
end
section
/-! heights, and the reference's draftTrees -/
theorem h_mx_le {a : Nat → Nat} {b : Nat} : ∀ n, (∀ i, i < n → a i ≤ b) → h_mx a n ≤ b := by
  intro n
  induction n with
  | zero => intro _; exact Nat.zero_le _
  | succ n ih =>
    intro h
    show (if a n ≤ h_mx a n then h_mx a n else a n) ≤ b
    by_cases z : a n ≤ h_mx a n
    · rw [if_pos z]; exact ih (fun i hi => h i (by omega))
    · rw [if_neg z]; exact h n (by omega)
theorem h_mx_c {a a' : Nat → Nat} : ∀ n, (∀ i, i < n → a i = a' i) → h_mx a n = h_mx a' n := by
  intro n
  induction n with
  | zero => intro _; rfl
  | succ n ih =>
    intro h
    show (if a n ≤ h_mx a n then h_mx a n else a n) = (if a' n ≤ h_mx a' n then h_mx a' n else a' n)
    rw [ih (fun i hi => h i (by omega)), h n (by omega)]
theorem h_t_le (o : Nat → Nat) : ∀ p k, h_t o p k ≤ p := by
  intro p
  induction p with
  | zero => intro k; exact Nat.le_refl _
  | succ p ih =>
    intro k
    show (if k = sk_l o p - o p then h_mx (fun i => h_t o p (sk_l o p - o p + i)) (o p) + 1 else h_t o p k) ≤ p + 1
    by_cases e : k = sk_l o p - o p
    · rw [if_pos e]
      have := h_mx_le (a := fun i => h_t o p (sk_l o p - o p + i)) (b := p) (o p) (fun i _ => ih _)
      omega
    · rw [if_neg e]
      have := ih k
      omega
theorem h_t_t {o : Nat → Nat} {p k : Nat} (e : k = sk_l o p - o p) : h_t o (p + 1) k = h_mx (fun i => h_t o p (sk_l o p - o p + i)) (o p) + 1 := if_pos e
theorem h_t_n {o : Nat → Nat} {p k : Nat} (e : k ≠ sk_l o p - o p) : h_t o (p + 1) k = h_t o p k := if_neg e
section
variable {f_literalKind f_paramKind f_callKind f_evalTask f_applyTask f_branchTask f_updateTask f_storeTask f_slotAbsent f_slotDelayed f_slotReady f_functionCount f_nodeLimit f_depthLimit f_draftOpen f_draftFor f_draftNodes f_draftCalls f_treeCount f_analysed f_recordValue f_recordThunks f_recordNeeds f_taskTop f_valueTop f_frameCount f_failed f_thunkCount f_demanded : Int32} {a_declared a_arity a_size a_kindAt a_datumAt a_childAt a_treeRoot a_treeHeight a_tables a_marks a_cellDefined a_cellValue a_eager a_taskKind a_taskSubject a_taskFrame a_valueStack a_frameDepth a_slotState a_slotValue a_slotNode a_slotFrame : Nat → Int32}
theorem xw_hl {R : Int32 → Prop} {t n : Nat} {a : Nat → Nat} (ht : f_treeCount = nI t) (hn : n ≤ t) (ht8 : t ≤ 8) (ha : ∀ i, i < n → a_treeHeight (t - n + i) = nI (a i) ∧ a i ≤ 16) (h : R (nI (h_mx a n + 1))) :
    ∀ m i, i + m = n → wX_heightOver_9 R f_literalKind f_paramKind f_callKind f_evalTask f_applyTask f_branchTask f_updateTask f_storeTask f_slotAbsent f_slotDelayed f_slotReady f_functionCount f_nodeLimit f_depthLimit f_draftOpen f_draftFor f_draftNodes f_draftCalls f_treeCount f_analysed f_recordValue f_recordThunks f_recordNeeds f_taskTop f_valueTop f_frameCount f_failed f_thunkCount f_demanded a_declared a_arity a_size a_kindAt a_datumAt a_childAt a_treeRoot a_treeHeight a_tables a_marks a_cellDefined a_cellValue a_eager a_taskKind a_taskSubject a_taskFrame a_valueStack a_frameDepth a_slotState a_slotValue a_slotNode a_slotFrame (m + 1) (nI (h_mx a i)) (nI (t - n + i)) := by
  subst ht
  intro m
  induction m with
  | zero =>
    intro i hi
    have : i = n := by omega
    subst this
    refine br_t (nI_le (by omega) (by omega)) ?_
    rw [nI_1]
    exact h
  | succ m ih =>
    intro i hi
    have ih' := ih (i + 1) (by omega)
    obtain ⟨a1, a2⟩ := ha i (by omega)
    have hb := h_mx_le (a := a) (b := 16) i (fun j hj => (ha j (by omega)).2)
    have e : (nI (t - n + i)).toNatClampNeg = t - n + i := nI_clamp (by omega)
    have t1 : h_mx a (i + 1) = if a i ≤ h_mx a i then h_mx a i else a i := rfl
    have hv : vp_in (nI (t - n + i)) 8 := vp_in_nI (by omega) (by omega)
    rw [t1] at ih'
    refine br_f (nI_ge (by omega) (by omega)) ⟨hv, ?_⟩
    by_cases z : a i ≤ h_mx a i
    · rw [if_pos z] at ih'
      exact br_t (by rw [e, a1]; exact nI_le z (by omega)) (nm_r (nI_1 _) ih')
    · rw [if_neg z] at ih'
      exact br_f (by rw [e, a1]; exact nI_ge (by omega) (by omega)) ⟨hv, nm_r (e' := nI (a i)) (by rw [e, a1]) (nm_r (nI_1 _) ih')⟩
theorem xw_ho {R : Int32 → Prop} {t n : Nat} {a : Nat → Nat} (ht : f_treeCount = nI t) (hn : n ≤ t) (ht8 : t ≤ 8) (ha : ∀ i, i < n → a_treeHeight (t - n + i) = nI (a i) ∧ a i ≤ 16) (h : R (nI (h_mx a n + 1))) : wpX_heightOver R (f_literalKind, f_paramKind, f_callKind, f_evalTask, f_applyTask, f_branchTask, f_updateTask, f_storeTask, f_slotAbsent, f_slotDelayed, f_slotReady, f_functionCount, f_nodeLimit, f_depthLimit, f_draftOpen, f_draftFor, f_draftNodes, f_draftCalls, f_treeCount, f_analysed, f_recordValue, f_recordThunks, f_recordNeeds, f_taskTop, f_valueTop, f_frameCount, f_failed, f_thunkCount, f_demanded, a_declared, a_arity, a_size, a_kindAt, a_datumAt, a_childAt, a_treeRoot, a_treeHeight, a_tables, a_marks, a_cellDefined, a_cellValue, a_eager, a_taskKind, a_taskSubject, a_taskFrame, a_valueStack, a_frameDepth, a_slotState, a_slotValue, a_slotNode, a_slotFrame) (nI n) := by
  unfold wpX_heightOver
  exact nm_r (e' := nI (t - n)) (by rw [ht, pk_sub hn]) ⟨n + 1, xw_hl ht hn ht8 ha h n 0 (by omega)⟩
end
section
variable {g_functionLimit g_nodeLimit g_depthLimit g_draftFor g_draftSize g_analysed g_level g_runMode g_runDepth g_lastSet g_hasValue g_recordValue g_recordCount g_recordSet : Int32} {b_arity b_bodySize b_bodyKind b_bodyData b_draftKind b_draftData b_heights b_truth b_next b_marks b_cellDefined b_cellValue b_levelFunction b_levelAt b_levelTop b_def b_val b_need b_count : Nat → Int32}
theorem yw_hl {R : Int32 → Prop} {t n : Nat} {a : Nat → Nat} (hn : n ≤ t) (ht8 : t ≤ 8) (ha : ∀ i, i < n → b_heights (t - n + i) = nI (a i) ∧ a i ≤ 16) (h : R (nI (h_mx a n + 1))) :
    ∀ m i, i + m = n → wY_heightOver_7 R (nI t) g_functionLimit g_nodeLimit g_depthLimit g_draftFor g_draftSize g_analysed g_level g_runMode g_runDepth g_lastSet g_hasValue g_recordValue g_recordCount g_recordSet b_arity b_bodySize b_bodyKind b_bodyData b_draftKind b_draftData b_heights b_truth b_next b_marks b_cellDefined b_cellValue b_levelFunction b_levelAt b_levelTop b_def b_val b_need b_count (m + 1) (nI (h_mx a i)) (nI (t - n + i)) := by
  intro m
  induction m with
  | zero =>
    intro i hi
    have : i = n := by omega
    subst this
    refine br_t (nI_le (by omega) (by omega)) ?_
    rw [nI_1]
    exact h
  | succ m ih =>
    intro i hi
    have ih' := ih (i + 1) (by omega)
    obtain ⟨a1, a2⟩ := ha i (by omega)
    have hb := h_mx_le (a := a) (b := 16) i (fun j hj => (ha j (by omega)).2)
    have e : (nI (t - n + i)).toNatClampNeg = t - n + i := nI_clamp (by omega)
    have t1 : h_mx a (i + 1) = if a i ≤ h_mx a i then h_mx a i else a i := rfl
    have hv : vp_in (nI (t - n + i)) 8 := vp_in_nI (by omega) (by omega)
    rw [t1] at ih'
    refine br_f (nI_ge (by omega) (by omega)) ⟨hv, ?_⟩
    by_cases z : a i ≤ h_mx a i
    · rw [if_pos z] at ih'
      exact br_t (by rw [e, a1]; exact nI_le z (by omega)) (nm_r (nI_1 _) ih')
    · rw [if_neg z] at ih'
      exact br_f (by rw [e, a1]; exact nI_ge (by omega) (by omega)) ⟨hv, nm_r (e' := nI (a i)) (by rw [e, a1]) (nm_r (nI_1 _) ih')⟩
theorem yw_ho {R : Int32 → Prop} {t n : Nat} {a : Nat → Nat} (hn : n ≤ t) (ht8 : t ≤ 8) (ha : ∀ i, i < n → b_heights (t - n + i) = nI (a i) ∧ a i ≤ 16) (h : R (nI (h_mx a n + 1))) : wpY_heightOver R (g_functionLimit, g_nodeLimit, g_depthLimit, g_draftFor, g_draftSize, g_analysed, g_level, g_runMode, g_runDepth, g_lastSet, g_hasValue, g_recordValue, g_recordCount, g_recordSet, b_arity, b_bodySize, b_bodyKind, b_bodyData, b_draftKind, b_draftData, b_heights, b_truth, b_next, b_marks, b_cellDefined, b_cellValue, b_levelFunction, b_levelAt, b_levelTop, b_def, b_val, b_need, b_count) (nI t) (nI n) := by
  unfold wpY_heightOver
  exact nm_r (e' := nI (t - n)) (by rw [pk_sub hn]) ⟨n + 1, yw_hl hn ht8 ha h n 0 (by omega)⟩
theorem yw_dl {R : Int32 → SY → Prop} {kd dt : Nat → Int32} {ar : Nat → Nat} {dc : Nat → Bool} {m n : Nat} (hm : m ≤ 16) (hk : ∀ p, p < 16 → b_draftKind p = kd (64 + p) ∧ b_draftData p = dt (64 + p)) (hB : rl_B kd dt ar dc 64 m n) (hd : ∀ h, h < 4 → dc h = true → b_arity h = nI (ar h))
    (h : ∀ b_heights : Nat → Int32, (∀ k, k < sk_l (q_o kd dt ar 64) m → b_heights k = nI (h_t (q_o kd dt ar 64) m k)) → R (nI (sk_l (q_o kd dt ar 64) m)) (g_functionLimit, g_nodeLimit, g_depthLimit, g_draftFor, (nI m), g_analysed, g_level, g_runMode, g_runDepth, g_lastSet, g_hasValue, g_recordValue, g_recordCount, g_recordSet, b_arity, b_bodySize, b_bodyKind, b_bodyData, b_draftKind, b_draftData, b_heights, b_truth, b_next, b_marks, b_cellDefined, b_cellValue, b_levelFunction, b_levelAt, b_levelTop, b_def, b_val, b_need, b_count)) :
    ∀ w p, p + w = m → ∀ b_heights : Nat → Int32, (∀ k, k < sk_l (q_o kd dt ar 64) p → b_heights k = nI (h_t (q_o kd dt ar 64) p k)) → wY_draftTrees_4 R g_functionLimit g_nodeLimit g_depthLimit g_draftFor (nI m) g_analysed g_level g_runMode g_runDepth g_lastSet g_hasValue g_recordValue g_recordCount g_recordSet (w + 1) (nI (sk_l (q_o kd dt ar 64) p)) (nI p) b_arity b_bodySize b_bodyKind b_bodyData b_draftKind b_draftData b_heights b_truth b_next b_marks b_cellDefined b_cellValue b_levelFunction b_levelAt b_levelTop b_def b_val b_need b_count := by
  intro w
  induction w with
  | zero =>
    intro p hp b_heights hh
    have : p = m := by omega
    subst this
    exact br_t (nI_le (Nat.le_refl _) (by omega)) (h b_heights hh)
  | succ w ih =>
    intro p hp b_heights hh
    have hv : vp_in (nI p) 16 := vp_in_nI (by omega) (by omega)
    have ep : (nI p).toNatClampNeg = p := nI_clamp (by omega)
    obtain ⟨o1, o2⟩ := hB.2.1 p (by omega)
    have hl8 := B_8 hB p (by omega)
    rw [sk_l_s] at o2
    refine br_f (nI_ge (by omega) (by omega)) ⟨hv, hv, ?_⟩
    rw [ep, (hk p (by omega)).1, (hk p (by omega)).2]
    refine yw_on (kd := kd) (dt := dt) (ar := ar) (j := 64 + p) (fun z => ?_) ?_
    · obtain ⟨⟨_, _, b3⟩, b4⟩ := hB.1 p (by omega)
      obtain ⟨g, hg, e⟩ := b3 z
      exact ⟨g, hg, e, hd g hg (b4 z g hg e)⟩
    · have on : q_on kd dt ar (64 + p) = q_o kd dt ar 64 p := rfl
      rw [on]
      refine yw_ho (a := fun i => h_t (q_o kd dt ar 64) p (sk_l (q_o kd dt ar 64) p - q_o kd dt ar 64 p + i)) o1 hl8 (fun i hi => ⟨hh _ (by omega), by have := h_t_le (q_o kd dt ar 64) p (sk_l (q_o kd dt ar 64) p - q_o kd dt ar 64 p + i); omega⟩) ?_
      have e2 : nI (sk_l (q_o kd dt ar 64) p - q_o kd dt ar 64 p + 1) - 1 = nI (sk_l (q_o kd dt ar 64) p - q_o kd dt ar 64 p) := nI_pred _
      refine nm_r (e' := nI (sk_l (q_o kd dt ar 64) p - q_o kd dt ar 64 p + 1)) (by rw [pk_sub o1, nI_1]) ⟨by rw [e2]; exact vp_in_nI (by omega) (by omega), ?_⟩
      rw [e2, nI_clamp (by omega)]
      refine nm_e (nm_r (nI_1 p) (ih (p + 1) (by omega) _ (fun k hk => ?_)))
      rw [sk_l_s] at hk
      by_cases e : k = sk_l (q_o kd dt ar 64) p - q_o kd dt ar 64 p
      · rw [h_t_t e, e]; exact pk_us
      · rw [h_t_n e, pk_un e]; exact hh k (by omega)
theorem yw_dt {R : Int32 → SY → Prop} {kd dt : Nat → Int32} {ar : Nat → Nat} {dc : Nat → Bool} {m n : Nat} (hs : g_draftSize = nI m) (hm : m ≤ 16) (hk : ∀ p, p < 16 → b_draftKind p = kd (64 + p) ∧ b_draftData p = dt (64 + p)) (hB : rl_B kd dt ar dc 64 m n) (hd : ∀ h, h < 4 → dc h = true → b_arity h = nI (ar h))
    (h : ∀ b_heights : Nat → Int32, (∀ k, k < sk_l (q_o kd dt ar 64) m → b_heights k = nI (h_t (q_o kd dt ar 64) m k)) → R (nI (sk_l (q_o kd dt ar 64) m)) (g_functionLimit, g_nodeLimit, g_depthLimit, g_draftFor, g_draftSize, g_analysed, g_level, g_runMode, g_runDepth, g_lastSet, g_hasValue, g_recordValue, g_recordCount, g_recordSet, b_arity, b_bodySize, b_bodyKind, b_bodyData, b_draftKind, b_draftData, b_heights, b_truth, b_next, b_marks, b_cellDefined, b_cellValue, b_levelFunction, b_levelAt, b_levelTop, b_def, b_val, b_need, b_count)) : wpY_draftTrees R (g_functionLimit, g_nodeLimit, g_depthLimit, g_draftFor, g_draftSize, g_analysed, g_level, g_runMode, g_runDepth, g_lastSet, g_hasValue, g_recordValue, g_recordCount, g_recordSet, b_arity, b_bodySize, b_bodyKind, b_bodyData, b_draftKind, b_draftData, b_heights, b_truth, b_next, b_marks, b_cellDefined, b_cellValue, b_levelFunction, b_levelAt, b_levelTop, b_def, b_val, b_need, b_count) := by
  subst hs
  unfold wpY_draftTrees
  exact ⟨m + 1, yw_dl hm hk hB hd h m 0 (by omega) b_heights (fun k hk => absurd hk (Nat.not_lt_zero _))⟩
end
theorem i_vc_trees {k : Nat} {u : SX} {v : SY} (I : i_Rel k u v) (hk : k + 4 ≤ 2051) : wpX_trees (fun r => wpY_trees (fun r' v' => r' = r ∧ i_Rel (k + 4) u v') v) u := by
  refine zz_el (P := fun u v => wpX_trees (fun r => wpY_trees (fun r' v' => r' = r ∧ i_Rel (k + 4) u v') v) u) ?_ I
  intro f_literalKind f_paramKind f_callKind f_evalTask f_applyTask f_branchTask f_updateTask f_storeTask f_slotAbsent f_slotDelayed f_slotReady f_functionCount f_nodeLimit f_depthLimit f_draftOpen f_draftFor f_draftNodes f_draftCalls f_treeCount f_analysed f_recordValue f_recordThunks f_recordNeeds f_taskTop f_valueTop f_frameCount f_failed f_thunkCount f_demanded a_declared a_arity a_size a_kindAt a_datumAt a_childAt a_treeRoot a_treeHeight a_tables a_marks a_cellDefined a_cellValue a_eager a_taskKind a_taskSubject a_taskFrame a_valueStack a_frameDepth a_slotState a_slotValue a_slotNode a_slotFrame g_functionLimit g_nodeLimit g_depthLimit g_draftFor g_draftSize g_analysed g_level g_runMode g_runDepth g_lastSet g_hasValue g_recordValue g_recordCount g_recordSet b_arity b_bodySize b_bodyKind b_bodyData b_draftKind b_draftData b_heights b_truth b_next b_marks b_cellDefined b_cellValue b_levelFunction b_levelAt b_levelTop b_def b_val b_need b_count hR
  have hI : ∀ b_heights, i_Rel (k + 4) (f_literalKind, f_paramKind, f_callKind, f_evalTask, f_applyTask, f_branchTask, f_updateTask, f_storeTask, f_slotAbsent, f_slotDelayed, f_slotReady, f_functionCount, f_nodeLimit, f_depthLimit, f_draftOpen, f_draftFor, f_draftNodes, f_draftCalls, f_treeCount, f_analysed, f_recordValue, f_recordThunks, f_recordNeeds, f_taskTop, f_valueTop, f_frameCount, f_failed, f_thunkCount, f_demanded, a_declared, a_arity, a_size, a_kindAt, a_datumAt, a_childAt, a_treeRoot, a_treeHeight, a_tables, a_marks, a_cellDefined, a_cellValue, a_eager, a_taskKind, a_taskSubject, a_taskFrame, a_valueStack, a_frameDepth, a_slotState, a_slotValue, a_slotNode, a_slotFrame) (g_functionLimit, g_nodeLimit, g_depthLimit, g_draftFor, g_draftSize, g_analysed, g_level, g_runMode, g_runDepth, g_lastSet, g_hasValue, g_recordValue, g_recordCount, g_recordSet, b_arity, b_bodySize, b_bodyKind, b_bodyData, b_draftKind, b_draftData, b_heights, b_truth, b_next, b_marks, b_cellDefined, b_cellValue, b_levelFunction, b_levelAt, b_levelTop, b_def, b_val, b_need, b_count) := fun _ => zz_in hR
  obtain ⟨F, NL, DL, dc, ar, sz, hL, hP, hD, hA, hK, hV⟩ := hR
  unfold wpX_trees wpY_trees
  rcases hD.2 with ⟨z1, z2⟩ | ⟨df, m, ⟨d1, d2, d3⟩, d4, d5, d6, d7, d8, d9, d10, d11, d12, d13⟩
  · exact br_t z1 (br_f (by rw [z2]; decide) ⟨rfl, hI _⟩)
  · refine br_f (by rw [d4]; decide) (br_t (by rw [d6]; exact nI_pos' (by omega)) ?_)
    have := hL.1.2.2.2.1
    exact yw_dt (dc := dc) d8 (by omega) hD.1 d12 (fun h hh hd => (((hP.2.1 h hh).1 hd).2.2).2) (fun b_heights hh => ⟨d10.symm, hI _⟩)
end
section
/-! placing a node in the draft -/
theorem on_3 {kd dt : Nat → Int32} {ar : Nat → Nat} (ha : ∀ h, ar h ≤ 3) (j : Nat) : q_on kd dt ar j ≤ 3 := by
  unfold q_on
  by_cases h0 : kd j = 0
  · rw [if_pos h0]; omega
  by_cases h8 : kd j = 8
  · rw [if_neg h0, if_pos h8]; omega
  by_cases h9 : kd j = 9
  · rw [if_neg h0, if_neg h8, if_pos h9]; omega
  by_cases h10 : kd j = 10
  · rw [if_neg h0, if_neg h8, if_neg h9, if_pos h10]; exact ha _
  rw [if_neg h0, if_neg h8, if_neg h9, if_neg h10]
  by_cases h7 : kd j = 7
  · rw [if_pos h7]; omega
  · rw [if_neg h7]; omega
section
variable {f_literalKind f_paramKind f_callKind f_evalTask f_applyTask f_branchTask f_updateTask f_storeTask f_slotAbsent f_slotDelayed f_slotReady f_functionCount f_nodeLimit f_depthLimit f_draftOpen f_draftFor f_draftNodes f_draftCalls f_treeCount f_analysed f_recordValue f_recordThunks f_recordNeeds f_taskTop f_valueTop f_frameCount f_failed f_thunkCount f_demanded : Int32} {a_declared a_arity a_size a_kindAt a_datumAt a_childAt a_treeRoot a_treeHeight a_tables a_marks a_cellDefined a_cellValue a_eager a_taskKind a_taskSubject a_taskFrame a_valueStack a_frameDepth a_slotState a_slotValue a_slotNode a_slotFrame : Nat → Int32}
theorem xw_wl {R : SX → Prop} {m t n : Nat} {ch : Nat → Int32} (hm : m < 16) (hn : n ≤ t) (hn3 : n ≤ 3) (ht8 : t ≤ 8) (ht1 : t - n + 1 ≤ 8)
    (h : ∀ a_childAt : Nat → Int32, (∀ j, j < 3 * (64 + m) → a_childAt j = ch j) → (∀ i, i < n → a_childAt (3 * (64 + m) + i) = a_treeRoot (t - n + i)) → R (f_literalKind, f_paramKind, f_callKind, f_evalTask, f_applyTask, f_branchTask, f_updateTask, f_storeTask, f_slotAbsent, f_slotDelayed, f_slotReady, f_functionCount, f_nodeLimit, f_depthLimit, f_draftOpen, f_draftFor, (nI (m + 1)), f_draftCalls, (nI (t - n + 1)), f_analysed, f_recordValue, f_recordThunks, f_recordNeeds, f_taskTop, f_valueTop, f_frameCount, f_failed, f_thunkCount, f_demanded, a_declared, a_arity, a_size, a_kindAt, a_datumAt, a_childAt, (upd a_treeRoot (t - n) (nI m)), a_treeHeight, a_tables, a_marks, a_cellDefined, a_cellValue, a_eager, a_taskKind, a_taskSubject, a_taskFrame, a_valueStack, a_frameDepth, a_slotState, a_slotValue, a_slotNode, a_slotFrame)) :
    ∀ w i, i + w = n → ∀ a_childAt : Nat → Int32, (∀ j, j < 3 * (64 + m) → a_childAt j = ch j) → (∀ i', i' < i → a_childAt (3 * (64 + m) + i') = a_treeRoot (t - n + i')) → wX_writeNode_36 R (nI n) (nI (64 + m)) (nI (t - n)) f_literalKind f_paramKind f_callKind f_evalTask f_applyTask f_branchTask f_updateTask f_storeTask f_slotAbsent f_slotDelayed f_slotReady f_functionCount f_nodeLimit f_depthLimit f_draftOpen f_draftFor (nI m) f_draftCalls f_treeCount f_analysed f_recordValue f_recordThunks f_recordNeeds f_taskTop f_valueTop f_frameCount f_failed f_thunkCount f_demanded (w + 1) (nI i) a_declared a_arity a_size a_kindAt a_datumAt a_childAt a_treeRoot a_treeHeight a_tables a_marks a_cellDefined a_cellValue a_eager a_taskKind a_taskSubject a_taskFrame a_valueStack a_frameDepth a_slotState a_slotValue a_slotNode a_slotFrame := by
  intro w
  induction w with
  | zero =>
    intro i hi a_childAt h1 h2
    have : i = n := by omega
    subst this
    have e : (nI (t - i)).toNatClampNeg = t - i := nI_clamp (by omega)
    exact br_t (nI_le (Nat.le_refl _) (by omega)) ⟨vp_in_nI (by omega) (by omega), nm_r (e' := upd a_treeRoot (t - i) (nI m)) (by rw [e]) (nm_r (nI_1 _) (nm_r (nI_1 m) (h a_childAt h1 h2)))⟩
  | succ w ih =>
    intro i hi a_childAt h1 h2
    have e1 : nI (t - n) + nI i = nI (t - n + i) := nI_add _ _
    have e2 : nI (64 + m) * 3 + nI i = nI (3 * (64 + m) + i) := by rw [sa_m3, nI_add]
    refine br_f (nI_ge (by omega) (by omega)) ⟨by rw [e1]; exact vp_in_nI (by omega) (by omega), by rw [e2]; exact vp_in_nI (by omega) (by omega), ?_⟩
    rw [e1, e2, nI_clamp (by omega), nI_clamp (by omega)]
    refine nm_e (nm_r (nI_1 i) (ih (i + 1) (by omega) _ (fun j hj => (pk_un (by omega)).trans (h1 j hj)) (fun i' hi' => ?_)))
    by_cases e : i' = i
    · subst e; exact pk_us
    · exact (pk_un (by omega)).trans (h2 i' (by omega))
theorem xw_wn {R : SX → Prop} {m t n : Nat} {p0 p1 : Int32} (hm : m < 16) (hn : n ≤ t) (hn3 : n ≤ 3) (ht8 : t ≤ 8) (ht1 : t - n + 1 ≤ 8) (em : f_draftNodes = nI m) (et : f_treeCount = nI t)
    (h : ∀ ch : Nat → Int32, (∀ j, j < 3 * (64 + m) → ch j = a_childAt j) → (∀ i, i < n → ch (3 * (64 + m) + i) = a_treeRoot (t - n + i)) → R (f_literalKind, f_paramKind, f_callKind, f_evalTask, f_applyTask, f_branchTask, f_updateTask, f_storeTask, f_slotAbsent, f_slotDelayed, f_slotReady, f_functionCount, f_nodeLimit, f_depthLimit, f_draftOpen, f_draftFor, (nI (m + 1)), f_draftCalls, (nI (t - n + 1)), f_analysed, f_recordValue, f_recordThunks, f_recordNeeds, f_taskTop, f_valueTop, f_frameCount, f_failed, f_thunkCount, f_demanded, a_declared, a_arity, a_size, (upd a_kindAt (64 + m) p0), (upd a_datumAt (64 + m) p1), ch, (upd a_treeRoot (t - n) (nI m)), a_treeHeight, a_tables, a_marks, a_cellDefined, a_cellValue, a_eager, a_taskKind, a_taskSubject, a_taskFrame, a_valueStack, a_frameDepth, a_slotState, a_slotValue, a_slotNode, a_slotFrame)) : wpX_writeNode R (f_literalKind, f_paramKind, f_callKind, f_evalTask, f_applyTask, f_branchTask, f_updateTask, f_storeTask, f_slotAbsent, f_slotDelayed, f_slotReady, f_functionCount, f_nodeLimit, f_depthLimit, f_draftOpen, f_draftFor, f_draftNodes, f_draftCalls, f_treeCount, f_analysed, f_recordValue, f_recordThunks, f_recordNeeds, f_taskTop, f_valueTop, f_frameCount, f_failed, f_thunkCount, f_demanded, a_declared, a_arity, a_size, a_kindAt, a_datumAt, a_childAt, a_treeRoot, a_treeHeight, a_tables, a_marks, a_cellDefined, a_cellValue, a_eager, a_taskKind, a_taskSubject, a_taskFrame, a_valueStack, a_frameDepth, a_slotState, a_slotValue, a_slotNode, a_slotFrame) p0 p1 (nI n) := by
  subst em et
  unfold wpX_writeNode
  have e : (nI (64 + m)).toNatClampNeg = 64 + m := nI_clamp (by omega)
  have hv : vp_in (nI (64 + m)) 80 := vp_in_nI (by omega) (by omega)
  refine nm_r (sa_64 m) (nm_r (e' := nI (t - n)) (pk_sub hn) ⟨hv, nm_r (e' := upd a_kindAt (64 + m) p0) (by rw [e]) ⟨hv, nm_r (e' := upd a_datumAt (64 + m) p1) (by rw [e]) ⟨n + 1, ?_⟩⟩⟩)
  exact xw_wl (ch := a_childAt) hm hn hn3 ht8 ht1 h n 0 (by omega) a_childAt (fun _ _ => rfl) (fun i' hi' => absurd hi' (Nat.not_lt_zero _))
theorem xw_pl {R : Int32 → SX → Prop} {NL m t n : Nat} {p0 p1 : Int32} {a : Nat → Nat} (eN : f_nodeLimit = nI NL) (hNL : NL ≤ 16) (em : f_draftNodes = nI m) (hm : m ≤ NL) (et : f_treeCount = nI t) (ht8 : t ≤ 8) (hn3 : n ≤ 3) (ha : ∀ k, k < t → a_treeHeight k = nI (a k) ∧ a k ≤ 6)
    (K3 : (NL ≤ m ∨ (n = 0 ∧ 8 ≤ t)) → R (-3) (f_literalKind, f_paramKind, f_callKind, f_evalTask, f_applyTask, f_branchTask, f_updateTask, f_storeTask, f_slotAbsent, f_slotDelayed, f_slotReady, f_functionCount, f_nodeLimit, f_depthLimit, f_draftOpen, f_draftFor, f_draftNodes, f_draftCalls, f_treeCount, f_analysed, f_recordValue, f_recordThunks, f_recordNeeds, f_taskTop, f_valueTop, f_frameCount, f_failed, f_thunkCount, f_demanded, a_declared, a_arity, a_size, a_kindAt, a_datumAt, a_childAt, a_treeRoot, a_treeHeight, a_tables, a_marks, a_cellDefined, a_cellValue, a_eager, a_taskKind, a_taskSubject, a_taskFrame, a_valueStack, a_frameDepth, a_slotState, a_slotValue, a_slotNode, a_slotFrame))
    (K4 : m < NL → ¬ (n = 0 ∧ 8 ≤ t) → t < n → R (-4) (f_literalKind, f_paramKind, f_callKind, f_evalTask, f_applyTask, f_branchTask, f_updateTask, f_storeTask, f_slotAbsent, f_slotDelayed, f_slotReady, f_functionCount, f_nodeLimit, f_depthLimit, f_draftOpen, f_draftFor, f_draftNodes, f_draftCalls, f_treeCount, f_analysed, f_recordValue, f_recordThunks, f_recordNeeds, f_taskTop, f_valueTop, f_frameCount, f_failed, f_thunkCount, f_demanded, a_declared, a_arity, a_size, a_kindAt, a_datumAt, a_childAt, a_treeRoot, a_treeHeight, a_tables, a_marks, a_cellDefined, a_cellValue, a_eager, a_taskKind, a_taskSubject, a_taskFrame, a_valueStack, a_frameDepth, a_slotState, a_slotValue, a_slotNode, a_slotFrame))
    (K5 : m < NL → ¬ (n = 0 ∧ 8 ≤ t) → n ≤ t → ¬ h_mx (fun i => a (t - n + i)) n + 1 ≤ 6 → R (-5) (f_literalKind, f_paramKind, f_callKind, f_evalTask, f_applyTask, f_branchTask, f_updateTask, f_storeTask, f_slotAbsent, f_slotDelayed, f_slotReady, f_functionCount, f_nodeLimit, f_depthLimit, f_draftOpen, f_draftFor, f_draftNodes, f_draftCalls, f_treeCount, f_analysed, f_recordValue, f_recordThunks, f_recordNeeds, f_taskTop, f_valueTop, f_frameCount, f_failed, f_thunkCount, f_demanded, a_declared, a_arity, a_size, a_kindAt, a_datumAt, a_childAt, a_treeRoot, a_treeHeight, a_tables, a_marks, a_cellDefined, a_cellValue, a_eager, a_taskKind, a_taskSubject, a_taskFrame, a_valueStack, a_frameDepth, a_slotState, a_slotValue, a_slotNode, a_slotFrame))
    (K0 : m < NL → ¬ (n = 0 ∧ 8 ≤ t) → n ≤ t → h_mx (fun i => a (t - n + i)) n + 1 ≤ 6 → ∀ ch : Nat → Int32, (∀ j, j < 3 * (64 + m) → ch j = a_childAt j) → (∀ i, i < n → ch (3 * (64 + m) + i) = a_treeRoot (t - n + i)) →
      R 0 (f_literalKind, f_paramKind, f_callKind, f_evalTask, f_applyTask, f_branchTask, f_updateTask, f_storeTask, f_slotAbsent, f_slotDelayed, f_slotReady, f_functionCount, f_nodeLimit, f_depthLimit, f_draftOpen, f_draftFor, (nI (m + 1)), f_draftCalls, (nI (t - n + 1)), f_analysed, f_recordValue, f_recordThunks, f_recordNeeds, f_taskTop, f_valueTop, f_frameCount, f_failed, f_thunkCount, f_demanded, a_declared, a_arity, a_size, (upd a_kindAt (64 + m) p0), (upd a_datumAt (64 + m) p1), ch, (upd a_treeRoot (t - n) (nI m)), (upd a_treeHeight (t - n) (nI (h_mx (fun i => a (t - n + i)) n + 1))), a_tables, a_marks, a_cellDefined, a_cellValue, a_eager, a_taskKind, a_taskSubject, a_taskFrame, a_valueStack, a_frameDepth, a_slotState, a_slotValue, a_slotNode, a_slotFrame)) : wpX_place R (f_literalKind, f_paramKind, f_callKind, f_evalTask, f_applyTask, f_branchTask, f_updateTask, f_storeTask, f_slotAbsent, f_slotDelayed, f_slotReady, f_functionCount, f_nodeLimit, f_depthLimit, f_draftOpen, f_draftFor, f_draftNodes, f_draftCalls, f_treeCount, f_analysed, f_recordValue, f_recordThunks, f_recordNeeds, f_taskTop, f_valueTop, f_frameCount, f_failed, f_thunkCount, f_demanded, a_declared, a_arity, a_size, a_kindAt, a_datumAt, a_childAt, a_treeRoot, a_treeHeight, a_tables, a_marks, a_cellDefined, a_cellValue, a_eager, a_taskKind, a_taskSubject, a_taskFrame, a_valueStack, a_frameDepth, a_slotState, a_slotValue, a_slotNode, a_slotFrame) p0 p1 (nI n) := by
  unfold wpX_place
  by_cases c1 : NL ≤ m
  · exact br_t (by rw [eN, em]; exact nI_le c1 (by omega)) (K3 (Or.inl c1))
  have c1' : m < NL := by omega
  refine br_f (by rw [eN, em]; exact nI_ge c1' (by omega)) ?_
  have go : ¬ (n = 0 ∧ 8 ≤ t) → wX_place_27 R p0 p1 (nI n) f_literalKind f_paramKind f_callKind f_evalTask f_applyTask f_branchTask f_updateTask f_storeTask f_slotAbsent f_slotDelayed f_slotReady f_functionCount f_nodeLimit f_depthLimit f_draftOpen f_draftFor f_draftNodes f_draftCalls f_treeCount f_analysed f_recordValue f_recordThunks f_recordNeeds f_taskTop f_valueTop f_frameCount f_failed f_thunkCount f_demanded a_declared a_arity a_size a_kindAt a_datumAt a_childAt a_treeRoot a_treeHeight a_tables a_marks a_cellDefined a_cellValue a_eager a_taskKind a_taskSubject a_taskFrame a_valueStack a_frameDepth a_slotState a_slotValue a_slotNode a_slotFrame := by
    intro c2
    unfold wX_place_27
    by_cases c3 : n ≤ t
    · refine br_t (by rw [et]; exact nI_le c3 (by omega)) ?_
      have hb := h_mx_le (a := fun i => a (t - n + i)) (b := 6) n (fun i hi => (ha _ (by omega)).2)
      refine xw_ho (a := fun i => a (t - n + i)) et c3 ht8 (fun i hi => ⟨(ha _ (by omega)).1, by have := (ha (t - n + i) (by omega)).2; show a (t - n + i) ≤ 16; omega⟩) ?_
      by_cases c4 : h_mx (fun i => a (t - n + i)) n + 1 ≤ 6
      · refine br_t (nI_le (b := 6) c4 (by decide)) ?_
        refine xw_wn (by omega) c3 hn3 ht8 (by omega) em et (fun ch h1 h2 => ?_)
        have e2 : nI (t - n + 1) - 1 = nI (t - n) := nI_pred _
        refine ⟨by rw [e2]; exact vp_in_nI (by omega) (by omega), ?_⟩
        rw [e2, nI_clamp (by omega)]
        exact nm_e (K0 c1' c2 c3 c4 ch h1 h2)
      · exact br_f (nI_ge (a := 6) (by omega) (by omega)) (K5 c1' c2 c3 c4)
    · exact br_f (by rw [et]; exact nI_ge (by omega) (by omega)) (K4 c1' c2 (by omega))
  by_cases n0 : n = 0
  · refine br_t (by rw [n0]; rfl) ?_
    by_cases t8 : t < 8
    · exact br_t (by rw [et]; exact nI_lt (b := 8) t8 (by decide)) (go (by omega))
    · exact br_f (by rw [et]; exact nI_nlt (b := 8) (by omega) (by omega)) (K3 (Or.inr ⟨n0, by omega⟩))
  · exact br_f (nI_ne0 (by omega) (by omega)) (go (by omega))
end
section
variable {g_functionLimit g_nodeLimit g_depthLimit g_draftFor g_draftSize g_analysed g_level g_runMode g_runDepth g_lastSet g_hasValue g_recordValue g_recordCount g_recordSet : Int32} {b_arity b_bodySize b_bodyKind b_bodyData b_draftKind b_draftData b_heights b_truth b_next b_marks b_cellDefined b_cellValue b_levelFunction b_levelAt b_levelTop b_def b_val b_need b_count : Nat → Int32}
theorem yw_wr {R : Int32 → SY → Prop} {m : Nat} {p0 p1 : Int32} (em : g_draftSize = nI m) (hm : m < 16) (h : R 0 (g_functionLimit, g_nodeLimit, g_depthLimit, g_draftFor, (nI (m + 1)), g_analysed, g_level, g_runMode, g_runDepth, g_lastSet, g_hasValue, g_recordValue, g_recordCount, g_recordSet, b_arity, b_bodySize, b_bodyKind, b_bodyData, (upd b_draftKind m p0), (upd b_draftData m p1), b_heights, b_truth, b_next, b_marks, b_cellDefined, b_cellValue, b_levelFunction, b_levelAt, b_levelTop, b_def, b_val, b_need, b_count)) : wpY_write R (g_functionLimit, g_nodeLimit, g_depthLimit, g_draftFor, g_draftSize, g_analysed, g_level, g_runMode, g_runDepth, g_lastSet, g_hasValue, g_recordValue, g_recordCount, g_recordSet, b_arity, b_bodySize, b_bodyKind, b_bodyData, b_draftKind, b_draftData, b_heights, b_truth, b_next, b_marks, b_cellDefined, b_cellValue, b_levelFunction, b_levelAt, b_levelTop, b_def, b_val, b_need, b_count) p0 p1 := by
  subst em
  unfold wpY_write
  have e : (nI m).toNatClampNeg = m := nI_clamp (by omega)
  have hv : vp_in (nI m) 16 := vp_in_nI hm (by omega)
  exact ⟨hv, nm_r (e' := upd b_draftKind m p0) (by rw [e]) ⟨hv, nm_r (e' := upd b_draftData m p1) (by rw [e]) (nm_r (nI_1 m) h)⟩⟩
end
theorem pl_P {F m : Nat} {x y : Int32} {dc : Nat → Bool} {ar sz : Nat → Nat} {a_declared a_arity a_size a_kindAt a_datumAt a_childAt b_arity b_bodySize b_bodyKind b_bodyData ch : Nat → Int32} (hP : rl_P F dc ar sz a_declared a_arity a_size a_kindAt a_datumAt a_childAt b_arity b_bodySize b_bodyKind b_bodyData)
    (h1 : ∀ j, j < 3 * (64 + m) → ch j = a_childAt j) : rl_P F dc ar sz a_declared a_arity a_size (upd a_kindAt (64 + m) x) (upd a_datumAt (64 + m) y) ch b_arity b_bodySize b_bodyKind b_bodyData := by
  obtain ⟨P1, P2, P3, P4, P5⟩ := hP
  refine ⟨P1, P2, P3, fun j hj => ?_, fun g hg => ?_⟩
  · rw [pk_un (by omega), pk_un (by omega)]
    exact P4 j hj
  · obtain ⟨B1, B2, B3⟩ := P5 g hg
    have hs := (P3 g hg).2.2
    obtain ⟨T1, T2⟩ := tr_B (kd' := upd a_kindAt (64 + m) x) (dt' := upd a_datumAt (64 + m) y) (b' := 16 * g) (fun p hp => ⟨pk_un (by omega), pk_un (by omega)⟩) (fun h _ hd => ⟨hd, rfl⟩) B1
    refine ⟨T1, fun z => by rw [sk_l_c (sz g) T2]; exact B2 z, tr_C T2 (fun p hp i hi c z => ?_) B3⟩
    have := on_3 (kd := a_kindAt) (dt := a_datumAt) P1 (16 * g + p)
    have e : q_o a_kindAt a_datumAt ar (16 * g) p = q_on a_kindAt a_datumAt ar (16 * g + p) := rfl
    rw [h1 _ (by omega)]
    exact z
theorem pl_D {NL df m n t : Nat} {x y : Int32} {dc : Nat → Bool} {ar : Nat → Nat} {a_kindAt a_datumAt a_childAt a_treeRoot a_treeHeight b_draftKind b_draftData ch : Nat → Int32} (har : ∀ h, ar h ≤ 3)
    (h1 : ∀ p, p < 16 → b_draftKind p = a_kindAt (64 + p) ∧ b_draftData p = a_datumAt (64 + p)) (hdf : df < 4) (hdc : dc df = true) (hm : m < NL) (hNL : NL ≤ 16) (et : sk_l (q_o a_kindAt a_datumAt ar 64) m = t)
    (hT : ∀ k, k < t → a_treeRoot k = nI (sk_r (q_o a_kindAt a_datumAt ar 64) m k) ∧ a_treeHeight k = nI (h_t (q_o a_kindAt a_datumAt ar 64) m k) ∧ h_t (q_o a_kindAt a_datumAt ar 64) m k ≤ 6)
    (hB : rl_B a_kindAt a_datumAt ar dc 64 m (ar df)) (hC : rl_C a_kindAt a_datumAt ar a_childAt 64 m 0)
    (x1 : ∃ k, k ≤ 10 ∧ x = nI k) (x2 : x = 9 → ∃ i, i < ar df ∧ y = nI i) (x3 : x = 10 → ∃ h, h < 4 ∧ y = nI h ∧ dc h = true)
    (hn : q_on (upd a_kindAt (64 + m) x) (upd a_datumAt (64 + m) y) ar (64 + m) = n) (hnt : n ≤ t) (ht1 : t - n + 1 ≤ 8) (hH : h_mx (fun i => h_t (q_o a_kindAt a_datumAt ar 64) m (t - n + i)) n + 1 ≤ 6)
    (hcl : su (fun q => if a_kindAt (64 + q) = 10 then 1 else 0) m + (if x = 10 then 1 else 0) ≤ 2)
    (h2 : ∀ j, j < 3 * (64 + m) → ch j = a_childAt j) (h3 : ∀ i, i < n → ch (3 * (64 + m) + i) = a_treeRoot (t - n + i)) :
    rl_D NL dc ar 1 (nI df) (nI (m + 1)) (nI (su (fun q => if a_kindAt (64 + q) = 10 then 1 else 0) m + (if x = 10 then 1 else 0))) (nI (t - n + 1)) (upd a_kindAt (64 + m) x) (upd a_datumAt (64 + m) y) ch (upd a_treeRoot (t - n) (nI m)) (upd a_treeHeight (t - n) (nI (h_mx (fun i => h_t (q_o a_kindAt a_datumAt ar 64) m (t - n + i)) n + 1))) (nI df) (nI (m + 1)) (upd b_draftKind m x) (upd b_draftData m y) := by
  obtain ⟨T1, T2⟩ := tr_B (kd' := upd a_kindAt (64 + m) x) (dt' := upd a_datumAt (64 + m) y) (b' := 64) (fun p hp => ⟨pk_un (by omega), pk_un (by omega)⟩) (fun h _ hd => ⟨hd, rfl⟩) hB
  have on : q_o (upd a_kindAt (64 + m) x) (upd a_datumAt (64 + m) y) ar 64 m = n := hn
  have el : sk_l (q_o (upd a_kindAt (64 + m) x) (upd a_datumAt (64 + m) y) ar 64) m = t := (sk_l_c m T2).trans et
  have el1 : sk_l (q_o (upd a_kindAt (64 + m) x) (upd a_datumAt (64 + m) y) ar 64) (m + 1) = t - n + 1 := by rw [sk_l_s, el, on]
  have es : su (fun q => if upd a_kindAt (64 + m) x (64 + q) = 10 then 1 else 0) (m + 1) = su (fun q => if a_kindAt (64 + q) = 10 then 1 else 0) m + (if x = 10 then 1 else 0) := by
    rw [su_s, pk_us, su_c (g := fun q => if a_kindAt (64 + q) = 10 then 1 else 0) m (fun q hq => by rw [pk_un (by omega)])]
  have et2 : ∀ k, h_t (q_o (upd a_kindAt (64 + m) x) (upd a_datumAt (64 + m) y) ar 64) m k = h_t (q_o a_kindAt a_datumAt ar 64) m k := by
    intro k
    unfold h_t
    rw [sk_a_c m T2 (fun q hq => by rw [T2 q hq])]
  refine ⟨fun p hp => ?_, Or.inr ⟨df, m + 1, ⟨hdf, hdc, hm⟩, rfl, rfl, rfl, rfl, rfl, by rw [es], by rw [el1], fun k hk => ?_, ⟨fun p hp => ?_, fun p hp => ?_, by rw [es]; exact hcl⟩, fun p hp i hi => ?_⟩⟩
  · by_cases e : p = m
    · subst e; exact ⟨pk_us.trans pk_us.symm, pk_us.trans pk_us.symm⟩
    · rw [pk_un e, pk_un e, pk_un (by omega), pk_un (by omega)]
      exact h1 p hp
  · rw [el1] at hk
    by_cases e : k = t - n
    · subst e
      have e' : t - n = sk_l (q_o (upd a_kindAt (64 + m) x) (upd a_datumAt (64 + m) y) ar 64) m - q_o (upd a_kindAt (64 + m) x) (upd a_datumAt (64 + m) y) ar 64 m := by rw [el, on]
      rw [pk_us, pk_us, sk_r_t e', h_t_t e', el, on]
      have e3 : h_mx (fun i => h_t (q_o (upd a_kindAt (64 + m) x) (upd a_datumAt (64 + m) y) ar 64) m (t - n + i)) n = h_mx (fun i => h_t (q_o a_kindAt a_datumAt ar 64) m (t - n + i)) n := h_mx_c n (fun i _ => et2 _)
      rw [e3]
      exact ⟨rfl, rfl, hH⟩
    · have e' : k ≠ sk_l (q_o (upd a_kindAt (64 + m) x) (upd a_datumAt (64 + m) y) ar 64) m - q_o (upd a_kindAt (64 + m) x) (upd a_datumAt (64 + m) y) ar 64 m := by rw [el, on]; exact e
      rw [pk_un e, pk_un e, sk_r_n e', h_t_n e', sk_r_c k T2, et2]
      exact hT k (by omega)
  · by_cases e : p = m
    · subst e
      unfold pg_nd
      rw [pk_us, pk_us]
      refine ⟨⟨x1, x2, fun z => ?_⟩, fun z h hh eh => ?_⟩
      · obtain ⟨h, hh, e1, e2⟩ := x3 z
        exact ⟨h, hh, e1⟩
      · obtain ⟨h', hh', e1, e2⟩ := x3 z
        have := (nI_eq (by omega) (by omega)).mp (e1.symm.trans eh)
        subst this
        exact e2
    · exact T1.1 p (by omega)
  · by_cases e : p = m
    · subst e; rw [on, el, el1]; exact ⟨hnt, ht1⟩
    · exact T1.2.1 p (by omega)
  · by_cases e : p = m
    · subst e
      rw [on] at hi
      rw [h3 i hi, (hT _ (by omega)).1]
      unfold sk_c
      rw [sk_r_c _ T2, el, on, Nat.zero_add]
    · have hp' : p < m := by omega
      rw [T2 p hp'] at hi
      have o3 := on_3 (kd := a_kindAt) (dt := a_datumAt) har (64 + p)
      have eo : q_o a_kindAt a_datumAt ar 64 p = q_on a_kindAt a_datumAt ar (64 + p) := rfl
      rw [h2 _ (by omega), sk_c_c i (fun q hq => T2 q (by omega))]
      exact hC p hp' i hi
end
section
/-! literal, param, operator -/
theorem i_vc_literal {k : Nat} {u : SX} {v : SY} (I : i_Rel k u v) (hk : k + 4 ≤ 2051) (v1 : Int32) : wpX_literal (fun r u' => wpY_literal (fun r' v' => r' = r ∧ i_Rel (k + 4) u' v') v v1) u v1 := by
  refine zz_el (P := fun u v => wpX_literal (fun r u' => wpY_literal (fun r' v' => r' = r ∧ i_Rel (k + 4) u' v') v v1) u v1) ?_ I
  intro f_literalKind f_paramKind f_callKind f_evalTask f_applyTask f_branchTask f_updateTask f_storeTask f_slotAbsent f_slotDelayed f_slotReady f_functionCount f_nodeLimit f_depthLimit f_draftOpen f_draftFor f_draftNodes f_draftCalls f_treeCount f_analysed f_recordValue f_recordThunks f_recordNeeds f_taskTop f_valueTop f_frameCount f_failed f_thunkCount f_demanded a_declared a_arity a_size a_kindAt a_datumAt a_childAt a_treeRoot a_treeHeight a_tables a_marks a_cellDefined a_cellValue a_eager a_taskKind a_taskSubject a_taskFrame a_valueStack a_frameDepth a_slotState a_slotValue a_slotNode a_slotFrame g_functionLimit g_nodeLimit g_depthLimit g_draftFor g_draftSize g_analysed g_level g_runMode g_runDepth g_lastSet g_hasValue g_recordValue g_recordCount g_recordSet b_arity b_bodySize b_bodyKind b_bodyData b_draftKind b_draftData b_heights b_truth b_next b_marks b_cellDefined b_cellValue b_levelFunction b_levelAt b_levelTop b_def b_val b_need b_count hR
  have hI : ∀ b_heights, i_Rel (k + 4) (f_literalKind, f_paramKind, f_callKind, f_evalTask, f_applyTask, f_branchTask, f_updateTask, f_storeTask, f_slotAbsent, f_slotDelayed, f_slotReady, f_functionCount, f_nodeLimit, f_depthLimit, f_draftOpen, f_draftFor, f_draftNodes, f_draftCalls, f_treeCount, f_analysed, f_recordValue, f_recordThunks, f_recordNeeds, f_taskTop, f_valueTop, f_frameCount, f_failed, f_thunkCount, f_demanded, a_declared, a_arity, a_size, a_kindAt, a_datumAt, a_childAt, a_treeRoot, a_treeHeight, a_tables, a_marks, a_cellDefined, a_cellValue, a_eager, a_taskKind, a_taskSubject, a_taskFrame, a_valueStack, a_frameDepth, a_slotState, a_slotValue, a_slotNode, a_slotFrame) (g_functionLimit, g_nodeLimit, g_depthLimit, g_draftFor, g_draftSize, g_analysed, g_level, g_runMode, g_runDepth, g_lastSet, g_hasValue, g_recordValue, g_recordCount, g_recordSet, b_arity, b_bodySize, b_bodyKind, b_bodyData, b_draftKind, b_draftData, b_heights, b_truth, b_next, b_marks, b_cellDefined, b_cellValue, b_levelFunction, b_levelAt, b_levelTop, b_def, b_val, b_need, b_count) := fun _ => zz_in hR
  obtain ⟨F, NL, DL, dc, ar, sz, hL, hP, hD, hA, hK, hV⟩ := hR
  unfold wpX_literal wpY_literal
  rcases hD.2 with ⟨z1, z2⟩ | ⟨df, m, ⟨d1, d2, d3⟩, d4, d5, d6, d7, d8, d9, d10, d11, d12, d13⟩
  · exact br_t z1 (br_f (by rw [z2]; decide) ⟨rfl, hI _⟩)
  have hNL := hL.1.2.2.2.1
  have ht8 := B_8 d12 m (Nat.le_refl _)
  have hf : 0 ≤ g_draftFor := by rw [d6]; exact nI_pos' (by omega)
  have eN := hL.2.2.1
  have eN' := hL.2.2.2.2.2.1
  refine br_f (by rw [d4]; decide) ?_
  refine xw_pl (n := 0) (a := h_t (q_o a_kindAt a_datumAt ar 64) m) eN hNL d7 d3 d10 ht8 (by omega) (fun k hk => (d11 k hk).2) (fun c => ?_) (fun _ _ c => absurd c (Nat.not_lt_zero _)) (fun _ _ _ c => absurd (show 0 + 1 ≤ 6 by omega) c) (fun c1 c2 c3 c4 ch h1 h2 => ?_)
  · refine br_t hf ?_
    by_cases c1 : NL ≤ m
    · exact br_t (by rw [eN', d8]; exact nI_le c1 (by omega)) ⟨rfl, hI _⟩
    · refine br_f (by rw [eN', d8]; exact nI_ge (by omega) (by omega)) (yw_dt (dc := dc) d8 (by omega) hD.1 d12 (fun h hh hd => (((hP.2.1 h hh).1 hd).2.2).2) (fun b_heights hh => ?_))
      exact br_f (nI_nlt (b := 8) (by omega) (by omega)) ⟨rfl, hI _⟩
  · refine br_t hf (br_f (by rw [eN', d8]; exact nI_ge c1 (by omega)) (yw_dt (dc := dc) d8 (by omega) hD.1 d12 (fun h hh hd => (((hP.2.1 h hh).1 hd).2.2).2) (fun b_heights hh => ?_)))
    refine br_t (nI_lt (b := 8) (by omega) (by decide)) (yw_wr d8 (by omega) ⟨rfl, zz_in ⟨F, NL, DL, dc, ar, sz, hL, pl_P hP h1, ?_, hA, hK, hV⟩⟩)
    have D := pl_D (x := 8) (y := v1) hP.1 hD.1 d1 d2 c1 hNL rfl d11 d12 d13 ⟨8, by omega, rfl⟩ (fun z => absurd z (by decide)) (fun z => absurd z (by decide)) (by unfold q_on; rw [pk_us, if_neg (by decide), if_pos rfl]) c3 (by omega) c4 (by rw [if_neg (by decide)]; exact d12.2.2) h1 h2
    rw [if_neg (by decide), Nat.add_zero] at D
    rw [d4, d5, d6, d9]
    exact D
theorem i_vc_param {k : Nat} {u : SX} {v : SY} (I : i_Rel k u v) (hk : k + 4 ≤ 2051) (v1 : Int32) : wpX_param (fun r u' => wpY_param (fun r' v' => r' = r ∧ i_Rel (k + 4) u' v') v v1) u v1 := by
  refine zz_el (P := fun u v => wpX_param (fun r u' => wpY_param (fun r' v' => r' = r ∧ i_Rel (k + 4) u' v') v v1) u v1) ?_ I
  intro f_literalKind f_paramKind f_callKind f_evalTask f_applyTask f_branchTask f_updateTask f_storeTask f_slotAbsent f_slotDelayed f_slotReady f_functionCount f_nodeLimit f_depthLimit f_draftOpen f_draftFor f_draftNodes f_draftCalls f_treeCount f_analysed f_recordValue f_recordThunks f_recordNeeds f_taskTop f_valueTop f_frameCount f_failed f_thunkCount f_demanded a_declared a_arity a_size a_kindAt a_datumAt a_childAt a_treeRoot a_treeHeight a_tables a_marks a_cellDefined a_cellValue a_eager a_taskKind a_taskSubject a_taskFrame a_valueStack a_frameDepth a_slotState a_slotValue a_slotNode a_slotFrame g_functionLimit g_nodeLimit g_depthLimit g_draftFor g_draftSize g_analysed g_level g_runMode g_runDepth g_lastSet g_hasValue g_recordValue g_recordCount g_recordSet b_arity b_bodySize b_bodyKind b_bodyData b_draftKind b_draftData b_heights b_truth b_next b_marks b_cellDefined b_cellValue b_levelFunction b_levelAt b_levelTop b_def b_val b_need b_count hR
  have hI : ∀ b_heights, i_Rel (k + 4) (f_literalKind, f_paramKind, f_callKind, f_evalTask, f_applyTask, f_branchTask, f_updateTask, f_storeTask, f_slotAbsent, f_slotDelayed, f_slotReady, f_functionCount, f_nodeLimit, f_depthLimit, f_draftOpen, f_draftFor, f_draftNodes, f_draftCalls, f_treeCount, f_analysed, f_recordValue, f_recordThunks, f_recordNeeds, f_taskTop, f_valueTop, f_frameCount, f_failed, f_thunkCount, f_demanded, a_declared, a_arity, a_size, a_kindAt, a_datumAt, a_childAt, a_treeRoot, a_treeHeight, a_tables, a_marks, a_cellDefined, a_cellValue, a_eager, a_taskKind, a_taskSubject, a_taskFrame, a_valueStack, a_frameDepth, a_slotState, a_slotValue, a_slotNode, a_slotFrame) (g_functionLimit, g_nodeLimit, g_depthLimit, g_draftFor, g_draftSize, g_analysed, g_level, g_runMode, g_runDepth, g_lastSet, g_hasValue, g_recordValue, g_recordCount, g_recordSet, b_arity, b_bodySize, b_bodyKind, b_bodyData, b_draftKind, b_draftData, b_heights, b_truth, b_next, b_marks, b_cellDefined, b_cellValue, b_levelFunction, b_levelAt, b_levelTop, b_def, b_val, b_need, b_count) := fun _ => zz_in hR
  obtain ⟨F, NL, DL, dc, ar, sz, hL, hP, hD, hA, hK, hV⟩ := hR
  unfold wpX_param wpY_param
  rcases hD.2 with ⟨z1, z2⟩ | ⟨df, m, ⟨d1, d2, d3⟩, d4, d5, d6, d7, d8, d9, d10, d11, d12, d13⟩
  · exact br_t z1 (br_f (by rw [z2]; decide) ⟨rfl, hI _⟩)
  have hNL := hL.1.2.2.2.1
  have ht8 := B_8 d12 m (Nat.le_refl _)
  have hf : 0 ≤ g_draftFor := by rw [d6]; exact nI_pos' (by omega)
  have eN := hL.2.2.1
  have eN' := hL.2.2.2.2.2.1
  obtain ⟨q1, q2, q3, q4⟩ := (hP.2.1 df d1).1 d2
  have h3 := hP.1 df
  have ef : (nI df).toNatClampNeg = df := nI_clamp (by omega)
  have e1 : a_arity f_draftFor.toNatClampNeg = nI (ar df) := by rw [d5, ef]; exact q3
  have e2 : b_arity g_draftFor.toNatClampNeg = nI (ar df) := by rw [d6, ef]; exact q4
  have hv1 : vp_in f_draftFor 4 := by rw [d5]; exact vp_in_nI d1 (by omega)
  have hv2 : vp_in g_draftFor 4 := by rw [d6]; exact vp_in_nI d1 (by omega)
  refine br_f (by rw [d4]; decide) ?_
  rcases pk_ix v1 (n := ar df) (by omega) with w | w | ⟨i, hi, rfl⟩
  · exact br_t w (br_t hf (br_t w ⟨rfl, hI _⟩))
  · have w2 : ¬ v1 < 0 := Int32.not_lt.mpr (Int32.le_trans (nI_pos' (by omega)) w)
    have w3 : ¬ v1 < nI (ar df) := Int32.not_lt.mpr w
    exact br_f w2 ⟨hv1, br_f (by rw [e1]; exact w3) (br_t hf (br_f w2 ⟨hv2, br_f (by rw [e2]; exact w3) ⟨rfl, hI _⟩⟩))⟩
  have w2 : ¬ nI i < 0 := nI_pos (by omega)
  have w3 : nI i < nI (ar df) := nI_lt hi (by omega)
  refine br_f w2 ⟨hv1, br_t (by rw [e1]; exact w3) ?_⟩
  refine xw_pl (n := 0) (a := h_t (q_o a_kindAt a_datumAt ar 64) m) eN hNL d7 d3 d10 ht8 (by omega) (fun k hk => (d11 k hk).2) (fun c => ?_) (fun _ _ c => absurd c (Nat.not_lt_zero _)) (fun _ _ _ c => absurd (show 0 + 1 ≤ 6 by omega) c) (fun c1 c2 c3 c4 ch h1 h2 => ?_)
  · refine br_t hf (br_f w2 ⟨hv2, br_t (by rw [e2]; exact w3) ?_⟩)
    by_cases c1 : NL ≤ m
    · exact br_t (by rw [eN', d8]; exact nI_le c1 (by omega)) ⟨rfl, hI _⟩
    · refine br_f (by rw [eN', d8]; exact nI_ge (by omega) (by omega)) (yw_dt (dc := dc) d8 (by omega) hD.1 d12 (fun h hh hd => (((hP.2.1 h hh).1 hd).2.2).2) (fun b_heights hh => ?_))
      exact br_f (nI_nlt (b := 8) (by omega) (by omega)) ⟨rfl, hI _⟩
  · refine br_t hf (br_f w2 ⟨hv2, br_t (by rw [e2]; exact w3) (br_f (by rw [eN', d8]; exact nI_ge c1 (by omega)) (yw_dt (dc := dc) d8 (by omega) hD.1 d12 (fun h hh hd => (((hP.2.1 h hh).1 hd).2.2).2) (fun b_heights hh => ?_)))⟩)
    refine br_t (nI_lt (b := 8) (by omega) (by decide)) (yw_wr d8 (by omega) ⟨rfl, zz_in ⟨F, NL, DL, dc, ar, sz, hL, pl_P hP h1, ?_, hA, hK, hV⟩⟩)
    have D := pl_D (x := 9) (y := nI i) hP.1 hD.1 d1 d2 c1 hNL rfl d11 d12 d13 ⟨9, by omega, rfl⟩ (fun _ => ⟨i, hi, rfl⟩) (fun z => absurd z (by decide)) (by unfold q_on; rw [pk_us, if_neg (by decide), if_neg (by decide), if_pos rfl]) c3 (by omega) c4 (by rw [if_neg (by decide)]; exact d12.2.2) h1 h2
    rw [if_neg (by decide), Nat.add_zero] at D
    rw [d4, d5, d6, d9]
    exact D
def op_n (j : Nat) : Nat := if j = 0 then 0 else if j = 7 then 3 else 2
theorem op_on {kd dt : Nat → Int32} {ar : Nat → Nat} {q j : Nat} (h : kd q = nI j) (hj : j ≤ 7) : q_on kd dt ar q = op_n j := by
  have d : ∀ l, l < 2 ^ 31 → l ≠ j → ¬ kd q = nI l := fun l hl hne z => hne (((nI_eq (by omega) hl).mp (h.symm.trans z)).symm)
  unfold q_on op_n
  by_cases j0 : j = 0
  · rw [if_pos (by rw [h, j0]; rfl), if_pos j0]
  rw [if_neg (show ¬ kd q = 0 from d 0 (by decide) (by omega)), if_neg (show ¬ kd q = 8 from d 8 (by decide) (by omega)), if_neg (show ¬ kd q = 9 from d 9 (by decide) (by omega)), if_neg (show ¬ kd q = 10 from d 10 (by decide) (by omega)), if_neg j0]
  by_cases j7 : j = 7
  · rw [if_pos (by rw [h, j7]; rfl), if_pos j7]
  · rw [if_neg (show ¬ kd q = 7 from d 7 (by decide) (by omega)), if_neg j7]
theorem op_le (j : Nat) : op_n j ≤ 3 := by
  unfold op_n
  by_cases j0 : j = 0
  · rw [if_pos j0]; omega
  rw [if_neg j0]
  by_cases j7 : j = 7
  · rw [if_pos j7]; omega
  · rw [if_neg j7]; omega
theorem op_0 {j : Nat} : op_n j = 0 ↔ j = 0 := by
  unfold op_n
  by_cases j0 : j = 0
  · rw [if_pos j0]; exact ⟨fun _ => j0, fun _ => rfl⟩
  rw [if_neg j0]
  by_cases j7 : j = 7
  · rw [if_pos j7]; omega
  · rw [if_neg j7]; omega
theorem xw_oc {R : Int32 → Prop} {f_literalKind f_paramKind f_callKind f_evalTask f_applyTask f_branchTask f_updateTask f_storeTask f_slotAbsent f_slotDelayed f_slotReady f_functionCount f_nodeLimit f_depthLimit f_draftOpen f_draftFor f_draftNodes f_draftCalls f_treeCount f_analysed f_recordValue f_recordThunks f_recordNeeds f_taskTop f_valueTop f_frameCount f_failed f_thunkCount f_demanded : Int32} {a_declared a_arity a_size a_kindAt a_datumAt a_childAt a_treeRoot a_treeHeight a_tables a_marks a_cellDefined a_cellValue a_eager a_taskKind a_taskSubject a_taskFrame a_valueStack a_frameDepth a_slotState a_slotValue a_slotNode a_slotFrame : Nat → Int32} {j : Nat} (hj : j ≤ 7) (h : R (nI (op_n j))) : wpX_operandCount R (f_literalKind, f_paramKind, f_callKind, f_evalTask, f_applyTask, f_branchTask, f_updateTask, f_storeTask, f_slotAbsent, f_slotDelayed, f_slotReady, f_functionCount, f_nodeLimit, f_depthLimit, f_draftOpen, f_draftFor, f_draftNodes, f_draftCalls, f_treeCount, f_analysed, f_recordValue, f_recordThunks, f_recordNeeds, f_taskTop, f_valueTop, f_frameCount, f_failed, f_thunkCount, f_demanded, a_declared, a_arity, a_size, a_kindAt, a_datumAt, a_childAt, a_treeRoot, a_treeHeight, a_tables, a_marks, a_cellDefined, a_cellValue, a_eager, a_taskKind, a_taskSubject, a_taskFrame, a_valueStack, a_frameDepth, a_slotState, a_slotValue, a_slotNode, a_slotFrame) (nI j) := by
  unfold wpX_operandCount
  unfold op_n at h
  by_cases j0 : j = 0
  · rw [if_pos j0] at h; exact br_t (by rw [j0]; rfl) h
  rw [if_neg j0] at h
  refine br_f (nI_ne0 (by omega) (by omega)) ?_
  by_cases j7 : j = 7
  · rw [if_pos j7] at h; exact br_t (by rw [j7]; rfl) h
  · rw [if_neg j7] at h
    exact br_f (fun z => j7 ((nI_eq (a := j) (b := 7) (by omega) (by omega)).mp z)) h
theorem yw_oj {R : Int32 → Prop} {g_functionLimit g_nodeLimit g_depthLimit g_draftFor g_draftSize g_analysed g_level g_runMode g_runDepth g_lastSet g_hasValue g_recordValue g_recordCount g_recordSet : Int32} {b_arity b_bodySize b_bodyKind b_bodyData b_draftKind b_draftData b_heights b_truth b_next b_marks b_cellDefined b_cellValue b_levelFunction b_levelAt b_levelTop b_def b_val b_need b_count : Nat → Int32} {j : Nat} (hj : j ≤ 7) (h : R (nI (op_n j))) : wpY_operands R (g_functionLimit, g_nodeLimit, g_depthLimit, g_draftFor, g_draftSize, g_analysed, g_level, g_runMode, g_runDepth, g_lastSet, g_hasValue, g_recordValue, g_recordCount, g_recordSet, b_arity, b_bodySize, b_bodyKind, b_bodyData, b_draftKind, b_draftData, b_heights, b_truth, b_next, b_marks, b_cellDefined, b_cellValue, b_levelFunction, b_levelAt, b_levelTop, b_def, b_val, b_need, b_count) (nI j) 0 := by
  have j10 : ¬ nI j = 10 := fun z => by
    have := (nI_eq (a := j) (b := 10) (by omega) (by omega)).mp z
    omega
  refine yw_on (kd := fun _ => nI j) (dt := fun _ => 0) (ar := fun _ => 0) (j := 0) (fun z => absurd z j10) ?_
  rw [op_on (kd := fun _ => nI j) (q := 0) rfl hj]
  exact h
theorem i_vc_operator {k : Nat} {u : SX} {v : SY} (I : i_Rel k u v) (hk : k + 4 ≤ 2051) (v1 : Int32) : wpX_operator (fun r u' => wpY_operator (fun r' v' => r' = r ∧ i_Rel (k + 4) u' v') v v1) u v1 := by
  refine zz_el (P := fun u v => wpX_operator (fun r u' => wpY_operator (fun r' v' => r' = r ∧ i_Rel (k + 4) u' v') v v1) u v1) ?_ I
  intro f_literalKind f_paramKind f_callKind f_evalTask f_applyTask f_branchTask f_updateTask f_storeTask f_slotAbsent f_slotDelayed f_slotReady f_functionCount f_nodeLimit f_depthLimit f_draftOpen f_draftFor f_draftNodes f_draftCalls f_treeCount f_analysed f_recordValue f_recordThunks f_recordNeeds f_taskTop f_valueTop f_frameCount f_failed f_thunkCount f_demanded a_declared a_arity a_size a_kindAt a_datumAt a_childAt a_treeRoot a_treeHeight a_tables a_marks a_cellDefined a_cellValue a_eager a_taskKind a_taskSubject a_taskFrame a_valueStack a_frameDepth a_slotState a_slotValue a_slotNode a_slotFrame g_functionLimit g_nodeLimit g_depthLimit g_draftFor g_draftSize g_analysed g_level g_runMode g_runDepth g_lastSet g_hasValue g_recordValue g_recordCount g_recordSet b_arity b_bodySize b_bodyKind b_bodyData b_draftKind b_draftData b_heights b_truth b_next b_marks b_cellDefined b_cellValue b_levelFunction b_levelAt b_levelTop b_def b_val b_need b_count hR
  have hI : ∀ b_heights, i_Rel (k + 4) (f_literalKind, f_paramKind, f_callKind, f_evalTask, f_applyTask, f_branchTask, f_updateTask, f_storeTask, f_slotAbsent, f_slotDelayed, f_slotReady, f_functionCount, f_nodeLimit, f_depthLimit, f_draftOpen, f_draftFor, f_draftNodes, f_draftCalls, f_treeCount, f_analysed, f_recordValue, f_recordThunks, f_recordNeeds, f_taskTop, f_valueTop, f_frameCount, f_failed, f_thunkCount, f_demanded, a_declared, a_arity, a_size, a_kindAt, a_datumAt, a_childAt, a_treeRoot, a_treeHeight, a_tables, a_marks, a_cellDefined, a_cellValue, a_eager, a_taskKind, a_taskSubject, a_taskFrame, a_valueStack, a_frameDepth, a_slotState, a_slotValue, a_slotNode, a_slotFrame) (g_functionLimit, g_nodeLimit, g_depthLimit, g_draftFor, g_draftSize, g_analysed, g_level, g_runMode, g_runDepth, g_lastSet, g_hasValue, g_recordValue, g_recordCount, g_recordSet, b_arity, b_bodySize, b_bodyKind, b_bodyData, b_draftKind, b_draftData, b_heights, b_truth, b_next, b_marks, b_cellDefined, b_cellValue, b_levelFunction, b_levelAt, b_levelTop, b_def, b_val, b_need, b_count) := fun _ => zz_in hR
  obtain ⟨F, NL, DL, dc, ar, sz, hL, hP, hD, hA, hK, hV⟩ := hR
  unfold wpX_operator
  rcases hD.2 with ⟨z1, z2⟩ | ⟨df, m, ⟨d1, d2, d3⟩, d4, d5, d6, d7, d8, d9, d10, d11, d12, d13⟩
  · exact br_t z1 (br_f (by rw [z2]; decide) ⟨rfl, hI _⟩)
  have hNL := hL.1.2.2.2.1
  have ht8 := B_8 d12 m (Nat.le_refl _)
  have hf : 0 ≤ g_draftFor := by rw [d6]; exact nI_pos' (by omega)
  have eN := hL.2.2.1
  have eN' := hL.2.2.2.2.2.1
  refine br_f (by rw [d4]; decide) ?_
  rcases pk_ix v1 (n := 8) (by omega) with w | w | ⟨j, hj, rfl⟩
  · exact br_t w (br_t hf (br_t w ⟨rfl, hI _⟩))
  · have w2 : ¬ v1 < 0 := Int32.not_lt.mpr (Int32.le_trans (by decide) w)
    have w3 : ¬ v1 ≤ 7 := fun z => absurd (Int32.le_trans w z) (by decide)
    exact br_f w2 (br_f w3 (br_t hf (br_f w2 (br_f w3 ⟨rfl, hI _⟩))))
  have w2 : ¬ nI j < 0 := nI_pos (by omega)
  have w3 : nI j ≤ 7 := nI_le (b := 7) (by omega) (by decide)
  have j10 : ¬ nI j = 10 := fun z => by
    have := (nI_eq (a := j) (b := 10) (by omega) (by omega)).mp z
    omega
  have hop := op_le j
  have o0 := @op_0 j
  refine br_f w2 (br_t w3 (xw_oc (by omega) ?_))
  -- Y, up to the shared tests
  have goY : ∀ {P : Int32 → SY → Prop}, (∀ b_heights : Nat → Int32, (∀ k, k < sk_l (q_o a_kindAt a_datumAt ar 64) m → b_heights k = nI (h_t (q_o a_kindAt a_datumAt ar 64) m k)) →
      ((g_nodeLimit ≤ g_draftSize → P (-3) (g_functionLimit, g_nodeLimit, g_depthLimit, g_draftFor, g_draftSize, g_analysed, g_level, g_runMode, g_runDepth, g_lastSet, g_hasValue, g_recordValue, g_recordCount, g_recordSet, b_arity, b_bodySize, b_bodyKind, b_bodyData, b_draftKind, b_draftData, b_heights, b_truth, b_next, b_marks, b_cellDefined, b_cellValue, b_levelFunction, b_levelAt, b_levelTop, b_def, b_val, b_need, b_count)) ∧ (¬ g_nodeLimit ≤ g_draftSize → ((nI j = 0 → ((nI (sk_l (q_o a_kindAt a_datumAt ar 64) m) < 8 → wY_operator_58 P (nI j) (nI (sk_l (q_o a_kindAt a_datumAt ar 64) m)) (nI (op_n j)) g_functionLimit g_nodeLimit g_depthLimit g_draftFor g_draftSize g_analysed g_level g_runMode g_runDepth g_lastSet g_hasValue g_recordValue g_recordCount g_recordSet b_arity b_bodySize b_bodyKind b_bodyData b_draftKind b_draftData b_heights b_truth b_next b_marks b_cellDefined b_cellValue b_levelFunction b_levelAt b_levelTop b_def b_val b_need b_count) ∧ (¬ nI (sk_l (q_o a_kindAt a_datumAt ar 64) m) < 8 → P (-3) (g_functionLimit, g_nodeLimit, g_depthLimit, g_draftFor, g_draftSize, g_analysed, g_level, g_runMode, g_runDepth, g_lastSet, g_hasValue, g_recordValue, g_recordCount, g_recordSet, b_arity, b_bodySize, b_bodyKind, b_bodyData, b_draftKind, b_draftData, b_heights, b_truth, b_next, b_marks, b_cellDefined, b_cellValue, b_levelFunction, b_levelAt, b_levelTop, b_def, b_val, b_need, b_count)))) ∧ (¬ nI j = 0 → wY_operator_58 P (nI j) (nI (sk_l (q_o a_kindAt a_datumAt ar 64) m)) (nI (op_n j)) g_functionLimit g_nodeLimit g_depthLimit g_draftFor g_draftSize g_analysed g_level g_runMode g_runDepth g_lastSet g_hasValue g_recordValue g_recordCount g_recordSet b_arity b_bodySize b_bodyKind b_bodyData b_draftKind b_draftData b_heights b_truth b_next b_marks b_cellDefined b_cellValue b_levelFunction b_levelAt b_levelTop b_def b_val b_need b_count))))) →
      wpY_operator P (g_functionLimit, g_nodeLimit, g_depthLimit, g_draftFor, g_draftSize, g_analysed, g_level, g_runMode, g_runDepth, g_lastSet, g_hasValue, g_recordValue, g_recordCount, g_recordSet, b_arity, b_bodySize, b_bodyKind, b_bodyData, b_draftKind, b_draftData, b_heights, b_truth, b_next, b_marks, b_cellDefined, b_cellValue, b_levelFunction, b_levelAt, b_levelTop, b_def, b_val, b_need, b_count) (nI j) := by
    intro P H
    unfold wpY_operator
    refine br_t hf (br_f w2 (br_t w3 (yw_dt (dc := dc) d8 (by omega) hD.1 d12 (fun h hh hd => (((hP.2.1 h hh).1 hd).2.2).2) (fun b_heights hh => ?_))))
    exact yw_oj (by omega) (H b_heights hh)
  refine xw_pl (n := op_n j) (a := h_t (q_o a_kindAt a_datumAt ar 64) m) eN hNL d7 d3 d10 ht8 hop (fun k hk => (d11 k hk).2) (fun c => ?_) (fun c1 c2 c3 => ?_) (fun c1 c2 c3 c4 => ?_) (fun c1 c2 c3 c4 ch h1 h2 => ?_)
  · refine goY (fun b_heights hh => ?_)
    by_cases c1 : NL ≤ m
    · exact br_t (by rw [eN', d8]; exact nI_le c1 (by omega)) ⟨rfl, hI _⟩
    · have c2 : op_n j = 0 ∧ 8 ≤ sk_l (q_o a_kindAt a_datumAt ar 64) m := by omega
      exact br_f (by rw [eN', d8]; exact nI_ge (by omega) (by omega)) (br_t (by rw [o0.mp c2.1]; rfl) (br_f (nI_nlt (b := 8) c2.2 (by omega)) ⟨rfl, hI _⟩))
  · refine goY (fun b_heights hh => br_f (by rw [eN', d8]; exact nI_ge c1 (by omega)) (br_f ?_ ?_))
    · refine nI_ne0 ?_ (by omega)
      have : op_n j ≠ 0 := by omega
      have := fun z => this (o0.mpr z)
      omega
    · unfold wY_operator_58
      exact br_f (nI_ge (by omega) (by omega)) ⟨rfl, hI _⟩
  · have g : ∀ b_heights : Nat → Int32, (∀ k, k < sk_l (q_o a_kindAt a_datumAt ar 64) m → b_heights k = nI (h_t (q_o a_kindAt a_datumAt ar 64) m k)) → wY_operator_58 (fun r' v' => r' = -5 ∧ i_Rel (k + 4) (f_literalKind, f_paramKind, f_callKind, f_evalTask, f_applyTask, f_branchTask, f_updateTask, f_storeTask, f_slotAbsent, f_slotDelayed, f_slotReady, f_functionCount, f_nodeLimit, f_depthLimit, f_draftOpen, f_draftFor, f_draftNodes, f_draftCalls, f_treeCount, f_analysed, f_recordValue, f_recordThunks, f_recordNeeds, f_taskTop, f_valueTop, f_frameCount, f_failed, f_thunkCount, f_demanded, a_declared, a_arity, a_size, a_kindAt, a_datumAt, a_childAt, a_treeRoot, a_treeHeight, a_tables, a_marks, a_cellDefined, a_cellValue, a_eager, a_taskKind, a_taskSubject, a_taskFrame, a_valueStack, a_frameDepth, a_slotState, a_slotValue, a_slotNode, a_slotFrame) v') (nI j) (nI (sk_l (q_o a_kindAt a_datumAt ar 64) m)) (nI (op_n j)) g_functionLimit g_nodeLimit g_depthLimit g_draftFor g_draftSize g_analysed g_level g_runMode g_runDepth g_lastSet g_hasValue g_recordValue g_recordCount g_recordSet b_arity b_bodySize b_bodyKind b_bodyData b_draftKind b_draftData b_heights b_truth b_next b_marks b_cellDefined b_cellValue b_levelFunction b_levelAt b_levelTop b_def b_val b_need b_count := by
      intro b_heights hh
      unfold wY_operator_58
      have hb := h_mx_le (a := fun i => h_t (q_o a_kindAt a_datumAt ar 64) m (sk_l (q_o a_kindAt a_datumAt ar 64) m - op_n j + i)) (b := 6) (op_n j) (fun i hi => (d11 _ (by omega)).2.2)
      refine br_t (nI_le c3 (by omega)) (yw_ho (a := fun i => h_t (q_o a_kindAt a_datumAt ar 64) m (sk_l (q_o a_kindAt a_datumAt ar 64) m - op_n j + i)) c3 ht8 (fun i hi => ⟨hh _ (by omega), by have := (d11 (sk_l (q_o a_kindAt a_datumAt ar 64) m - op_n j + i) (by omega)).2.2; show h_t _ m _ ≤ 16; omega⟩) ?_)
      exact br_f (nI_ge (a := 6) (by omega) (by omega)) ⟨rfl, hI _⟩
    refine goY (fun b_heights hh => br_f (by rw [eN', d8]; exact nI_ge c1 (by omega)) ?_)
    by_cases j0 : j = 0
    · exact br_t (by rw [j0]; rfl) (br_t (nI_lt (b := 8) (by have := o0.mpr j0; omega) (by decide)) (g b_heights hh))
    · exact br_f (nI_ne0 (by omega) (by omega)) (g b_heights hh)
  · have g : ∀ b_heights : Nat → Int32, (∀ k, k < sk_l (q_o a_kindAt a_datumAt ar 64) m → b_heights k = nI (h_t (q_o a_kindAt a_datumAt ar 64) m k)) → wY_operator_58 (fun r' v' => r' = 0 ∧ i_Rel (k + 4) (f_literalKind, f_paramKind, f_callKind, f_evalTask, f_applyTask, f_branchTask, f_updateTask, f_storeTask, f_slotAbsent, f_slotDelayed, f_slotReady, f_functionCount, f_nodeLimit, f_depthLimit, f_draftOpen, f_draftFor, (nI (m + 1)), f_draftCalls, (nI (sk_l (q_o a_kindAt a_datumAt ar 64) m - op_n j + 1)), f_analysed, f_recordValue, f_recordThunks, f_recordNeeds, f_taskTop, f_valueTop, f_frameCount, f_failed, f_thunkCount, f_demanded, a_declared, a_arity, a_size, (upd a_kindAt (64 + m) (nI j)), (upd a_datumAt (64 + m) 0), ch, (upd a_treeRoot (sk_l (q_o a_kindAt a_datumAt ar 64) m - op_n j) (nI m)), (upd a_treeHeight (sk_l (q_o a_kindAt a_datumAt ar 64) m - op_n j) (nI (h_mx (fun i => h_t (q_o a_kindAt a_datumAt ar 64) m (sk_l (q_o a_kindAt a_datumAt ar 64) m - op_n j + i)) (op_n j) + 1))), a_tables, a_marks, a_cellDefined, a_cellValue, a_eager, a_taskKind, a_taskSubject, a_taskFrame, a_valueStack, a_frameDepth, a_slotState, a_slotValue, a_slotNode, a_slotFrame) v') (nI j) (nI (sk_l (q_o a_kindAt a_datumAt ar 64) m)) (nI (op_n j)) g_functionLimit g_nodeLimit g_depthLimit g_draftFor g_draftSize g_analysed g_level g_runMode g_runDepth g_lastSet g_hasValue g_recordValue g_recordCount g_recordSet b_arity b_bodySize b_bodyKind b_bodyData b_draftKind b_draftData b_heights b_truth b_next b_marks b_cellDefined b_cellValue b_levelFunction b_levelAt b_levelTop b_def b_val b_need b_count := by
      intro b_heights hh
      unfold wY_operator_58
      refine br_t (nI_le c3 (by omega)) (yw_ho (a := fun i => h_t (q_o a_kindAt a_datumAt ar 64) m (sk_l (q_o a_kindAt a_datumAt ar 64) m - op_n j + i)) c3 ht8 (fun i hi => ⟨hh _ (by omega), by have := (d11 (sk_l (q_o a_kindAt a_datumAt ar 64) m - op_n j + i) (by omega)).2.2; show h_t _ m _ ≤ 16; omega⟩) ?_)
      refine br_t (nI_le (b := 6) c4 (by decide)) (yw_wr d8 (by omega) ⟨rfl, zz_in ⟨F, NL, DL, dc, ar, sz, hL, pl_P hP h1, ?_, hA, hK, hV⟩⟩)
      have D := pl_D (x := nI j) (y := 0) hP.1 hD.1 d1 d2 c1 hNL rfl d11 d12 d13 ⟨j, by omega, rfl⟩ (fun z => absurd ((nI_eq (a := j) (b := 9) (by omega) (by omega)).mp z) (by omega)) (fun z => absurd z j10) (op_on pk_us (by omega)) c3 (by omega) c4 (by rw [if_neg j10]; exact d12.2.2) h1 h2
      rw [if_neg j10, Nat.add_zero] at D
      rw [d4, d5, d6, d9]
      exact D
    refine goY (fun b_heights hh => br_f (by rw [eN', d8]; exact nI_ge c1 (by omega)) ?_)
    by_cases j0 : j = 0
    · exact br_t (by rw [j0]; rfl) (br_t (nI_lt (b := 8) (by have := o0.mpr j0; omega) (by decide)) (g b_heights hh))
    · exact br_f (nI_ne0 (by omega) (by omega)) (g b_heights hh)
end
section
/-! call -/
section
variable {g_functionLimit g_nodeLimit g_depthLimit g_draftFor g_draftSize g_analysed g_level g_runMode g_runDepth g_lastSet g_hasValue g_recordValue g_recordCount g_recordSet : Int32} {b_arity b_bodySize b_bodyKind b_bodyData b_draftKind b_draftData b_heights b_truth b_next b_marks b_cellDefined b_cellValue b_levelFunction b_levelAt b_levelTop b_def b_val b_need b_count : Nat → Int32}
theorem yw_cl {R : Int32 → SY → Prop} {kd : Nat → Int32} {m : Nat} {X1 X2 : Int32} (hm : m ≤ 16) (hs : g_draftSize = nI m) (hk : ∀ p, p < 16 → b_draftKind p = kd (64 + p))
    (G : wY_call_30 R X1 X2 g_functionLimit g_nodeLimit g_depthLimit g_draftFor g_draftSize g_analysed g_level g_runMode g_runDepth g_lastSet g_hasValue g_recordValue g_recordCount g_recordSet b_arity b_bodySize b_bodyKind b_bodyData b_draftKind b_draftData b_heights b_truth b_next b_marks b_cellDefined b_cellValue b_levelFunction b_levelAt b_levelTop b_def b_val b_need b_count 1 (nI (su (fun q => if kd (64 + q) = 10 then 1 else 0) m)) (nI m)) :
    ∀ w p, p + w = m → wY_call_30 R X1 X2 g_functionLimit g_nodeLimit g_depthLimit g_draftFor g_draftSize g_analysed g_level g_runMode g_runDepth g_lastSet g_hasValue g_recordValue g_recordCount g_recordSet b_arity b_bodySize b_bodyKind b_bodyData b_draftKind b_draftData b_heights b_truth b_next b_marks b_cellDefined b_cellValue b_levelFunction b_levelAt b_levelTop b_def b_val b_need b_count (w + 1) (nI (su (fun q => if kd (64 + q) = 10 then 1 else 0) p)) (nI p) := by
  intro w
  induction w with
  | zero =>
    intro p hp
    have : p = m := by omega
    subst this
    exact G
  | succ w ih =>
    intro p hp
    have ih' := ih (p + 1) (by omega)
    rw [su_s] at ih'
    have ep : (nI p).toNatClampNeg = p := nI_clamp (by omega)
    refine br_f (by rw [hs]; exact nI_ge (by omega) (by omega)) ⟨vp_in_nI (by omega) (by omega), ?_⟩
    by_cases z : kd (64 + p) = 10
    · rw [if_pos z] at ih'
      exact br_t (by rw [ep, hk p (by omega)]; exact z) (nm_r (nI_1 _) (nm_r (nI_1 p) ih'))
    · rw [if_neg z, Nat.add_zero] at ih'
      exact br_f (by rw [ep, hk p (by omega)]; exact z) (nm_r (nI_1 p) ih')
theorem yw_ca {R : Int32 → SY → Prop} {kd : Nat → Int32} {NL m t g n : Nat} (hm : m ≤ 16) (hNL : NL ≤ 16) (hg : g < 4) (ht8 : t ≤ 8) (hn : n ≤ 3) (eN : g_nodeLimit = nI NL) (hs : g_draftSize = nI m) (hk : ∀ p, p < 16 → b_draftKind p = kd (64 + p)) (har : b_arity g = nI n) (hc : su (fun q => if kd (64 + q) = 10 then 1 else 0) m ≤ 2)
    (K3 : (NL ≤ m ∨ 2 ≤ su (fun q => if kd (64 + q) = 10 then 1 else 0) m ∨ (n = 0 ∧ 8 ≤ t)) → R (-3) (g_functionLimit, g_nodeLimit, g_depthLimit, g_draftFor, g_draftSize, g_analysed, g_level, g_runMode, g_runDepth, g_lastSet, g_hasValue, g_recordValue, g_recordCount, g_recordSet, b_arity, b_bodySize, b_bodyKind, b_bodyData, b_draftKind, b_draftData, b_heights, b_truth, b_next, b_marks, b_cellDefined, b_cellValue, b_levelFunction, b_levelAt, b_levelTop, b_def, b_val, b_need, b_count))
    (K : m < NL → su (fun q => if kd (64 + q) = 10 then 1 else 0) m < 2 → ¬ (n = 0 ∧ 8 ≤ t) → wY_call_94 R (nI g) (nI t) g_functionLimit g_nodeLimit g_depthLimit g_draftFor g_draftSize g_analysed g_level g_runMode g_runDepth g_lastSet g_hasValue g_recordValue g_recordCount g_recordSet b_arity b_bodySize b_bodyKind b_bodyData b_draftKind b_draftData b_heights b_truth b_next b_marks b_cellDefined b_cellValue b_levelFunction b_levelAt b_levelTop b_def b_val b_need b_count) : ∃ n30, wY_call_30 R (nI g) (nI t) g_functionLimit g_nodeLimit g_depthLimit g_draftFor g_draftSize g_analysed g_level g_runMode g_runDepth g_lastSet g_hasValue g_recordValue g_recordCount g_recordSet b_arity b_bodySize b_bodyKind b_bodyData b_draftKind b_draftData b_heights b_truth b_next b_marks b_cellDefined b_cellValue b_levelFunction b_levelAt b_levelTop b_def b_val b_need b_count n30 0 0 := by
  refine ⟨m + 1, yw_cl hm hs hk ?_ m 0 (by omega)⟩
  have eg : (nI g).toNatClampNeg = g := nI_clamp (by omega)
  refine br_t (by rw [hs]; exact nI_le (Nat.le_refl _) (by omega)) ?_
  by_cases c1 : NL ≤ m
  · exact br_t (by rw [eN, hs]; exact nI_le c1 (by omega)) (K3 (Or.inl c1))
  refine br_f (by rw [eN, hs]; exact nI_ge (by omega) (by omega)) ?_
  by_cases c2 : 2 ≤ su (fun q => if kd (64 + q) = 10 then 1 else 0) m
  · exact br_t (nI_le (a := 2) c2 (by omega)) (K3 (Or.inr (Or.inl c2)))
  refine br_f (nI_ge (b := 2) (by omega) (by decide)) ⟨vp_in_nI hg (by omega), ?_⟩
  by_cases n0 : n = 0
  · refine br_t (by rw [eg, har, n0]; rfl) ?_
    by_cases t8 : t < 8
    · exact br_t (nI_lt (b := 8) t8 (by decide)) (K (by omega) (by omega) (by omega))
    · exact br_f (nI_nlt (b := 8) (by omega) (by omega)) (K3 (Or.inr (Or.inr ⟨n0, by omega⟩)))
  · exact br_f (by rw [eg, har]; exact nI_ne0 (by omega) (by omega)) (K (by omega) (by omega) (by omega))
end
theorem i_vc_call {k : Nat} {u : SX} {v : SY} (I : i_Rel k u v) (hk : k + 4 ≤ 2051) (v1 : Int32) : wpX_call (fun r u' => wpY_call (fun r' v' => r' = r ∧ i_Rel (k + 4) u' v') v v1) u v1 := by
  refine zz_el (P := fun u v => wpX_call (fun r u' => wpY_call (fun r' v' => r' = r ∧ i_Rel (k + 4) u' v') v v1) u v1) ?_ I
  intro f_literalKind f_paramKind f_callKind f_evalTask f_applyTask f_branchTask f_updateTask f_storeTask f_slotAbsent f_slotDelayed f_slotReady f_functionCount f_nodeLimit f_depthLimit f_draftOpen f_draftFor f_draftNodes f_draftCalls f_treeCount f_analysed f_recordValue f_recordThunks f_recordNeeds f_taskTop f_valueTop f_frameCount f_failed f_thunkCount f_demanded a_declared a_arity a_size a_kindAt a_datumAt a_childAt a_treeRoot a_treeHeight a_tables a_marks a_cellDefined a_cellValue a_eager a_taskKind a_taskSubject a_taskFrame a_valueStack a_frameDepth a_slotState a_slotValue a_slotNode a_slotFrame g_functionLimit g_nodeLimit g_depthLimit g_draftFor g_draftSize g_analysed g_level g_runMode g_runDepth g_lastSet g_hasValue g_recordValue g_recordCount g_recordSet b_arity b_bodySize b_bodyKind b_bodyData b_draftKind b_draftData b_heights b_truth b_next b_marks b_cellDefined b_cellValue b_levelFunction b_levelAt b_levelTop b_def b_val b_need b_count hR
  have hI : ∀ b_heights, i_Rel (k + 4) (f_literalKind, f_paramKind, f_callKind, f_evalTask, f_applyTask, f_branchTask, f_updateTask, f_storeTask, f_slotAbsent, f_slotDelayed, f_slotReady, f_functionCount, f_nodeLimit, f_depthLimit, f_draftOpen, f_draftFor, f_draftNodes, f_draftCalls, f_treeCount, f_analysed, f_recordValue, f_recordThunks, f_recordNeeds, f_taskTop, f_valueTop, f_frameCount, f_failed, f_thunkCount, f_demanded, a_declared, a_arity, a_size, a_kindAt, a_datumAt, a_childAt, a_treeRoot, a_treeHeight, a_tables, a_marks, a_cellDefined, a_cellValue, a_eager, a_taskKind, a_taskSubject, a_taskFrame, a_valueStack, a_frameDepth, a_slotState, a_slotValue, a_slotNode, a_slotFrame) (g_functionLimit, g_nodeLimit, g_depthLimit, g_draftFor, g_draftSize, g_analysed, g_level, g_runMode, g_runDepth, g_lastSet, g_hasValue, g_recordValue, g_recordCount, g_recordSet, b_arity, b_bodySize, b_bodyKind, b_bodyData, b_draftKind, b_draftData, b_heights, b_truth, b_next, b_marks, b_cellDefined, b_cellValue, b_levelFunction, b_levelAt, b_levelTop, b_def, b_val, b_need, b_count) := fun _ => zz_in hR
  obtain ⟨F, NL, DL, dc, ar, sz, hL, hP, hD, hA, hK, hV⟩ := hR
  unfold wpX_call
  rcases hD.2 with ⟨z1, z2⟩ | ⟨df, m, ⟨d1, d2, d3⟩, d4, d5, d6, d7, d8, d9, d10, d11, d12, d13⟩
  · refine br_t z1 ?_
    exact br_f (by rw [z2]; decide) ⟨rfl, hI _⟩
  have hNL := hL.1.2.2.2.1
  have ht8 := B_8 d12 m (Nat.le_refl _)
  have hf : 0 ≤ g_draftFor := by rw [d6]; exact nI_pos' (by omega)
  have eN := hL.2.2.1
  have eN' := hL.2.2.2.2.2.1
  have hF4 := hL.1.2.1
  refine br_f (by rw [d4]; decide) ?_
  rcases dc_or hP hF4 v1 with ⟨g, hg, hg4, rfl, hd, e1, e2, e3⟩ | hno
  · have hn := hP.1 g
    have eg : (nI g).toNatClampNeg = g := nI_clamp (by omega)
    refine xw_id1 hL.2.1 hF4 hg e1 (br_f (by decide) ?_)
    have goY : ∀ {P : Int32 → SY → Prop}, ((NL ≤ m ∨ 2 ≤ su (fun q => if a_kindAt (64 + q) = 10 then 1 else 0) m ∨ (ar g = 0 ∧ 8 ≤ sk_l (q_o a_kindAt a_datumAt ar 64) m)) → ∀ b_heights, P (-3) (g_functionLimit, g_nodeLimit, g_depthLimit, g_draftFor, g_draftSize, g_analysed, g_level, g_runMode, g_runDepth, g_lastSet, g_hasValue, g_recordValue, g_recordCount, g_recordSet, b_arity, b_bodySize, b_bodyKind, b_bodyData, b_draftKind, b_draftData, b_heights, b_truth, b_next, b_marks, b_cellDefined, b_cellValue, b_levelFunction, b_levelAt, b_levelTop, b_def, b_val, b_need, b_count)) → (m < NL → su (fun q => if a_kindAt (64 + q) = 10 then 1 else 0) m < 2 → ¬ (ar g = 0 ∧ 8 ≤ sk_l (q_o a_kindAt a_datumAt ar 64) m) → ∀ b_heights : Nat → Int32, (∀ k, k < sk_l (q_o a_kindAt a_datumAt ar 64) m → b_heights k = nI (h_t (q_o a_kindAt a_datumAt ar 64) m k)) → wY_call_94 P (nI g) (nI (sk_l (q_o a_kindAt a_datumAt ar 64) m)) g_functionLimit g_nodeLimit g_depthLimit g_draftFor g_draftSize g_analysed g_level g_runMode g_runDepth g_lastSet g_hasValue g_recordValue g_recordCount g_recordSet b_arity b_bodySize b_bodyKind b_bodyData b_draftKind b_draftData b_heights b_truth b_next b_marks b_cellDefined b_cellValue b_levelFunction b_levelAt b_levelTop b_def b_val b_need b_count) → wpY_call P (g_functionLimit, g_nodeLimit, g_depthLimit, g_draftFor, g_draftSize, g_analysed, g_level, g_runMode, g_runDepth, g_lastSet, g_hasValue, g_recordValue, g_recordCount, g_recordSet, b_arity, b_bodySize, b_bodyKind, b_bodyData, b_draftKind, b_draftData, b_heights, b_truth, b_next, b_marks, b_cellDefined, b_cellValue, b_levelFunction, b_levelAt, b_levelTop, b_def, b_val, b_need, b_count) (nI g) := by
      intro P H3 H
      unfold wpY_call
      refine br_t hf (yw_id1 hL.2.2.2.2.1 hF4 hg e3 hn (br_f (by decide) (yw_dt (dc := dc) d8 (by omega) hD.1 d12 (fun h hh hd => (((hP.2.1 h hh).1 hd).2.2).2) (fun b_heights hh => ?_))))
      exact yw_ca (kd := a_kindAt) (by omega) hNL hg4 ht8 hn eN' d8 (fun p hp => (hD.1 p hp).1) e3 d12.2.2 (fun c => H3 c _) (fun c1 c2 c3 => H c1 c2 c3 _ hh)
    by_cases c2 : 2 ≤ su (fun q => if a_kindAt (64 + q) = 10 then 1 else 0) m
    · refine br_f (by rw [d9]; exact nI_nlt (b := 2) c2 (by have := d12.2.2; omega)) ?_
      exact goY (fun _ b_heights => ⟨rfl, hI _⟩) (fun _ c _ => absurd c2 (by omega))
    · refine br_t (by rw [d9]; exact nI_lt (b := 2) (by omega) (by decide)) ⟨vp_in_nI hg4 (by omega), ?_⟩
      rw [eg, e2]
      have g94 : ∀ {P : Int32 → SY → Prop} (b_heights : Nat → Int32), (∀ k, k < sk_l (q_o a_kindAt a_datumAt ar 64) m → b_heights k = nI (h_t (q_o a_kindAt a_datumAt ar 64) m k)) → (sk_l (q_o a_kindAt a_datumAt ar 64) m < ar g → P (-4) (g_functionLimit, g_nodeLimit, g_depthLimit, g_draftFor, g_draftSize, g_analysed, g_level, g_runMode, g_runDepth, g_lastSet, g_hasValue, g_recordValue, g_recordCount, g_recordSet, b_arity, b_bodySize, b_bodyKind, b_bodyData, b_draftKind, b_draftData, b_heights, b_truth, b_next, b_marks, b_cellDefined, b_cellValue, b_levelFunction, b_levelAt, b_levelTop, b_def, b_val, b_need, b_count)) → (ar g ≤ sk_l (q_o a_kindAt a_datumAt ar 64) m → ¬ h_mx (fun i => h_t (q_o a_kindAt a_datumAt ar 64) m (sk_l (q_o a_kindAt a_datumAt ar 64) m - ar g + i)) (ar g) + 1 ≤ 6 → P (-5) (g_functionLimit, g_nodeLimit, g_depthLimit, g_draftFor, g_draftSize, g_analysed, g_level, g_runMode, g_runDepth, g_lastSet, g_hasValue, g_recordValue, g_recordCount, g_recordSet, b_arity, b_bodySize, b_bodyKind, b_bodyData, b_draftKind, b_draftData, b_heights, b_truth, b_next, b_marks, b_cellDefined, b_cellValue, b_levelFunction, b_levelAt, b_levelTop, b_def, b_val, b_need, b_count)) → (ar g ≤ sk_l (q_o a_kindAt a_datumAt ar 64) m → h_mx (fun i => h_t (q_o a_kindAt a_datumAt ar 64) m (sk_l (q_o a_kindAt a_datumAt ar 64) m - ar g + i)) (ar g) + 1 ≤ 6 → m < 16 ∧ P 0 (g_functionLimit, g_nodeLimit, g_depthLimit, g_draftFor, (nI (m + 1)), g_analysed, g_level, g_runMode, g_runDepth, g_lastSet, g_hasValue, g_recordValue, g_recordCount, g_recordSet, b_arity, b_bodySize, b_bodyKind, b_bodyData, (upd b_draftKind m 10), (upd b_draftData m (nI g)), b_heights, b_truth, b_next, b_marks, b_cellDefined, b_cellValue, b_levelFunction, b_levelAt, b_levelTop, b_def, b_val, b_need, b_count)) → wY_call_94 P (nI g) (nI (sk_l (q_o a_kindAt a_datumAt ar 64) m)) g_functionLimit g_nodeLimit g_depthLimit g_draftFor g_draftSize g_analysed g_level g_runMode g_runDepth g_lastSet g_hasValue g_recordValue g_recordCount g_recordSet b_arity b_bodySize b_bodyKind b_bodyData b_draftKind b_draftData b_heights b_truth b_next b_marks b_cellDefined b_cellValue b_levelFunction b_levelAt b_levelTop b_def b_val b_need b_count := by
        intro P b_heights hh H4 H5 H0
        unfold wY_call_94
        refine ⟨vp_in_nI hg4 (by omega), ?_⟩
        rw [eg, e3]
        by_cases c3 : ar g ≤ sk_l (q_o a_kindAt a_datumAt ar 64) m
        · refine br_t (nI_le c3 (by omega)) ⟨vp_in_nI hg4 (by omega), ?_⟩
          have hb := h_mx_le (a := fun i => h_t (q_o a_kindAt a_datumAt ar 64) m (sk_l (q_o a_kindAt a_datumAt ar 64) m - ar g + i)) (b := 6) (ar g) (fun i hi => (d11 _ (by omega)).2.2)
          refine yw_ho (a := fun i => h_t (q_o a_kindAt a_datumAt ar 64) m (sk_l (q_o a_kindAt a_datumAt ar 64) m - ar g + i)) c3 ht8 (fun i hi => ⟨hh _ (by omega), by have := (d11 (sk_l (q_o a_kindAt a_datumAt ar 64) m - ar g + i) (by omega)).2.2; show h_t _ m _ ≤ 16; omega⟩) ?_
          by_cases c4 : h_mx (fun i => h_t (q_o a_kindAt a_datumAt ar 64) m (sk_l (q_o a_kindAt a_datumAt ar 64) m - ar g + i)) (ar g) + 1 ≤ 6
          · exact br_t (nI_le (b := 6) c4 (by decide)) (yw_wr d8 (H0 c3 c4).1 (H0 c3 c4).2)
          · exact br_f (nI_ge (a := 6) (by omega) (by omega)) (H5 c3 c4)
        · exact br_f (nI_ge (by omega) (by omega)) (H4 (by omega))
      refine xw_pl (n := ar g) (a := h_t (q_o a_kindAt a_datumAt ar 64) m) eN hNL d7 d3 d10 ht8 hn (fun k hk => (d11 k hk).2) (fun c => ?_) (fun c1 c3 c4 => ?_) (fun c1 c3 c4 c5 => ?_) (fun c1 c3 c4 c5 ch h1 h2 => ?_)
      · refine br_f (by decide) ?_
        exact goY (fun _ b_heights => ⟨rfl, hI _⟩) (fun y1 y2 y3 => absurd c (by omega))
      · refine br_f (by decide) ?_
        exact goY (fun y b_heights => absurd y (by omega)) (fun _ _ _ b_heights hh => g94 b_heights hh (fun _ => ⟨rfl, hI _⟩) (fun y => absurd y (by omega)) (fun y => absurd y (by omega)))
      · refine br_f (by decide) ?_
        exact goY (fun y b_heights => absurd y (by omega)) (fun _ _ _ b_heights hh => g94 b_heights hh (fun y => absurd y (by omega)) (fun _ _ => ⟨rfl, hI _⟩) (fun _ y => absurd y c5))
      · refine br_t rfl (nm_r (e' := nI (su (fun q => if a_kindAt (64 + q) = 10 then 1 else 0) m + 1)) (by rw [d9, nI_1]) ?_)
        refine goY (fun y b_heights => absurd y (by omega)) (fun _ _ _ b_heights hh => g94 b_heights hh (fun y => absurd y (by omega)) (fun _ y => absurd c5 y) (fun _ _ => ⟨by omega, rfl, zz_in ⟨F, NL, DL, dc, ar, sz, hL, pl_P hP h1, ?_, hA, hK, hV⟩⟩))
        have D := pl_D (x := 10) (y := nI g) hP.1 hD.1 d1 d2 c1 hNL rfl d11 d12 d13 ⟨10, by omega, rfl⟩ (fun z => absurd z (by decide)) (fun _ => ⟨g, hg4, rfl, hd⟩) (by unfold q_on; rw [pk_us, pk_us, if_neg (by decide), if_neg (by decide), if_neg (by decide), if_pos rfl, eg]) c4 (by omega) c5 (by rw [if_pos rfl]; omega) h1 h2
        rw [if_pos rfl] at D
        rw [d4, d5, d6]
        exact D
  · refine xw_id0 hL.2.1 hF4 (fun g hg e => (hno g hg e).1) (br_t rfl ?_)
    unfold wpY_call
    exact br_t hf (yw_id0 hL.2.2.2.2.1 hF4 (fun g hg e => (hno g hg e).2) (br_t rfl ⟨rfl, hI _⟩))
end
section
/-! close -/
def cp_k (src : Nat → Int32) (b n : Nat) : Nat → Int32 := fun j => if b ≤ j ∧ j < b + n then src (64 + (j - b)) else src j
def cp_c (src : Nat → Int32) (b c : Nat) : Nat → Int32 := fun j => if 3 * b ≤ j ∧ j < 3 * b + c then src (192 + (j - 3 * b)) + nI b else src j
def cp_y (src dst : Nat → Int32) (b n : Nat) : Nat → Int32 := fun j => if b ≤ j ∧ j < b + n then src (j - b) else dst j
theorem cp_k0 (src : Nat → Int32) (b : Nat) : cp_k src b 0 = src := by
  funext j
  exact if_neg (by omega)
theorem cp_c0 (src : Nat → Int32) (b : Nat) : cp_c src b 0 = src := by
  funext j
  exact if_neg (by omega)
theorem cp_y0 (src dst : Nat → Int32) (b : Nat) : cp_y src dst b 0 = dst := by
  funext j
  exact if_neg (by omega)
theorem cp_ks {src : Nat → Int32} {b n : Nat} (hb : b + n < 64) : upd (cp_k src b n) (b + n) (cp_k src b n (64 + n)) = cp_k src b (n + 1) := by
  funext j
  have e : cp_k src b n (64 + n) = src (64 + n) := if_neg (by omega)
  rw [e]
  unfold upd cp_k
  by_cases h1 : j = b + n
  · rw [if_pos h1, if_pos (by omega)]
    exact congrArg src (by omega)
  · rw [if_neg h1]
    by_cases h2 : b ≤ j ∧ j < b + n
    · rw [if_pos h2, if_pos (by omega)]
    · rw [if_neg h2, if_neg (by omega)]
theorem cp_cs {src : Nat → Int32} {b c : Nat} (hb : 3 * b + c < 192) : upd (cp_c src b c) (3 * b + c) (cp_c src b c (192 + c) + nI b) = cp_c src b (c + 1) := by
  funext j
  have e : cp_c src b c (192 + c) = src (192 + c) := if_neg (by omega)
  rw [e]
  unfold upd cp_c
  by_cases h1 : j = 3 * b + c
  · rw [if_pos h1, if_pos (by omega)]
    exact congrArg (fun z => src z + nI b) (by omega)
  · rw [if_neg h1]
    by_cases h2 : 3 * b ≤ j ∧ j < 3 * b + c
    · rw [if_pos h2, if_pos (by omega)]
    · rw [if_neg h2, if_neg (by omega)]
theorem cp_ys {src dst : Nat → Int32} {b n : Nat} : upd (cp_y src dst b n) (b + n) (src n) = cp_y src dst b (n + 1) := by
  funext j
  unfold upd cp_y
  by_cases h1 : j = b + n
  · rw [if_pos h1, if_pos (by omega)]
    exact congrArg src (by omega)
  · rw [if_neg h1]
    by_cases h2 : b ≤ j ∧ j < b + n
    · rw [if_pos h2, if_pos (by omega)]
    · rw [if_neg h2, if_neg (by omega)]
section
variable {Q : SX → Prop} {f_literalKind f_paramKind f_callKind f_evalTask f_applyTask f_branchTask f_updateTask f_storeTask f_slotAbsent f_slotDelayed f_slotReady f_functionCount f_nodeLimit f_depthLimit f_draftOpen f_draftFor f_draftNodes f_draftCalls f_treeCount f_analysed f_recordValue f_recordThunks f_recordNeeds f_taskTop f_valueTop f_frameCount f_failed f_thunkCount f_demanded : Int32} {a_declared a_arity a_size a_kindAt a_datumAt a_childAt a_treeRoot a_treeHeight a_tables a_marks a_cellDefined a_cellValue a_eager a_taskKind a_taskSubject a_taskFrame a_valueStack a_frameDepth a_slotState a_slotValue a_slotNode a_slotFrame : Nat → Int32}
theorem xw_in {J : Int32 → (Nat → Int32) → (Nat → Int32) → (Nat → Int32) → (Nat → Int32) → (Nat → Int32) → (Nat → Int32) → (Nat → Int32) → (Nat → Int32) → (Nat → Int32) → (Nat → Int32) → (Nat → Int32) → (Nat → Int32) → (Nat → Int32) → (Nat → Int32) → (Nat → Int32) → (Nat → Int32) → (Nat → Int32) → (Nat → Int32) → (Nat → Int32) → (Nat → Int32) → (Nat → Int32) → (Nat → Int32) → Prop} {b p : Nat} {ch : Nat → Int32} (hb : b + p < 64) (hp16 : p < 16)
    (H : J (nI (p + 1)) a_declared a_arity a_size a_kindAt a_datumAt (cp_c ch b (3 * (p + 1))) a_treeRoot a_treeHeight a_tables a_marks a_cellDefined a_cellValue a_eager a_taskKind a_taskSubject a_taskFrame a_valueStack a_frameDepth a_slotState a_slotValue a_slotNode a_slotFrame) :
    ∀ w i, i + w = 3 → wX_installDraft_57 Q J (nI b) (nI p) (nI (64 + p)) (nI (b + p)) f_literalKind f_paramKind f_callKind f_evalTask f_applyTask f_branchTask f_updateTask f_storeTask f_slotAbsent f_slotDelayed f_slotReady f_functionCount f_nodeLimit f_depthLimit f_draftOpen f_draftFor f_draftNodes f_draftCalls f_treeCount f_analysed f_recordValue f_recordThunks f_recordNeeds f_taskTop f_valueTop f_frameCount f_failed f_thunkCount f_demanded (w + 1) (nI i) a_declared a_arity a_size a_kindAt a_datumAt (cp_c ch b (3 * p + i)) a_treeRoot a_treeHeight a_tables a_marks a_cellDefined a_cellValue a_eager a_taskKind a_taskSubject a_taskFrame a_valueStack a_frameDepth a_slotState a_slotValue a_slotNode a_slotFrame := by
  intro w
  induction w with
  | zero =>
    intro i hi
    have : i = 3 := by omega
    subst this
    exact br_t (by decide) (nm_r (nI_1 p) H)
  | succ w ih =>
    intro i hi
    have e1 : nI (64 + p) * 3 + nI i = nI (192 + (3 * p + i)) := by rw [sa_m3, nI_add]; exact congrArg nI (by omega)
    have e2 : nI (b + p) * 3 + nI i = nI (3 * b + (3 * p + i)) := by rw [sa_m3, nI_add]; exact congrArg nI (by omega)
    refine br_f (nI_ge (b := 3) (by omega) (by decide)) ⟨by rw [e1]; exact vp_in_nI (by omega) (by omega), by rw [e2]; exact vp_in_nI (by omega) (by omega), ?_⟩
    rw [e1, e2, nI_clamp (by omega), nI_clamp (by omega), cp_cs (by omega)]
    exact nm_e (nm_r (nI_1 i) (ih (i + 1) (by omega)))
theorem xw_il {df m b : Nat} {kd dt ch : Nat → Int32} (hdf : df < 4) (hb : b = 16 * df) (hm : m ≤ 16)
    (H : Q (f_literalKind, f_paramKind, f_callKind, f_evalTask, f_applyTask, f_branchTask, f_updateTask, f_storeTask, f_slotAbsent, f_slotDelayed, f_slotReady, f_functionCount, f_nodeLimit, f_depthLimit, f_draftOpen, (nI df), (nI m), f_draftCalls, f_treeCount, f_analysed, f_recordValue, f_recordThunks, f_recordNeeds, f_taskTop, f_valueTop, f_frameCount, f_failed, f_thunkCount, f_demanded, a_declared, a_arity, (upd a_size df (nI m)), (cp_k kd b m), (cp_k dt b m), (cp_c ch b (3 * m)), a_treeRoot, a_treeHeight, a_tables, a_marks, a_cellDefined, a_cellValue, a_eager, a_taskKind, a_taskSubject, a_taskFrame, a_valueStack, a_frameDepth, a_slotState, a_slotValue, a_slotNode, a_slotFrame)) :
    ∀ w p, p + w = m → wX_installDraft_10 Q (nI b) f_literalKind f_paramKind f_callKind f_evalTask f_applyTask f_branchTask f_updateTask f_storeTask f_slotAbsent f_slotDelayed f_slotReady f_functionCount f_nodeLimit f_depthLimit f_draftOpen (nI df) (nI m) f_draftCalls f_treeCount f_analysed f_recordValue f_recordThunks f_recordNeeds f_taskTop f_valueTop f_frameCount f_failed f_thunkCount f_demanded (w + 1) (nI p) a_declared a_arity a_size (cp_k kd b p) (cp_k dt b p) (cp_c ch b (3 * p)) a_treeRoot a_treeHeight a_tables a_marks a_cellDefined a_cellValue a_eager a_taskKind a_taskSubject a_taskFrame a_valueStack a_frameDepth a_slotState a_slotValue a_slotNode a_slotFrame := by
  intro w
  induction w with
  | zero =>
    intro p hp
    have : p = m := by omega
    subst this
    have e : (nI df).toNatClampNeg = df := nI_clamp (by omega)
    exact br_t (nI_le (Nat.le_refl _) (by omega)) ⟨vp_in_nI hdf (by omega), nm_r (e' := upd a_size df (nI p)) (by rw [e]) H⟩
  | succ w ih =>
    intro p hp
    have h1 : vp_in (nI (64 + p)) 80 := vp_in_nI (by omega) (by omega)
    have h2 : vp_in (nI (b + p)) 80 := vp_in_nI (by omega) (by omega)
    have e1 : (nI (64 + p)).toNatClampNeg = 64 + p := nI_clamp (by omega)
    have e2 : (nI (b + p)).toNatClampNeg = b + p := nI_clamp (by omega)
    refine br_f (nI_ge (by omega) (by omega)) (nm_r (sa_64 p) (nm_r (nI_add b p) ⟨h1, h2, nm_r (e' := cp_k kd b (p + 1)) ?_ ⟨h1, h2, nm_r (e' := cp_k dt b (p + 1)) ?_ ⟨4, ?_⟩⟩⟩))
    · rw [e1, e2, cp_ks (by omega)]
    · rw [e1, e2, cp_ks (by omega)]
    · exact xw_in (by omega) (by omega) (ih (p + 1) (by omega)) 3 0 (by omega)
theorem xw_ins {df m : Nat} (hdf : df < 4) (hm : m ≤ 16) (e1 : f_draftFor = nI df) (e2 : f_draftNodes = nI m)
    (H : Q (f_literalKind, f_paramKind, f_callKind, f_evalTask, f_applyTask, f_branchTask, f_updateTask, f_storeTask, f_slotAbsent, f_slotDelayed, f_slotReady, f_functionCount, f_nodeLimit, f_depthLimit, f_draftOpen, f_draftFor, f_draftNodes, f_draftCalls, f_treeCount, f_analysed, f_recordValue, f_recordThunks, f_recordNeeds, f_taskTop, f_valueTop, f_frameCount, f_failed, f_thunkCount, f_demanded, a_declared, a_arity, (upd a_size df (nI m)), (cp_k a_kindAt (16 * df) m), (cp_k a_datumAt (16 * df) m), (cp_c a_childAt (16 * df) (3 * m)), a_treeRoot, a_treeHeight, a_tables, a_marks, a_cellDefined, a_cellValue, a_eager, a_taskKind, a_taskSubject, a_taskFrame, a_valueStack, a_frameDepth, a_slotState, a_slotValue, a_slotNode, a_slotFrame)) : wpX_installDraft Q (f_literalKind, f_paramKind, f_callKind, f_evalTask, f_applyTask, f_branchTask, f_updateTask, f_storeTask, f_slotAbsent, f_slotDelayed, f_slotReady, f_functionCount, f_nodeLimit, f_depthLimit, f_draftOpen, f_draftFor, f_draftNodes, f_draftCalls, f_treeCount, f_analysed, f_recordValue, f_recordThunks, f_recordNeeds, f_taskTop, f_valueTop, f_frameCount, f_failed, f_thunkCount, f_demanded, a_declared, a_arity, a_size, a_kindAt, a_datumAt, a_childAt, a_treeRoot, a_treeHeight, a_tables, a_marks, a_cellDefined, a_cellValue, a_eager, a_taskKind, a_taskSubject, a_taskFrame, a_valueStack, a_frameDepth, a_slotState, a_slotValue, a_slotNode, a_slotFrame) := by
  subst e1 e2
  unfold wpX_installDraft
  refine nm_r (sa_m16 df) ⟨m + 1, ?_⟩
  have L := xw_il (b := 16 * df) (kd := a_kindAt) (dt := a_datumAt) (ch := a_childAt) hdf rfl hm H m 0 (by omega)
  rw [cp_k0, cp_k0, cp_c0] at L
  exact L
end
section
variable {R : Int32 → SY → Prop} {g_functionLimit g_nodeLimit g_depthLimit g_draftFor g_draftSize g_analysed g_level g_runMode g_runDepth g_lastSet g_hasValue g_recordValue g_recordCount g_recordSet : Int32} {b_arity b_bodySize b_bodyKind b_bodyData b_draftKind b_draftData b_heights b_truth b_next b_marks b_cellDefined b_cellValue b_levelFunction b_levelAt b_levelTop b_def b_val b_need b_count : Nat → Int32}
theorem yw_cl2 {df m : Nat} {bk bd : Nat → Int32} (hdf : df < 4) (hm : m ≤ 16)
    (H : R 0 (g_functionLimit, g_nodeLimit, g_depthLimit, (-1), (nI m), 0, g_level, g_runMode, g_runDepth, g_lastSet, g_hasValue, g_recordValue, g_recordCount, g_recordSet, b_arity, (upd b_bodySize df (nI m)), (cp_y b_draftKind bk (16 * df) m), (cp_y b_draftData bd (16 * df) m), b_draftKind, b_draftData, b_heights, b_truth, b_next, b_marks, b_cellDefined, b_cellValue, b_levelFunction, b_levelAt, b_levelTop, b_def, b_val, b_need, b_count)) :
    ∀ w p, p + w = m → wY_close_23 R g_functionLimit g_nodeLimit g_depthLimit (nI df) (nI m) g_analysed g_level g_runMode g_runDepth g_lastSet g_hasValue g_recordValue g_recordCount g_recordSet (w + 1) (nI p) b_arity b_bodySize (cp_y b_draftKind bk (16 * df) p) (cp_y b_draftData bd (16 * df) p) b_draftKind b_draftData b_heights b_truth b_next b_marks b_cellDefined b_cellValue b_levelFunction b_levelAt b_levelTop b_def b_val b_need b_count := by
  intro w
  induction w with
  | zero =>
    intro p hp
    have : p = m := by omega
    subst this
    have e : (nI df).toNatClampNeg = df := nI_clamp (by omega)
    exact br_t (nI_le (Nat.le_refl _) (by omega)) ⟨vp_in_nI hdf (by omega), nm_r (e' := upd b_bodySize df (nI p)) (by rw [e]) H⟩
  | succ w ih =>
    intro p hp
    have h1 : vp_in (nI p) 16 := vp_in_nI (by omega) (by omega)
    have e0 : nI df * 16 + nI p = nI (16 * df + p) := by rw [sa_m16, nI_add]
    have h2 : vp_in (nI df * 16 + nI p) 64 := by rw [e0]; exact vp_in_nI (by omega) (by omega)
    have e1 : (nI p).toNatClampNeg = p := nI_clamp (by omega)
    have e2 : (nI df * 16 + nI p).toNatClampNeg = 16 * df + p := by rw [e0]; exact nI_clamp (by omega)
    refine br_f (nI_ge (by omega) (by omega)) ⟨h1, h2, nm_r (e' := cp_y b_draftKind bk (16 * df) (p + 1)) ?_ ⟨h1, h2, nm_r (e' := cp_y b_draftData bd (16 * df) (p + 1)) ?_ (nm_r (nI_1 p) (ih (p + 1) (by omega)))⟩⟩
    · rw [e1, e2, cp_ys]
    · rw [e1, e2, cp_ys]
end
theorem i_vc_close {k : Nat} {u : SX} {v : SY} (I : i_Rel k u v) (hk : k + 4 ≤ 2051) : wpX_close (fun r u' => wpY_close (fun r' v' => r' = r ∧ i_Rel (k + 4) u' v') v) u := by
  refine zz_el (P := fun u v => wpX_close (fun r u' => wpY_close (fun r' v' => r' = r ∧ i_Rel (k + 4) u' v') v) u) ?_ I
  intro f_literalKind f_paramKind f_callKind f_evalTask f_applyTask f_branchTask f_updateTask f_storeTask f_slotAbsent f_slotDelayed f_slotReady f_functionCount f_nodeLimit f_depthLimit f_draftOpen f_draftFor f_draftNodes f_draftCalls f_treeCount f_analysed f_recordValue f_recordThunks f_recordNeeds f_taskTop f_valueTop f_frameCount f_failed f_thunkCount f_demanded a_declared a_arity a_size a_kindAt a_datumAt a_childAt a_treeRoot a_treeHeight a_tables a_marks a_cellDefined a_cellValue a_eager a_taskKind a_taskSubject a_taskFrame a_valueStack a_frameDepth a_slotState a_slotValue a_slotNode a_slotFrame g_functionLimit g_nodeLimit g_depthLimit g_draftFor g_draftSize g_analysed g_level g_runMode g_runDepth g_lastSet g_hasValue g_recordValue g_recordCount g_recordSet b_arity b_bodySize b_bodyKind b_bodyData b_draftKind b_draftData b_heights b_truth b_next b_marks b_cellDefined b_cellValue b_levelFunction b_levelAt b_levelTop b_def b_val b_need b_count hR
  have hI : ∀ b_heights, i_Rel (k + 4) (f_literalKind, f_paramKind, f_callKind, f_evalTask, f_applyTask, f_branchTask, f_updateTask, f_storeTask, f_slotAbsent, f_slotDelayed, f_slotReady, f_functionCount, f_nodeLimit, f_depthLimit, f_draftOpen, f_draftFor, f_draftNodes, f_draftCalls, f_treeCount, f_analysed, f_recordValue, f_recordThunks, f_recordNeeds, f_taskTop, f_valueTop, f_frameCount, f_failed, f_thunkCount, f_demanded, a_declared, a_arity, a_size, a_kindAt, a_datumAt, a_childAt, a_treeRoot, a_treeHeight, a_tables, a_marks, a_cellDefined, a_cellValue, a_eager, a_taskKind, a_taskSubject, a_taskFrame, a_valueStack, a_frameDepth, a_slotState, a_slotValue, a_slotNode, a_slotFrame) (g_functionLimit, g_nodeLimit, g_depthLimit, g_draftFor, g_draftSize, g_analysed, g_level, g_runMode, g_runDepth, g_lastSet, g_hasValue, g_recordValue, g_recordCount, g_recordSet, b_arity, b_bodySize, b_bodyKind, b_bodyData, b_draftKind, b_draftData, b_heights, b_truth, b_next, b_marks, b_cellDefined, b_cellValue, b_levelFunction, b_levelAt, b_levelTop, b_def, b_val, b_need, b_count) := fun _ => zz_in hR
  obtain ⟨F, NL, DL, dc, ar, sz, hL, hP, hD, hA, hK, hV⟩ := hR
  unfold wpX_close wpY_close
  rcases hD.2 with ⟨z1, z2⟩ | ⟨df, m, ⟨d1, d2, d3⟩, d4, d5, d6, d7, d8, d9, d10, d11, d12, d13⟩
  · exact br_t z1 (br_f (by rw [z2]; decide) ⟨rfl, hI _⟩)
  have hNL := hL.1.2.2.2.1
  have ht8 := B_8 d12 m (Nat.le_refl _)
  have hf : 0 ≤ g_draftFor := by rw [d6]; exact nI_pos' (by omega)
  refine br_f (by rw [d4]; decide) ?_
  by_cases c1 : sk_l (q_o a_kindAt a_datumAt ar 64) m = 1
  · have m1 : 1 ≤ m := by
      rcases Nat.eq_zero_or_pos m with z | z
      · rw [z] at c1
        have : sk_l (q_o a_kindAt a_datumAt ar 64) 0 = 0 := rfl
        omega
      · exact z
    refine br_t (by rw [d10, c1]; rfl) (xw_ins d1 (by omega) d5 d7 ?_)
    refine br_t hf (yw_dt (dc := dc) d8 (by omega) hD.1 d12 (fun h hh hd => (((hP.2.1 h hh).1 hd).2.2).2) (fun b_heights hh => ?_))
    refine br_t (by rw [c1]; rfl) ⟨m + 1, ?_⟩
    rw [d6, d8]
    have L := yw_cl2 (R := fun r' v' => r' = 0 ∧ i_Rel (k + 4) (f_literalKind, f_paramKind, f_callKind, f_evalTask, f_applyTask, f_branchTask, f_updateTask, f_storeTask, f_slotAbsent, f_slotDelayed, f_slotReady, f_functionCount, f_nodeLimit, f_depthLimit, 0, f_draftFor, f_draftNodes, f_draftCalls, f_treeCount, 0, f_recordValue, f_recordThunks, f_recordNeeds, f_taskTop, f_valueTop, f_frameCount, f_failed, f_thunkCount, f_demanded, a_declared, a_arity, (upd a_size df (nI m)), (cp_k a_kindAt (16 * df) m), (cp_k a_datumAt (16 * df) m), (cp_c a_childAt (16 * df) (3 * m)), a_treeRoot, a_treeHeight, a_tables, a_marks, a_cellDefined, a_cellValue, a_eager, a_taskKind, a_taskSubject, a_taskFrame, a_valueStack, a_frameDepth, a_slotState, a_slotValue, a_slotNode, a_slotFrame) v') (g_functionLimit := g_functionLimit) (g_nodeLimit := g_nodeLimit) (g_depthLimit := g_depthLimit) (g_analysed := g_analysed) (g_level := g_level) (g_runMode := g_runMode) (g_runDepth := g_runDepth) (g_lastSet := g_lastSet) (g_hasValue := g_hasValue) (g_recordValue := g_recordValue) (g_recordCount := g_recordCount) (g_recordSet := g_recordSet) (b_arity := b_arity) (b_bodySize := b_bodySize) (b_draftKind := b_draftKind) (b_draftData := b_draftData) (b_heights := b_heights) (b_truth := b_truth) (b_next := b_next) (b_marks := b_marks) (b_cellDefined := b_cellDefined) (b_cellValue := b_cellValue) (b_levelFunction := b_levelFunction) (b_levelAt := b_levelAt) (b_levelTop := b_levelTop) (b_def := b_def) (b_val := b_val) (b_need := b_need) (b_count := b_count) (bk := b_bodyKind) (bd := b_bodyData) d1 (show m ≤ 16 by omega) ⟨rfl, ?_⟩ m 0 (by omega)
    · rw [cp_y0, cp_y0] at L
      exact L
    · obtain ⟨P1, P2, P3, P4, P5⟩ := hP
      have hdc : ∀ h, h < 4 → dc h = true → dc h = true ∧ ar h = ar h := fun h _ z => ⟨z, rfl⟩
      have hk1 : ∀ src : Nat → Int32, ∀ p, p < m → cp_k src (16 * df) m (16 * df + p) = src (64 + p) := fun src p hp => by
        unfold cp_k
        rw [if_pos (by omega)]
        exact congrArg src (by omega)
      have hk2 : ∀ src : Nat → Int32, ∀ j, ¬ (16 * df ≤ j ∧ j < 16 * df + m) → cp_k src (16 * df) m j = src j := fun src j hj => if_neg hj
      refine zz_in ⟨F, NL, DL, dc, ar, fu_u sz df m, hL, ⟨P1, fun h hh => ?_, fun h hh => ?_, fun j hj => ?_, fun g hg => ?_⟩, ⟨fun p hp => ?_, Or.inl ⟨rfl, rfl⟩⟩, ⟨rfl, Or.inl rfl⟩, hK, hV⟩
      · obtain ⟨y1, y2⟩ := P2 h hh
        refine ⟨y1, fun z => ?_⟩
        have e : h ≠ df := fun e => by rw [e, d2] at z; exact absurd z (by decide)
        rw [fu_n e]
        exact y2 z
      · by_cases e : h = df
        · subst e
          rw [fu_s]
          exact ⟨pk_us, pk_us, by omega⟩
        · rw [fu_n e, pk_un e, pk_un e]
          exact P3 h hh
      · unfold cp_y cp_k
        by_cases e : 16 * df ≤ j ∧ j < 16 * df + m
        · rw [if_pos e, if_pos e, if_pos e, if_pos e]
          exact hD.1 _ (by omega)
        · rw [if_neg e, if_neg e, if_neg e, if_neg e]
          exact P4 j hj
      · by_cases e : g = df
        · subst e
          rw [fu_s]
          obtain ⟨T1, T2⟩ := tr_B (kd' := cp_k a_kindAt (16 * g) m) (dt' := cp_k a_datumAt (16 * g) m) (b' := 16 * g) (fun p hp => ⟨hk1 _ p hp, hk1 _ p hp⟩) hdc d12
          refine ⟨T1, fun _ => by rw [sk_l_c m T2]; exact c1, tr_C T2 (fun p hp i hi c z => ?_) d13⟩
          have o3 := on_3 (kd := a_kindAt) (dt := a_datumAt) P1 (64 + p)
          have eo : q_o a_kindAt a_datumAt ar 64 p = q_on a_kindAt a_datumAt ar (64 + p) := rfl
          unfold cp_c
          rw [if_pos (by omega)]
          have ei : 192 + (3 * (16 * g + p) + i - 3 * (16 * g)) = 3 * (64 + p) + i := by omega
          rw [ei, z, nI_add]
          exact congrArg nI (by omega)
        · rw [fu_n e]
          obtain ⟨B1, B2, B3⟩ := P5 g hg
          have hs := (P3 g hg).2.2
          obtain ⟨T1, T2⟩ := tr_B (kd' := cp_k a_kindAt (16 * df) m) (dt' := cp_k a_datumAt (16 * df) m) (b' := 16 * g) (fun p hp => ⟨hk2 _ _ (by omega), hk2 _ _ (by omega)⟩) hdc B1
          refine ⟨T1, fun z => by rw [sk_l_c (sz g) T2]; exact B2 z, tr_C T2 (fun p hp i hi c z => ?_) B3⟩
          have o3 := on_3 (kd := a_kindAt) (dt := a_datumAt) P1 (16 * g + p)
          have eo : q_o a_kindAt a_datumAt ar (16 * g) p = q_on a_kindAt a_datumAt ar (16 * g + p) := rfl
          unfold cp_c
          rw [if_neg (by omega)]
          exact z
      · rw [hk2 _ _ (by omega), hk2 _ _ (by omega)]
        exact hD.1 p hp
  · refine br_f (by rw [d10]; exact fun z => c1 ((nI_eq (a := sk_l (q_o a_kindAt a_datumAt ar 64) m) (b := 1) (by omega) (by omega)).mp z)) ?_
    refine br_t hf (yw_dt (dc := dc) d8 (by omega) hD.1 d12 (fun h hh hd => (((hP.2.1 h hh).1 hd).2.2).2) (fun b_heights hh => ?_))
    exact br_f (fun z => c1 ((nI_eq (a := sk_l (q_o a_kindAt a_datumAt ar 64) m) (b := 1) (by omega) (by omega)).mp z)) ⟨rfl, hI _⟩
end
section
/-! X's marks: a node's mark is its truth for all b at once -/
def rm_M (full : Int32) (c : Nat) (mk : Nat → Int32) : Nat → Int32
  | 0 => full
  | i + 1 => if c.testBit i = true then rm_M full c mk i &&& mk i else rm_M full c mk i &&& (mk i ^^^ (-1))
def cm_M (tab full : Int32) (mk : Nat → Int32) (n : Nat) : Nat → Int32
  | 0 => 0
  | c + 1 => if bt tab c = true then cm_M tab full mk n c ||| rm_M full c mk n else cm_M tab full mk n c
theorem rm_b {full : Int32} {c : Nat} {mk : Nat → Int32} {b : Nat} (hb : b < 32) : ∀ n, bt (rm_M full c mk n) b = true ↔ bt full b = true ∧ ∀ i, i < n → c.testBit i = bt (mk i) b := by
  intro n
  induction n with
  | zero => exact ⟨fun z => ⟨z, fun i hi => absurd hi (Nat.not_lt_zero _)⟩, fun z => z.1⟩
  | succ n ih =>
    show bt (if c.testBit n = true then rm_M full c mk n &&& mk n else rm_M full c mk n &&& (mk n ^^^ (-1))) b = true ↔ _
    have key : bt (if c.testBit n = true then rm_M full c mk n &&& mk n else rm_M full c mk n &&& (mk n ^^^ (-1))) b = true ↔ bt (rm_M full c mk n) b = true ∧ c.testBit n = bt (mk n) b := by
      cases hc : c.testBit n
      · rw [if_neg (by decide), b_and, b_xor, b_m1 b hb, Bool.and_eq_true]
        cases bt (mk n) b <;> simp
      · rw [if_pos rfl, b_and, Bool.and_eq_true]
        cases bt (mk n) b <;> simp
    rw [key, ih]
    constructor
    · rintro ⟨⟨z1, z2⟩, z3⟩
      refine ⟨z1, fun i hi => ?_⟩
      by_cases e : i = n
      · subst e; exact z3
      · exact z2 i (by omega)
    · rintro ⟨z1, z2⟩
      exact ⟨⟨z1, fun i hi => z2 i (by omega)⟩, z2 n (by omega)⟩
theorem cm_b {tab full : Int32} {mk : Nat → Int32} {n b : Nat} (hb : b < 32) : ∀ N, bt (cm_M tab full mk n N) b = true ↔ ∃ c, c < N ∧ bt tab c = true ∧ bt (rm_M full c mk n) b = true := by
  intro N
  induction N with
  | zero => exact ⟨fun z => by rw [show cm_M tab full mk n 0 = 0 from rfl, b_0] at z; exact ff_t z, fun ⟨c, hc, _⟩ => absurd hc (Nat.not_lt_zero _)⟩
  | succ N ih =>
    show bt (if bt tab N = true then cm_M tab full mk n N ||| rm_M full N mk n else cm_M tab full mk n N) b = true ↔ _
    by_cases ht : bt tab N = true
    · rw [if_pos ht, b_or, Bool.or_eq_true, ih]
      constructor
      · rintro (⟨c, hc, z⟩ | z)
        · exact ⟨c, by omega, z⟩
        · exact ⟨N, by omega, ht, z⟩
      · rintro ⟨c, hc, z⟩
        by_cases e : c = N
        · subst e; exact Or.inr z.2
        · exact Or.inl ⟨c, by omega, z⟩
    · rw [if_neg ht, ih]
      constructor
      · rintro ⟨c, hc, z⟩
        exact ⟨c, by omega, z⟩
      · rintro ⟨c, hc, z⟩
        by_cases e : c = N
        · subst e; exact absurd z.1 ht
        · exact ⟨c, by omega, z⟩
/-- a call's mark -/
theorem cm_v {tab full : Int32} {mk : Nat → Int32} {n b : Nat} {T : Nat → Bool} (hb : b < 32) (hn : n ≤ 3) (hT : ∀ c, c < 32 → bt tab c = T c) : bt (cm_M tab full mk n (2 ^ n)) b = (bt full b && T (m_ix (fun i => bt (mk i) b) n)) := by
  apply Bool.eq_iff_iff.mpr
  have h8 := pw_8 hn
  rw [cm_b hb, Bool.and_eq_true]
  constructor
  · rintro ⟨c, hc, z1, z2⟩
    rw [rm_b hb] at z2
    rw [hT c (by omega), m_ix_u hc z2.2] at z1
    exact ⟨z2.1, z1⟩
  · rintro ⟨z1, z2⟩
    have hl := m_ix_lt (fun i => bt (mk i) b) n
    refine ⟨m_ix (fun i => bt (mk i) b) n, hl, by rw [hT _ (by omega)]; exact z2, ?_⟩
    rw [rm_b hb]
    exact ⟨z1, fun i hi => m_ix_b _ n i hi⟩
theorem pc_0 : ∀ b, b < 32 → bt 170 b = (decide (b < 8) && b.testBit 0) := by decide +kernel
theorem pc_1 : ∀ b, b < 32 → bt 204 b = (decide (b < 8) && b.testBit 1) := by decide +kernel
theorem pc_2 : ∀ b, b < 32 → bt 240 b = (decide (b < 8) && b.testBit 2) := by decide +kernel
section
variable {f_literalKind f_paramKind f_callKind f_evalTask f_applyTask f_branchTask f_updateTask f_storeTask f_slotAbsent f_slotDelayed f_slotReady f_functionCount f_nodeLimit f_depthLimit f_draftOpen f_draftFor f_draftNodes f_draftCalls f_treeCount f_analysed f_recordValue f_recordThunks f_recordNeeds f_taskTop f_valueTop f_frameCount f_failed f_thunkCount f_demanded : Int32} {a_declared a_arity a_size a_kindAt a_datumAt a_childAt a_treeRoot a_treeHeight a_tables a_marks a_cellDefined a_cellValue a_eager a_taskKind a_taskSubject a_taskFrame a_valueStack a_frameDepth a_slotState a_slotValue a_slotNode a_slotFrame : Nat → Int32}
theorem xw_rm {R : Int32 → Prop} {j n c : Nat} {full : Int32} {cn : Nat → Nat} (hj : j < 64) (hn : n ≤ 3) (hc : c < 8) (hch : ∀ i, i < n → a_childAt (3 * j + i) = nI (cn i) ∧ cn i < 64)
    (h : R (rm_M full c (fun i => a_marks (cn i)) n)) : ∀ w i, i + w = n → wX_rowsMatching_19 R (nI j) (nI c) (nI n) f_literalKind f_paramKind f_callKind f_evalTask f_applyTask f_branchTask f_updateTask f_storeTask f_slotAbsent f_slotDelayed f_slotReady f_functionCount f_nodeLimit f_depthLimit f_draftOpen f_draftFor f_draftNodes f_draftCalls f_treeCount f_analysed f_recordValue f_recordThunks f_recordNeeds f_taskTop f_valueTop f_frameCount f_failed f_thunkCount f_demanded a_declared a_arity a_size a_kindAt a_datumAt a_childAt a_treeRoot a_treeHeight a_tables a_marks a_cellDefined a_cellValue a_eager a_taskKind a_taskSubject a_taskFrame a_valueStack a_frameDepth a_slotState a_slotValue a_slotNode a_slotFrame (w + 1) (rm_M full c (fun i => a_marks (cn i)) i) (nI i) := by
  intro w
  induction w with
  | zero =>
    intro i hi
    have : i = n := by omega
    subst this
    exact br_t (nI_le (Nat.le_refl _) (by omega)) h
  | succ w ih =>
    intro i hi
    have ih' := ih (i + 1) (by omega)
    have t1 : rm_M full c (fun i => a_marks (cn i)) (i + 1) = if c.testBit i = true then rm_M full c (fun i => a_marks (cn i)) i &&& a_marks (cn i) else rm_M full c (fun i => a_marks (cn i)) i &&& (a_marks (cn i) ^^^ (-1)) := rfl
    rw [t1] at ih'
    have e1 : nI j * 3 + nI i = nI (3 * j + i) := by rw [sa_m3, nI_add]
    obtain ⟨c1, c2⟩ := hch i (by omega)
    refine br_f (nI_ge (by omega) (by omega)) ⟨by rw [e1]; exact vp_in_nI (by omega) (by omega), ?_⟩
    rw [e1, nI_clamp (by omega), c1, nI_clamp (by omega)]
    refine ⟨vp_in_nI c2 (by omega), nm_e ?_⟩
    cases ec : c.testBit i
    · rw [ec, if_neg (by decide)] at ih'
      refine br_t ?_ (nm_e (nm_r (nI_1 i) ih'))
      rw [sa_bz _ (by omega), sa_btn (by omega), ec]
    · rw [ec, if_pos rfl] at ih'
      refine br_f ?_ (nm_e (nm_r (nI_1 i) ih'))
      rw [sa_bz _ (by omega), sa_btn (by omega), ec]
      decide
theorem xw_cm {R : Int32 → Prop} {j n h : Nat} {full : Int32} {cn : Nat → Nat} (hj : j < 64) (hh : h < 4) (hn : n ≤ 3) (hd : a_datumAt j = nI h) (har : a_arity h = nI n) (hch : ∀ i, i < n → a_childAt (3 * j + i) = nI (cn i) ∧ cn i < 64)
    (hR : R (cm_M (a_tables h) full (fun i => a_marks (cn i)) n (2 ^ n))) : ∀ w c, c + w = 2 ^ n → wX_callMark_23 R (nI j) full (nI h) (nI (2 ^ n)) f_literalKind f_paramKind f_callKind f_evalTask f_applyTask f_branchTask f_updateTask f_storeTask f_slotAbsent f_slotDelayed f_slotReady f_functionCount f_nodeLimit f_depthLimit f_draftOpen f_draftFor f_draftNodes f_draftCalls f_treeCount f_analysed f_recordValue f_recordThunks f_recordNeeds f_taskTop f_valueTop f_frameCount f_failed f_thunkCount f_demanded a_declared a_arity a_size a_kindAt a_datumAt a_childAt a_treeRoot a_treeHeight a_tables a_marks a_cellDefined a_cellValue a_eager a_taskKind a_taskSubject a_taskFrame a_valueStack a_frameDepth a_slotState a_slotValue a_slotNode a_slotFrame (w + 1) (cm_M (a_tables h) full (fun i => a_marks (cn i)) n c) (nI c) := by
  have h8 := pw_8 hn
  have eh : (nI h).toNatClampNeg = h := nI_clamp (by omega)
  have ej : (nI j).toNatClampNeg = j := nI_clamp (by omega)
  intro w
  induction w with
  | zero =>
    intro c hc
    have : c = 2 ^ n := by omega
    rw [← this] at hR ⊢
    exact br_t (nI_le (Nat.le_refl _) (by omega)) hR
  | succ w ih =>
    intro c hc
    have ih' := ih (c + 1) (by omega)
    have t1 : cm_M (a_tables h) full (fun i => a_marks (cn i)) n (c + 1) = if bt (a_tables h) c = true then cm_M (a_tables h) full (fun i => a_marks (cn i)) n c ||| rm_M full c (fun i => a_marks (cn i)) n else cm_M (a_tables h) full (fun i => a_marks (cn i)) n c := rfl
    rw [t1] at ih'
    refine br_f (nI_ge (by omega) (by omega)) ⟨vp_in_nI hh (by omega), ?_⟩
    rw [eh]
    cases ec : bt (a_tables h) c
    · rw [ec, if_neg (by decide)] at ih'
      exact br_t ((sa_bz _ (by omega)).mpr ec) (nm_r (nI_1 c) ih')
    · rw [ec, if_pos rfl] at ih'
      refine br_f (by rw [sa_bz _ (by omega), ec]; decide) ?_
      unfold wpX_rowsMatching
      refine ⟨vp_in_nI (by omega) (by omega), ?_⟩
      rw [ej, hd, eh, har]
      refine ⟨vp_in_nI hh (by omega), nm_e ⟨n + 1, ?_⟩⟩
      exact xw_rm (full := full) (c := c) hj hn (by omega) hch (nm_e (nm_r (nI_1 c) ih')) n 0 (by omega)
theorem xw_nm {R : Int32 → Prop} {ar sz : Nat → Nat} {T : Nat → Nat → Bool} {g p : Nat} {full : Int32} (hp : pg_ok a_kindAt a_datumAt ar sz) (hg : g < 4) (hp2 : p < sz g) (har : ∀ h, h < 4 → a_arity h = nI (ar h))
    (hC : rl_C a_kindAt a_datumAt ar a_childAt (16 * g) (sz g) (16 * g)) (hf : ∀ b, b < 32 → bt full b = decide (b < 2 ^ ar g)) (hT : ∀ h, h < 4 → ∀ c, c < 32 → bt (a_tables h) c = T h c)
    (hm : ∀ q, q < p → ∀ b, b < 32 → bt (a_marks (16 * g + q)) b = (decide (b < 2 ^ ar g) && m_v a_kindAt a_datumAt ar T g b q))
    (h : ∀ x, (∀ b, b < 32 → bt x b = (decide (b < 2 ^ ar g) && m_v a_kindAt a_datumAt ar T g b p)) → R x) : wpX_nodeMark R (f_literalKind, f_paramKind, f_callKind, f_evalTask, f_applyTask, f_branchTask, f_updateTask, f_storeTask, f_slotAbsent, f_slotDelayed, f_slotReady, f_functionCount, f_nodeLimit, f_depthLimit, f_draftOpen, f_draftFor, f_draftNodes, f_draftCalls, f_treeCount, f_analysed, f_recordValue, f_recordThunks, f_recordNeeds, f_taskTop, f_valueTop, f_frameCount, f_failed, f_thunkCount, f_demanded, a_declared, a_arity, a_size, a_kindAt, a_datumAt, a_childAt, a_treeRoot, a_treeHeight, a_tables, a_marks, a_cellDefined, a_cellValue, a_eager, a_taskKind, a_taskSubject, a_taskFrame, a_valueStack, a_frameDepth, a_slotState, a_slotValue, a_slotNode, a_slotFrame) (nI (16 * g + p)) full := by
  unfold wpX_nodeMark
  obtain ⟨z16, znd, zok, zl, zc⟩ := hp.2 g hg (by omega)
  have hj : 16 * g + p < 64 := by omega
  have ej : (nI (16 * g + p)).toNatClampNeg = 16 * g + p := nI_clamp (by omega)
  have hv : vp_in (nI (16 * g + p)) 80 := vp_in_nI (by omega) (by omega)
  have clt : ∀ i, i < q_o a_kindAt a_datumAt ar (16 * g) p → sk_c (q_o a_kindAt a_datumAt ar (16 * g)) p i < p := fun i hi => ch_lt hp hg hp2 hi
  have hcc : ∀ i, i < q_o a_kindAt a_datumAt ar (16 * g) p → a_childAt (3 * (16 * g + p) + i) = nI (16 * g + sk_c (q_o a_kindAt a_datumAt ar (16 * g)) p i) ∧ 16 * g + sk_c (q_o a_kindAt a_datumAt ar (16 * g)) p i < 64 := fun i hi => ⟨hC p hp2 i hi, by have := clt i hi; omega⟩
  have hmc : ∀ i, i < q_o a_kindAt a_datumAt ar (16 * g) p → ∀ b, b < 32 → bt (a_marks (16 * g + sk_c (q_o a_kindAt a_datumAt ar (16 * g)) p i)) b = (decide (b < 2 ^ ar g) && m_v a_kindAt a_datumAt ar T g b (sk_c (q_o a_kindAt a_datumAt ar (16 * g)) p i)) := fun i hi => hm _ (clt i hi)
  have hveq : ∀ b, m_v a_kindAt a_datumAt ar T g b p = m_f a_kindAt a_datumAt ar T b (16 * g + p) (fun i => m_v a_kindAt a_datumAt ar T g b (sk_c (q_o a_kindAt a_datumAt ar (16 * g)) p i)) := fun b => m_v_eq hp hg hp2
  have on : q_o a_kindAt a_datumAt ar (16 * g) p = q_on a_kindAt a_datumAt ar (16 * g + p) := rfl
  rw [on] at hcc hmc
  generalize sk_c (q_o a_kindAt a_datumAt ar (16 * g)) p = ch at *
  have h8g := pw_8 (hp.1 g)
  refine ⟨hv, nm_r (e' := a_kindAt (16 * g + p)) (by rw [ej]) ?_⟩
  by_cases k8 : a_kindAt (16 * g + p) = 8
  · refine br_t k8 (h _ (fun b hb => ?_))
    rw [hveq, hf b hb]
    unfold m_f
    rw [if_pos k8, Bool.and_true]
  refine br_f k8 ?_
  by_cases k9 : a_kindAt (16 * g + p) = 9
  · obtain ⟨i, hi, hd⟩ := (znd p hp2).2.1 k9
    refine br_t k9 ⟨hv, ?_⟩
    rw [ej, hd]
    have fin : ∀ col : Int32, (∀ b, b < 32 → bt col b = (decide (b < 8) && b.testBit i)) → R (col &&& full) := by
      intro col hcol
      refine h _ (fun b hb => ?_)
      rw [b_and, hcol b hb, hf b hb, hveq]
      unfold m_f
      rw [if_neg k8, if_pos k9, hd, nI_clamp (by have := hp.1 g; omega)]
      by_cases hb2 : b < 2 ^ ar g
      · rw [decide_eq_true hb2, decide_eq_true (show b < 8 by omega), Bool.and_true, Bool.true_and]
      · rw [decide_eq_false hb2, Bool.and_false, Bool.false_and]
    unfold wpX_parameterColumn
    have := hp.1 g
    by_cases i0 : i = 0
    · subst i0; exact br_t rfl (fin _ pc_0)
    refine br_f (nI_ne0 (by omega) (by omega)) ?_
    by_cases i1 : i = 1
    · subst i1; exact br_t rfl (fin _ pc_1)
    have i2 : i = 2 := by omega
    subst i2
    exact br_f (by decide) (fin _ pc_2)
  refine br_f k9 ?_
  by_cases k0 : a_kindAt (16 * g + p) = 0
  · refine br_t k0 (h _ (fun b hb => ?_))
    rw [hveq, b_0]
    unfold m_f
    rw [if_neg k8, if_neg k9, if_neg (by rw [k0]; decide), if_neg (by rw [k0]; decide), if_pos k0, Bool.and_false]
  refine br_f k0 ?_
  unfold q_on at hcc hmc
  rw [if_neg k0, if_neg k8, if_neg k9] at hcc hmc
  by_cases k10 : a_kindAt (16 * g + p) = 10
  · obtain ⟨hh, hh4, hd⟩ := (znd p hp2).2.2 k10
    have eh : (nI hh).toNatClampNeg = hh := nI_clamp (by omega)
    rw [if_pos k10, hd, eh] at hcc hmc
    have hn := hp.1 hh
    refine br_t k10 ?_
    unfold wpX_callMark
    refine ⟨hv, nm_r (e' := nI hh) (by rw [ej, hd]) ⟨vp_in_nI hh4 (by omega), nm_r (e' := nI (2 ^ ar hh)) (by rw [eh, har hh hh4, sa_s1 _ (by omega)]) ⟨2 ^ ar hh + 1, ?_⟩⟩⟩
    refine xw_cm (cn := fun i => 16 * g + ch i) hj hh4 hn hd (har hh hh4) hcc (h _ (fun b hb => ?_)) (2 ^ ar hh) 0 (by omega)
    rw [cm_v hb hn (hT hh hh4), hf b hb, hveq]
    unfold m_f
    rw [if_neg k8, if_neg k9, if_neg (by rw [k10]; decide), if_pos k10, hd, eh]
    by_cases hb2 : b < 2 ^ ar g
    · rw [decide_eq_true hb2, Bool.true_and, Bool.true_and]
      rw [m_ix_c (a' := fun i => m_v a_kindAt a_datumAt ar T g b (ch i)) (ar hh) (fun i hi => by rw [hmc i hi b hb, decide_eq_true hb2, Bool.true_and])]
    · rw [decide_eq_false hb2, Bool.false_and, Bool.false_and]
  refine br_f k10 ?_
  rw [if_neg k10] at hcc hmc
  have e0 : nI (16 * g + p) * 3 = nI (3 * (16 * g + p)) := sa_m3 _
  have h3 : (if a_kindAt (16 * g + p) = 7 then 3 else 2) = 2 ∨ (if a_kindAt (16 * g + p) = 7 then 3 else 2) = 3 := by
    by_cases k7 : a_kindAt (16 * g + p) = 7
    · rw [if_pos k7]; exact Or.inr rfl
    · rw [if_neg k7]; exact Or.inl rfl
  have hc0 := hcc 0 (by omega)
  have hc1 := hcc 1 (by omega)
  have hm0 := hmc 0 (by omega)
  have hm1 := hmc 1 (by omega)
  rw [Nat.add_zero] at hc0
  rw [e0, nI_1 (3 * (16 * g + p)), sa_c2 (3 * (16 * g + p)), nI_clamp (n := 3 * (16 * g + p)) (by omega), nI_clamp (n := 3 * (16 * g + p) + 1) (by omega), hc0.1, hc1.1, nI_clamp (n := 16 * g + ch 0) (by omega), nI_clamp (n := 16 * g + ch 1) (by omega)]
  refine ⟨vp_in_nI (by omega) (by omega), vp_in_nI hc0.2 (by omega), nm_e ⟨vp_in_nI (by omega) (by omega), vp_in_nI hc1.2 (by omega), nm_e ?_⟩⟩
  by_cases k7 : a_kindAt (16 * g + p) = 7
  · rw [if_pos k7] at hcc hmc
    have hc2 := hcc 2 (by omega)
    have hm2 := hmc 2 (by omega)
    refine br_t k7 ?_
    rw [nI_clamp (n := 3 * (16 * g + p) + 2) (by omega), hc2.1, nI_clamp (n := 16 * g + ch 2) (by omega)]
    refine ⟨vp_in_nI (by omega) (by omega), vp_in_nI hc2.2 (by omega), h _ (fun b hb => ?_)⟩
    rw [b_and, b_or, hm0 b hb, hm1 b hb, hm2 b hb, hveq]
    unfold m_f
    rw [if_neg k8, if_neg k9, if_pos k7]
    cases decide (b < 2 ^ ar g) <;> simp
  · refine br_f k7 (h _ (fun b hb => ?_))
    rw [b_and, hm0 b hb, hm1 b hb, hveq]
    unfold m_f
    rw [if_neg k8, if_neg k9, if_neg k7, if_neg k10, if_neg k0]
    cases decide (b < 2 ^ ar g) <;> simp
end
end
section
/-! X's analysis reaches the reference's table -/
theorem P_ok {F : Nat} {dc : Nat → Bool} {ar sz : Nat → Nat} {a_declared a_arity a_size a_kindAt a_datumAt a_childAt b_arity b_bodySize b_bodyKind b_bodyData : Nat → Int32} (hP : rl_P F dc ar sz a_declared a_arity a_size a_kindAt a_datumAt a_childAt b_arity b_bodySize b_bodyKind b_bodyData) : pg_ok a_kindAt a_datumAt ar sz :=
  ⟨hP.1, fun g hg hs => ⟨(hP.2.2.1 g hg).2.2, fun p hp => ((hP.2.2.2.2 g hg).1.1 p hp).1, B_ok (hP.2.2.2.2 g hg).1, (hP.2.2.2.2 g hg).2.1 hs, (hP.2.2.2.2 g hg).1.2.2⟩⟩
theorem P_ar {F : Nat} {dc : Nat → Bool} {ar sz : Nat → Nat} {a_declared a_arity a_size a_kindAt a_datumAt a_childAt b_arity b_bodySize b_bodyKind b_bodyData : Nat → Int32} (hP : rl_P F dc ar sz a_declared a_arity a_size a_kindAt a_datumAt a_childAt b_arity b_bodySize b_bodyKind b_bodyData) : ∀ h, h < 4 → a_arity h = nI (ar h) := by
  intro h hh
  cases hd : dc h
  · obtain ⟨q1, q2, q3, q4, q5⟩ := (hP.2.1 h hh).2 hd
    rw [q4, q1]; rfl
  · exact ((hP.2.1 h hh).1 hd).2.2.1
section
variable {f_literalKind f_paramKind f_callKind f_evalTask f_applyTask f_branchTask f_updateTask f_storeTask f_slotAbsent f_slotDelayed f_slotReady f_functionCount f_nodeLimit f_depthLimit f_draftOpen f_draftFor f_draftNodes f_draftCalls f_treeCount f_analysed f_recordValue f_recordThunks f_recordNeeds f_taskTop f_valueTop f_frameCount f_failed f_thunkCount f_demanded : Int32} {a_declared a_arity a_size a_kindAt a_datumAt a_childAt a_treeRoot a_treeHeight a_tables a_marks a_cellDefined a_cellValue a_eager a_taskKind a_taskSubject a_taskFrame a_valueStack a_frameDepth a_slotState a_slotValue a_slotNode a_slotFrame : Nat → Int32}
/-- X's table stands for T -/
def xt_T (a_tables : Nat → Int32) (T : Nat → Nat → Bool) : Prop := ∀ h, h < 4 → ∀ c, c < 32 → bt (a_tables h) c = T h c
theorem xw_bl {R : Int32 → SX → Prop} {ar sz : Nat → Nat} {T : Nat → Nat → Bool} {g : Nat} {full : Int32} (hp : pg_ok a_kindAt a_datumAt ar sz) (hg : g < 4) (hs : 0 < sz g) (har : ∀ h, h < 4 → a_arity h = nI (ar h)) (hsz : a_size g = nI (sz g))
    (hC : rl_C a_kindAt a_datumAt ar a_childAt (16 * g) (sz g) (16 * g)) (hf : ∀ b, b < 32 → bt full b = decide (b < 2 ^ ar g)) (hT : xt_T a_tables T)
    (h : ∀ x a_marks, (∀ b, b < 32 → bt x b = (decide (b < 2 ^ ar g) && m_v a_kindAt a_datumAt ar T g b (sz g - 1))) → R x (f_literalKind, f_paramKind, f_callKind, f_evalTask, f_applyTask, f_branchTask, f_updateTask, f_storeTask, f_slotAbsent, f_slotDelayed, f_slotReady, f_functionCount, f_nodeLimit, f_depthLimit, f_draftOpen, f_draftFor, f_draftNodes, f_draftCalls, f_treeCount, f_analysed, f_recordValue, f_recordThunks, f_recordNeeds, f_taskTop, f_valueTop, f_frameCount, f_failed, f_thunkCount, f_demanded, a_declared, a_arity, a_size, a_kindAt, a_datumAt, a_childAt, a_treeRoot, a_treeHeight, a_tables, a_marks, a_cellDefined, a_cellValue, a_eager, a_taskKind, a_taskSubject, a_taskFrame, a_valueStack, a_frameDepth, a_slotState, a_slotValue, a_slotNode, a_slotFrame)) :
    ∀ w p, p + w = sz g → ∀ (a_marks : Nat → Int32) (l : Int32), (∀ q, q < p → ∀ b, b < 32 → bt (a_marks (16 * g + q)) b = (decide (b < 2 ^ ar g) && m_v a_kindAt a_datumAt ar T g b q)) → (0 < p → ∀ b, b < 32 → bt l b = (decide (b < 2 ^ ar g) && m_v a_kindAt a_datumAt ar T g b (p - 1))) →
      wX_bodyMark_24 R (nI g) full (nI (16 * g)) f_literalKind f_paramKind f_callKind f_evalTask f_applyTask f_branchTask f_updateTask f_storeTask f_slotAbsent f_slotDelayed f_slotReady f_functionCount f_nodeLimit f_depthLimit f_draftOpen f_draftFor f_draftNodes f_draftCalls f_treeCount f_analysed f_recordValue f_recordThunks f_recordNeeds f_taskTop f_valueTop f_frameCount f_failed f_thunkCount f_demanded (w + 1) l (nI p) a_declared a_arity a_size a_kindAt a_datumAt a_childAt a_treeRoot a_treeHeight a_tables a_marks a_cellDefined a_cellValue a_eager a_taskKind a_taskSubject a_taskFrame a_valueStack a_frameDepth a_slotState a_slotValue a_slotNode a_slotFrame := by
  obtain ⟨z16, znd, zok, zl, zc⟩ := hp.2 g hg hs
  have eg : (nI g).toNatClampNeg = g := nI_clamp (by omega)
  have hv : vp_in (nI g) 4 := vp_in_nI hg (by omega)
  intro w
  induction w with
  | zero =>
    intro p hpw a_marks l hm hl
    have : p = sz g := by omega
    subst this
    exact ⟨hv, br_t (by rw [eg, hsz]; exact nI_le (Nat.le_refl _) (by omega)) (h l a_marks (hl hs))⟩
  | succ w ih =>
    intro p hpw a_marks l hm hl
    refine ⟨hv, br_f (by rw [eg, hsz]; exact nI_ge (by omega) (by omega)) ?_⟩
    rw [nI_add]
    refine xw_nm hp hg (by omega) har hC hf hT hm (fun x hx => ⟨vp_in_nI (by omega) (by omega), ?_⟩)
    rw [nI_clamp (by omega)]
    refine nm_e (nm_r (nI_1 p) (ih (p + 1) (by omega) _ x (fun q hq b hb => ?_) (fun _ => hx)))
    by_cases e : q = p
    · subst e; rw [pk_us]; exact hx b hb
    · rw [pk_un (by omega)]; exact hm q (by omega) b hb
theorem xw_bm {R : Int32 → SX → Prop} {ar sz : Nat → Nat} {T : Nat → Nat → Bool} {g : Nat} (hp : pg_ok a_kindAt a_datumAt ar sz) (hg : g < 4) (hs : 0 < sz g) (har : ∀ h, h < 4 → a_arity h = nI (ar h)) (hsz : a_size g = nI (sz g))
    (hC : rl_C a_kindAt a_datumAt ar a_childAt (16 * g) (sz g) (16 * g)) (hT : xt_T a_tables T)
    (h : ∀ x a_marks, (∀ b, b < 32 → bt x b = m_F a_kindAt a_datumAt ar sz T g b) → R x (f_literalKind, f_paramKind, f_callKind, f_evalTask, f_applyTask, f_branchTask, f_updateTask, f_storeTask, f_slotAbsent, f_slotDelayed, f_slotReady, f_functionCount, f_nodeLimit, f_depthLimit, f_draftOpen, f_draftFor, f_draftNodes, f_draftCalls, f_treeCount, f_analysed, f_recordValue, f_recordThunks, f_recordNeeds, f_taskTop, f_valueTop, f_frameCount, f_failed, f_thunkCount, f_demanded, a_declared, a_arity, a_size, a_kindAt, a_datumAt, a_childAt, a_treeRoot, a_treeHeight, a_tables, a_marks, a_cellDefined, a_cellValue, a_eager, a_taskKind, a_taskSubject, a_taskFrame, a_valueStack, a_frameDepth, a_slotState, a_slotValue, a_slotNode, a_slotFrame)) : wpX_bodyMark R (f_literalKind, f_paramKind, f_callKind, f_evalTask, f_applyTask, f_branchTask, f_updateTask, f_storeTask, f_slotAbsent, f_slotDelayed, f_slotReady, f_functionCount, f_nodeLimit, f_depthLimit, f_draftOpen, f_draftFor, f_draftNodes, f_draftCalls, f_treeCount, f_analysed, f_recordValue, f_recordThunks, f_recordNeeds, f_taskTop, f_valueTop, f_frameCount, f_failed, f_thunkCount, f_demanded, a_declared, a_arity, a_size, a_kindAt, a_datumAt, a_childAt, a_treeRoot, a_treeHeight, a_tables, a_marks, a_cellDefined, a_cellValue, a_eager, a_taskKind, a_taskSubject, a_taskFrame, a_valueStack, a_frameDepth, a_slotState, a_slotValue, a_slotNode, a_slotFrame) (nI g) := by
  unfold wpX_bodyMark
  have eg : (nI g).toNatClampNeg = g := nI_clamp (by omega)
  have h8 := pw_8 (hp.1 g)
  have hn := hp.1 g
  have h1 : 1 ≤ 2 ^ (2 ^ ar g) := Nat.one_le_two_pow
  refine ⟨vp_in_nI hg (by omega), nm_r (e' := nI (2 ^ (2 ^ ar g) - 1)) (by rw [eg, har g hg, sa_s1 _ (by omega), sa_s1 _ (by omega), sa_s (by omega)]) (nm_r (sa_m16 g) ⟨sz g + 1, ?_⟩)⟩
  refine xw_bl hp hg hs har hsz hC (fun b hb => ?_) hT (fun x a_marks hx => h x a_marks (fun b hb => ?_)) (sz g) 0 (by omega) a_marks 0 (fun q hq => absurd hq (Nat.not_lt_zero _)) (fun z => absurd z (Nat.lt_irrefl _))
  · rw [sa_btn hb, Nat.testBit_two_pow_sub_one]
  · rw [hx b hb]
    unfold m_F
    rw [decide_eq_true hg, decide_eq_true hs, Bool.true_and, Bool.true_and]
end
/-- one round's progress: from Ts, at function g, changed or not -/
def xi_I (kd dt : Nat → Int32) (ar sz : Nat → Nat) (Ts T : Nat → Nat → Bool) (ch : Bool) (g : Nat) : Prop :=
  m_X kd dt ar sz T ∧ m_le Ts T ∧ (ch = false → T = Ts ∧ ∀ h, h < g → ∀ b, m_F kd dt ar sz Ts h b = true → Ts h b = true) ∧ (ch = true → m_cn Ts < m_cn T)
theorem F_big {kd dt : Nat → Int32} {ar sz : Nat → Nat} {T : Nat → Nat → Bool} {g b : Nat} (ha : ar g ≤ 3) (hb : 8 ≤ b) : m_F kd dt ar sz T g b = false := by
  cases e : m_F kd dt ar sz T g b
  · rfl
  · have := (m_F_i.mp e).2.1
    have := pw_8 ha
    omega
theorem xi_0 {kd dt : Nat → Int32} {ar sz : Nat → Nat} {T : Nat → Nat → Bool} (h : m_X kd dt ar sz T) : xi_I kd dt ar sz T T false 0 :=
  ⟨h, fun _ _ z => z, fun _ => ⟨rfl, fun _ hh => absurd hh (Nat.not_lt_zero _)⟩, fun z => ff_t z⟩
theorem xi_e {kd dt : Nat → Int32} {ar sz : Nat → Nat} {Ts T : Nat → Nat → Bool} {ch : Bool} {g : Nat} (h : xi_I kd dt ar sz Ts T ch g) (hs : sz g = 0) : xi_I kd dt ar sz Ts T ch (g + 1) := by
  obtain ⟨h1, h2, h3, h4⟩ := h
  refine ⟨h1, h2, fun z => ⟨(h3 z).1, fun k hk b y => ?_⟩, h4⟩
  by_cases e : k = g
  · subst e
    have := (m_F_i.mp y).2.2.1
    omega
  · exact (h3 z).2 k (by omega) b y
theorem xi_s {kd dt : Nat → Int32} {ar sz : Nat → Nat} {Ts T : Nat → Nat → Bool} {ch : Bool} {g : Nat} (hp : pg_ok kd dt ar sz) (h : xi_I kd dt ar sz Ts T ch g) (ch' : Bool) (hg : g < 4)
    (hc : ch' = false → ch = false ∧ ∀ b, b < 8 → m_F kd dt ar sz T g b = T g b) (hc' : ch' = true → ch = true ∨ ∃ b, b < 8 ∧ m_F kd dt ar sz T g b ≠ T g b) : xi_I kd dt ar sz Ts (m_up T g (m_F kd dt ar sz T g)) ch' (g + 1) := by
  obtain ⟨h1, h2, h3, h4⟩ := h
  have hle := m_up_le h1 g
  refine ⟨m_up_X hp h1 g, fun k c z => hle k c (h2 k c z), fun z => ?_, fun z => ?_⟩
  · obtain ⟨y1, y2⟩ := hc z
    obtain ⟨y3, y4⟩ := h3 y1
    have e : m_up T g (m_F kd dt ar sz T g) = T := by
      funext k b
      unfold m_up
      by_cases ek : k = g
      · subst ek
        rw [if_pos rfl]
        by_cases hb : b < 8
        · exact y2 b hb
        · have f0 := F_big (kd := kd) (dt := dt) (sz := sz) (T := T) (hp.1 k) (by omega : 8 ≤ b)
          rw [f0]
          cases et : T k b
          · rfl
          · have := h1.1 k b et
            rw [f0] at this
            exact ff_t this
      · rw [if_neg ek]
    refine ⟨e.trans y3, fun k hk b y => ?_⟩
    by_cases ek : k = g
    · subst ek
      rw [← y3] at y ⊢
      by_cases hb : b < 8
      · rw [← y2 b hb]; exact y
      · rw [F_big (hp.1 k) (by omega : 8 ≤ b)] at y; exact ff_t y
    · exact y4 k (by omega) b y
  · have hcn := m_cn_le hle
    rcases hc' z with y | ⟨b, hb, y⟩
    · have := h4 y
      omega
    · have := m_up_cn h1 hg hb y
      have := m_cn_le h2
      omega
section
variable {f_literalKind f_paramKind f_callKind f_evalTask f_applyTask f_branchTask f_updateTask f_storeTask f_slotAbsent f_slotDelayed f_slotReady f_functionCount f_nodeLimit f_depthLimit f_draftOpen f_draftFor f_draftNodes f_draftCalls f_treeCount f_analysed f_recordValue f_recordThunks f_recordNeeds f_taskTop f_valueTop f_frameCount f_failed f_thunkCount f_demanded : Int32} {a_declared a_arity a_size a_kindAt a_datumAt a_childAt a_treeRoot a_treeHeight a_tables a_marks a_cellDefined a_cellValue a_eager a_taskKind a_taskSubject a_taskFrame a_valueStack a_frameDepth a_slotState a_slotValue a_slotNode a_slotFrame : Nat → Int32}
theorem xw_it {R : Int32 → SX → Prop} {F : Nat} {ar sz : Nat → Nat} {Ts : Nat → Nat → Bool} (hF4 : F ≤ 4) (eF : f_functionCount = nI F) (hp : pg_ok a_kindAt a_datumAt ar sz) (har : ∀ h, h < 4 → a_arity h = nI (ar h)) (hsz : ∀ h, h < 4 → a_size h = nI (sz h) ∧ sz h ≤ 16)
    (hC : ∀ g, g < 4 → rl_C a_kindAt a_datumAt ar a_childAt (16 * g) (sz g) (16 * g))
    (h : ∀ (a_tables a_marks : Nat → Int32) (T : Nat → Nat → Bool) (ch : Bool), xt_T a_tables T → xi_I a_kindAt a_datumAt ar sz Ts T ch F → R (y_b ch) (f_literalKind, f_paramKind, f_callKind, f_evalTask, f_applyTask, f_branchTask, f_updateTask, f_storeTask, f_slotAbsent, f_slotDelayed, f_slotReady, f_functionCount, f_nodeLimit, f_depthLimit, f_draftOpen, f_draftFor, f_draftNodes, f_draftCalls, f_treeCount, f_analysed, f_recordValue, f_recordThunks, f_recordNeeds, f_taskTop, f_valueTop, f_frameCount, f_failed, f_thunkCount, f_demanded, a_declared, a_arity, a_size, a_kindAt, a_datumAt, a_childAt, a_treeRoot, a_treeHeight, a_tables, a_marks, a_cellDefined, a_cellValue, a_eager, a_taskKind, a_taskSubject, a_taskFrame, a_valueStack, a_frameDepth, a_slotState, a_slotValue, a_slotNode, a_slotFrame)) :
    ∀ w g, g + w = F → ∀ (a_tables a_marks : Nat → Int32) (T : Nat → Nat → Bool) (ch : Bool), xt_T a_tables T → xi_I a_kindAt a_datumAt ar sz Ts T ch g → wX_improveTables_4 R (w + 1) (y_b ch) (nI g) f_literalKind f_paramKind f_callKind f_evalTask f_applyTask f_branchTask f_updateTask f_storeTask f_slotAbsent f_slotDelayed f_slotReady f_functionCount f_nodeLimit f_depthLimit f_draftOpen f_draftFor f_draftNodes f_draftCalls f_treeCount f_analysed f_recordValue f_recordThunks f_recordNeeds f_taskTop f_valueTop f_frameCount f_failed f_thunkCount f_demanded a_declared a_arity a_size a_kindAt a_datumAt a_childAt a_treeRoot a_treeHeight a_tables a_marks a_cellDefined a_cellValue a_eager a_taskKind a_taskSubject a_taskFrame a_valueStack a_frameDepth a_slotState a_slotValue a_slotNode a_slotFrame := by
  intro w
  induction w with
  | zero =>
    intro g hg a_tables a_marks T ch hT hI
    have : g = F := by omega
    subst this
    refine br_t (by rw [eF]; exact nI_le (Nat.le_refl _) (by omega)) ⟨?_, h a_tables a_marks T ch hT hI⟩
    cases ch
    · rfl
    · rfl
  | succ w ih =>
    intro g hg a_tables a_marks T ch hT hI
    have eg : (nI g).toNatClampNeg = g := nI_clamp (by omega)
    have hv : vp_in (nI g) 4 := vp_in_nI (by omega) (by omega)
    obtain ⟨s1, s2⟩ := hsz g (by omega)
    refine br_f (by rw [eF]; exact nI_ge (by omega) (by omega)) ⟨hv, ?_⟩
    by_cases hs : sz g = 0
    · refine br_t (by rw [eg, s1, hs]; decide) (nm_r (nI_1 g) (ih (g + 1) (by omega) a_tables a_marks T ch hT (xi_e hI hs)))
    · refine br_f (by rw [eg, s1]; exact nI_nle (by omega) (by omega)) ?_
      refine xw_bm hp (by omega) (by omega) har s1 (hC g (by omega)) hT (fun x a_marks hx => ?_)
      have hT' : xt_T (upd a_tables g x) (m_up T g (m_F a_kindAt a_datumAt ar sz T g)) := by
        intro k hk c hc
        unfold m_up
        by_cases e : k = g
        · subst e; rw [pk_us, if_pos rfl]; exact hx c hc
        · rw [pk_un e, if_neg e]; exact hT k hk c hc
      have go46 : ∀ ch' : Bool, xi_I a_kindAt a_datumAt ar sz Ts (m_up T g (m_F a_kindAt a_datumAt ar sz T g)) ch' (g + 1) → wX_improveTables_46 R (wX_improveTables_4 R (w + 1)) (nI g) x (y_b ch') f_literalKind f_paramKind f_callKind f_evalTask f_applyTask f_branchTask f_updateTask f_storeTask f_slotAbsent f_slotDelayed f_slotReady f_functionCount f_nodeLimit f_depthLimit f_draftOpen f_draftFor f_draftNodes f_draftCalls f_treeCount f_analysed f_recordValue f_recordThunks f_recordNeeds f_taskTop f_valueTop f_frameCount f_failed f_thunkCount f_demanded a_declared a_arity a_size a_kindAt a_datumAt a_childAt a_treeRoot a_treeHeight a_tables a_marks a_cellDefined a_cellValue a_eager a_taskKind a_taskSubject a_taskFrame a_valueStack a_frameDepth a_slotState a_slotValue a_slotNode a_slotFrame := by
        intro ch' hI'
        unfold wX_improveTables_46
        exact ⟨hv, nm_r (e' := upd a_tables g x) (by rw [eg]) (nm_r (nI_1 g) (ih (g + 1) (by omega) _ a_marks _ ch' hT' hI'))⟩
      cases ech : ch
      · refine br_t rfl ⟨hv, ?_⟩
        rw [eg]
        by_cases ex : x = a_tables g
        · refine br_t ex (go46 false (xi_s hp hI false (by omega) (fun _ => ⟨ech, fun b hb => ?_⟩) (fun z => ff_t z)))
          rw [← hx b (by omega), ex, hT g (by omega) b (by omega)]
        · refine br_f ex ?_
          unfold wX_improveTables_41
          refine go46 true (xi_s hp hI true (by omega) (fun z => ff_t z.symm) (fun _ => Or.inr ?_))
          apply Classical.byContradiction
          intro hn
          apply ex
          apply b_ext
          intro b hb
          rw [hx b hb, hT g (by omega) b hb]
          by_cases hb8 : b < 8
          · exact Classical.byContradiction (fun z => hn ⟨b, hb8, z⟩)
          · have f0 := F_big (kd := a_kindAt) (dt := a_datumAt) (sz := sz) (T := T) (hp.1 g) (by omega : 8 ≤ b)
            rw [f0]
            cases et : T g b
            · rfl
            · have := hI.1.1 g b et
              rw [f0] at this
              exact ff_t this
      · refine br_f (by decide) ?_
        unfold wX_improveTables_41
        exact go46 true (xi_s hp hI true (by omega) (fun z => ff_t z.symm) (fun _ => Or.inl ech))
theorem xw_ar {R : Int32 → SX → Prop} {F : Nat} {ar sz : Nat → Nat} (hF4 : F ≤ 4) (eF : f_functionCount = nI F) (hp : pg_ok a_kindAt a_datumAt ar sz) (har : ∀ h, h < 4 → a_arity h = nI (ar h)) (hsz : ∀ h, h < 4 → a_size h = nI (sz h) ∧ sz h ≤ 16) (hFs : ∀ h, F ≤ h → h < 4 → sz h = 0)
    (hC : ∀ g, g < 4 → rl_C a_kindAt a_datumAt ar a_childAt (16 * g) (sz g) (16 * g))
    (h : ∀ a_tables a_marks : Nat → Int32, xt_T a_tables (m_J a_kindAt a_datumAt ar sz 33) → R 0 (f_literalKind, f_paramKind, f_callKind, f_evalTask, f_applyTask, f_branchTask, f_updateTask, f_storeTask, f_slotAbsent, f_slotDelayed, f_slotReady, f_functionCount, f_nodeLimit, f_depthLimit, f_draftOpen, f_draftFor, f_draftNodes, f_draftCalls, f_treeCount, 1, f_recordValue, f_recordThunks, f_recordNeeds, f_taskTop, f_valueTop, f_frameCount, f_failed, f_thunkCount, f_demanded, a_declared, a_arity, a_size, a_kindAt, a_datumAt, a_childAt, a_treeRoot, a_treeHeight, a_tables, a_marks, a_cellDefined, a_cellValue, a_eager, a_taskKind, a_taskSubject, a_taskFrame, a_valueStack, a_frameDepth, a_slotState, a_slotValue, a_slotNode, a_slotFrame)) :
    ∀ w r, r + w = 33 → ∀ (a_tables a_marks : Nat → Int32) (T : Nat → Nat → Bool) (ch : Bool), xt_T a_tables T → m_X a_kindAt a_datumAt ar sz T → (ch = true → r ≤ m_cn T) → (ch = false → m_le (m_F a_kindAt a_datumAt ar sz T) T) → wX_analyse_24 R (w + 1) (y_b ch) (nI r) f_literalKind f_paramKind f_callKind f_evalTask f_applyTask f_branchTask f_updateTask f_storeTask f_slotAbsent f_slotDelayed f_slotReady f_functionCount f_nodeLimit f_depthLimit f_draftOpen f_draftFor f_draftNodes f_draftCalls f_treeCount f_analysed f_recordValue f_recordThunks f_recordNeeds f_taskTop f_valueTop f_frameCount f_failed f_thunkCount f_demanded a_declared a_arity a_size a_kindAt a_datumAt a_childAt a_treeRoot a_treeHeight a_tables a_marks a_cellDefined a_cellValue a_eager a_taskKind a_taskSubject a_taskFrame a_valueStack a_frameDepth a_slotState a_slotValue a_slotNode a_slotFrame := by
  intro w
  induction w with
  | zero =>
    intro r hr a_tables a_marks T ch hT hX h1 h2
    have : r = 33 := by omega
    subst this
    refine br_t (by decide) (h a_tables a_marks ?_)
    have ech : ch = false := by
      cases e : ch
      · rfl
      · have := h1 e
        have := m_cn_32 T
        omega
    rw [← m_X_fix hp hX (h2 ech)]
    exact hT
  | succ w ih =>
    intro r hr a_tables a_marks T ch hT hX h1 h2
    refine br_f (nI_ge (b := 33) (by omega) (by decide)) ?_
    cases ech : ch
    · refine br_t rfl (h a_tables a_marks ?_)
      rw [← m_X_fix hp hX (h2 ech)]
      exact hT
    · refine br_f (by decide) ?_
      unfold wpX_improveTables
      refine ⟨F + 1, xw_it (Ts := T) hF4 eF hp har hsz hC (fun a_tables a_marks T' ch' hT' hI' => ?_) F 0 (by omega) a_tables a_marks T false hT (xi_0 hX)⟩
      obtain ⟨i1, i2, i3, i4⟩ := hI'
      refine nm_r (nI_1 r) (ih (r + 1) (by omega) a_tables a_marks T' ch' hT' i1 (fun z => ?_) (fun z => ?_))
      · have := h1 ech
        have := i4 z
        omega
      · obtain ⟨y1, y2⟩ := i3 z
        subst y1
        intro k b y
        have y3 := m_F_i.mp y
        by_cases hk : k < F
        · exact y2 k hk b y
        · have := hFs k (by omega) y3.1
          omega
theorem xw_al {R : Int32 → SX → Prop} (h : ∀ a_tables : Nat → Int32, (∀ k, k < 4 → a_tables k = 0) → ∃ n, wX_analyse_24 R n 1 0 f_literalKind f_paramKind f_callKind f_evalTask f_applyTask f_branchTask f_updateTask f_storeTask f_slotAbsent f_slotDelayed f_slotReady f_functionCount f_nodeLimit f_depthLimit f_draftOpen f_draftFor f_draftNodes f_draftCalls f_treeCount f_analysed f_recordValue f_recordThunks f_recordNeeds f_taskTop f_valueTop f_frameCount f_failed f_thunkCount f_demanded a_declared a_arity a_size a_kindAt a_datumAt a_childAt a_treeRoot a_treeHeight a_tables a_marks a_cellDefined a_cellValue a_eager a_taskKind a_taskSubject a_taskFrame a_valueStack a_frameDepth a_slotState a_slotValue a_slotNode a_slotFrame) :
    ∀ w i, i + w = 4 → ∀ a_tables : Nat → Int32, (∀ k, k < i → a_tables k = 0) → wX_analyse_2 R f_literalKind f_paramKind f_callKind f_evalTask f_applyTask f_branchTask f_updateTask f_storeTask f_slotAbsent f_slotDelayed f_slotReady f_functionCount f_nodeLimit f_depthLimit f_draftOpen f_draftFor f_draftNodes f_draftCalls f_treeCount f_analysed f_recordValue f_recordThunks f_recordNeeds f_taskTop f_valueTop f_frameCount f_failed f_thunkCount f_demanded (w + 1) (nI i) a_declared a_arity a_size a_kindAt a_datumAt a_childAt a_treeRoot a_treeHeight a_tables a_marks a_cellDefined a_cellValue a_eager a_taskKind a_taskSubject a_taskFrame a_valueStack a_frameDepth a_slotState a_slotValue a_slotNode a_slotFrame := by
  intro w
  induction w with
  | zero =>
    intro i hi a_tables hz
    have : i = 4 := by omega
    subst this
    exact br_t (by decide) (h a_tables hz)
  | succ w ih =>
    intro i hi a_tables hz
    have ei : (nI i).toNatClampNeg = i := nI_clamp (by omega)
    refine br_f (nI_ge (b := 4) (by omega) (by decide)) ⟨vp_in_nI (by omega) (by omega), nm_r (e' := upd a_tables i 0) (by rw [ei]) (nm_r (nI_1 i) (ih (i + 1) (by omega) _ (fun k hk => ?_)))⟩
    by_cases e : k = i
    · subst e; exact pk_us
    · exact (pk_un e).trans (hz k (by omega))
theorem xw_an {R : Int32 → SX → Prop} {F : Nat} {ar sz : Nat → Nat} (hF4 : F ≤ 4) (eF : f_functionCount = nI F) (hp : pg_ok a_kindAt a_datumAt ar sz) (har : ∀ h, h < 4 → a_arity h = nI (ar h)) (hsz : ∀ h, h < 4 → a_size h = nI (sz h) ∧ sz h ≤ 16) (hFs : ∀ h, F ≤ h → h < 4 → sz h = 0)
    (hC : ∀ g, g < 4 → rl_C a_kindAt a_datumAt ar a_childAt (16 * g) (sz g) (16 * g))
    (h : ∀ a_tables a_marks : Nat → Int32, xt_T a_tables (m_J a_kindAt a_datumAt ar sz 33) → R 0 (f_literalKind, f_paramKind, f_callKind, f_evalTask, f_applyTask, f_branchTask, f_updateTask, f_storeTask, f_slotAbsent, f_slotDelayed, f_slotReady, f_functionCount, f_nodeLimit, f_depthLimit, f_draftOpen, f_draftFor, f_draftNodes, f_draftCalls, f_treeCount, 1, f_recordValue, f_recordThunks, f_recordNeeds, f_taskTop, f_valueTop, f_frameCount, f_failed, f_thunkCount, f_demanded, a_declared, a_arity, a_size, a_kindAt, a_datumAt, a_childAt, a_treeRoot, a_treeHeight, a_tables, a_marks, a_cellDefined, a_cellValue, a_eager, a_taskKind, a_taskSubject, a_taskFrame, a_valueStack, a_frameDepth, a_slotState, a_slotValue, a_slotNode, a_slotFrame)) : wpX_analyse R (f_literalKind, f_paramKind, f_callKind, f_evalTask, f_applyTask, f_branchTask, f_updateTask, f_storeTask, f_slotAbsent, f_slotDelayed, f_slotReady, f_functionCount, f_nodeLimit, f_depthLimit, f_draftOpen, f_draftFor, f_draftNodes, f_draftCalls, f_treeCount, f_analysed, f_recordValue, f_recordThunks, f_recordNeeds, f_taskTop, f_valueTop, f_frameCount, f_failed, f_thunkCount, f_demanded, a_declared, a_arity, a_size, a_kindAt, a_datumAt, a_childAt, a_treeRoot, a_treeHeight, a_tables, a_marks, a_cellDefined, a_cellValue, a_eager, a_taskKind, a_taskSubject, a_taskFrame, a_valueStack, a_frameDepth, a_slotState, a_slotValue, a_slotNode, a_slotFrame) := by
  unfold wpX_analyse
  refine ⟨5, xw_al (fun a_tables hz => ⟨34, ?_⟩) 4 0 (by omega) a_tables (fun k hk => absurd hk (Nat.not_lt_zero _))⟩
  exact xw_ar hF4 eF hp har hsz hFs hC h 33 0 (by omega) a_tables a_marks (fun _ _ => false) true (fun k hk c hc => by rw [hz k hk, b_0]) m_X0 (fun _ => Nat.zero_le _) (fun z => ff_t z.symm)
end
end
section
/-! the reference's analysis -/
theorem bb_7 (x y z : Bool) : y_b x &&& (y_b y ||| y_b z) = y_b (x && (y || z)) := by
  cases x <;> cases y <;> cases z <;> decide
theorem bb_2 (x y : Bool) : y_b x &&& y_b y = y_b (x && y) := by
  cases x <;> cases y <;> decide
/-- Y's table stands for T -/
def yt_T (b_truth : Nat → Int32) (T : Nat → Nat → Bool) : Prop := ∀ h, h < 4 → ∀ c, c < 8 → b_truth (8 * h + c) = y_b (T h c)
section
variable {g_functionLimit g_nodeLimit g_depthLimit g_draftFor g_draftSize g_analysed g_level g_runMode g_runDepth g_lastSet g_hasValue g_recordValue g_recordCount g_recordSet : Int32} {b_arity b_bodySize b_bodyKind b_bodyData b_draftKind b_draftData b_heights b_truth b_next b_marks b_cellDefined b_cellValue b_levelFunction b_levelAt b_levelTop b_def b_val b_need b_count : Nat → Int32}
theorem yw_mc {R : Int32 → SY → Prop} {J : Int32 → Int32 → (Nat → Int32) → (Nat → Int32) → (Nat → Int32) → (Nat → Int32) → (Nat → Int32) → (Nat → Int32) → (Nat → Int32) → (Nat → Int32) → (Nat → Int32) → (Nat → Int32) → (Nat → Int32) → (Nat → Int32) → (Nat → Int32) → (Nat → Int32) → (Nat → Int32) → (Nat → Int32) → (Nat → Int32) → (Nat → Int32) → (Nat → Int32) → Prop} {X1 X2 X4 : Int32} {t n h : Nat} {T : Nat → Nat → Bool} {a : Nat → Bool} (hn : n ≤ 3) (hh : h < 4) (ht : t + n ≤ 8) (hT : yt_T b_truth T) (ha : ∀ i, i < n → b_marks (t + i) = y_b (a i))
    (K : wY_mark_221 R J X1 X2 (nI t) X4 (y_b (T h (m_ix a n))) g_functionLimit g_nodeLimit g_depthLimit g_draftFor g_draftSize g_analysed g_level g_runMode g_runDepth g_lastSet g_hasValue g_recordValue g_recordCount g_recordSet b_arity b_bodySize b_bodyKind b_bodyData b_draftKind b_draftData b_heights b_truth b_next b_marks b_cellDefined b_cellValue b_levelFunction b_levelAt b_levelTop b_def b_val b_need b_count) : ∀ w i, i + w = n → wY_mark_151 R J X1 X2 (nI t) X4 (nI h) (nI n) g_functionLimit g_nodeLimit g_depthLimit g_draftFor g_draftSize g_analysed g_level g_runMode g_runDepth g_lastSet g_hasValue g_recordValue g_recordCount g_recordSet b_arity b_bodySize b_bodyKind b_bodyData b_draftKind b_draftData b_heights b_truth b_next b_marks b_cellDefined b_cellValue b_levelFunction b_levelAt b_levelTop b_def b_val b_need b_count (w + 1) (nI (m_ix a i)) (nI i) := by
  have h8 := pw_8 hn
  intro w
  induction w with
  | zero =>
    intro i hi
    have : i = n := by omega
    subst this
    have hl := m_ix_lt a i
    have e : nI h * 8 + nI (m_ix a i) = nI (8 * h + m_ix a i) := by rw [sa_m8, nI_add]
    refine br_t (nI_le (Nat.le_refl _) (by omega)) ⟨by rw [e]; exact vp_in_nI (by omega) (by omega), nm_r (e' := y_b (T h (m_ix a i))) ?_ K⟩
    rw [e, nI_clamp (by omega)]
    exact hT h hh _ (by omega)
  | succ w ih =>
    intro i hi
    have e : nI t + nI i = nI (t + i) := nI_add _ _
    refine br_f (nI_ge (by omega) (by omega)) ⟨by rw [e]; exact vp_in_nI (by omega) (by omega), nm_r (e' := nI (m_ix a (i + 1))) ?_ (nm_r (nI_1 i) (ih (i + 1) (by omega)))⟩
    rw [e, nI_clamp (by omega), ha i (by omega), s8 _ i (by omega), nI_add]
    rfl
theorem yw_ml {R : Int32 → SY → Prop} {kd dt : Nat → Int32} {ar sz : Nat → Nat} {dc : Nat → Bool} {T : Nat → Nat → Bool} {g b : Nat} (ho : yr_ok kd dt ar sz dc b_arity b_bodySize b_bodyKind b_bodyData) (hp : pg_ok kd dt ar sz) (h8 : pg_8 kd dt ar sz) (hg : g < 4) (hs : 0 < sz g) (hT : yt_T b_truth T)
    (h : ∀ b_marks, R (y_b (m_v kd dt ar T g b (sz g - 1))) (g_functionLimit, g_nodeLimit, g_depthLimit, g_draftFor, g_draftSize, g_analysed, g_level, g_runMode, g_runDepth, g_lastSet, g_hasValue, g_recordValue, g_recordCount, g_recordSet, b_arity, b_bodySize, b_bodyKind, b_bodyData, b_draftKind, b_draftData, b_heights, b_truth, b_next, b_marks, b_cellDefined, b_cellValue, b_levelFunction, b_levelAt, b_levelTop, b_def, b_val, b_need, b_count)) :
    ∀ w p, p + w = sz g → ∀ b_marks : Nat → Int32, (∀ k, k < sk_l (q_o kd dt ar (16 * g)) p → b_marks k = y_b (sk_a (q_o kd dt ar (16 * g)) (fun p => m_f kd dt ar T b (16 * g + p)) false p k)) → wY_mark_19 R (nI g) (nI b) g_functionLimit g_nodeLimit g_depthLimit g_draftFor g_draftSize g_analysed g_level g_runMode g_runDepth g_lastSet g_hasValue g_recordValue g_recordCount g_recordSet (w + 1) (nI (sk_l (q_o kd dt ar (16 * g)) p)) (nI (16 * g + p)) b_arity b_bodySize b_bodyKind b_bodyData b_draftKind b_draftData b_heights b_truth b_next b_marks b_cellDefined b_cellValue b_levelFunction b_levelAt b_levelTop b_def b_val b_need b_count := by
  obtain ⟨z16, znd, zok, zl, zc⟩ := hp.2 g hg hs
  have eg : (nI g).toNatClampNeg = g := nI_clamp (by omega)
  have hv : vp_in (nI g) 4 := vp_in_nI hg (by omega)
  obtain ⟨o1, o2, o3, o4⟩ := ho.1 g hg
  have ee : nI g * 16 + b_bodySize (nI g).toNatClampNeg = nI (16 * g + sz g) := by rw [eg, o1, sa_m16, nI_add]
  intro w
  induction w with
  | zero =>
    intro p hpw b_marks hm
    have hps : p = sz g := by omega
    subst hps
    refine ⟨hv, br_t (by rw [ee]; exact nI_le (Nat.le_refl _) (by omega)) ?_⟩
    have h0 := hm 0 (by omega)
    obtain ⟨r, hr⟩ : ∃ r, sz g = r + 1 := ⟨sz g - 1, by omega⟩
    rw [hr] at h0 zl
    rw [sk_l_s] at zl
    rw [sk_a_t (by omega)] at h0
    have e : b_marks 0 = y_b (m_v kd dt ar T g b (sz g - 1)) := by rw [h0, hr]; rfl
    rw [e]
    exact h b_marks
  | succ w ih =>
    intro p hpw b_marks hm
    have hp2 : p < sz g := by omega
    have hno := zok p hp2
    have hl8 := h8 g hg hs p hp2
    rw [sk_l_s] at hl8
    have hlp : sk_l (q_o kd dt ar (16 * g)) p ≤ 8 := by
      cases p with
      | zero => exact Nat.zero_le _
      | succ r => exact h8 g hg hs r (by omega)
    have ej : (nI (16 * g + p)).toNatClampNeg = 16 * g + p := nI_clamp (by omega)
    have hvj : vp_in (nI (16 * g + p)) 64 := vp_in_nI (by omega) (by omega)
    obtain ⟨b1, b2⟩ := ho.2.1 (16 * g + p) (by omega)
    obtain ⟨⟨⟨k, hk, ek⟩, p9, p10⟩, pdc⟩ := ho.2.2 g hg p hp2
    refine ⟨hv, br_f (by rw [ee]; exact nI_ge (by omega) (by omega)) ⟨hvj, nm_r (e' := kd (16 * g + p)) (by rw [ej]; exact b1) ⟨hvj, nm_r (e' := dt (16 * g + p)) (by rw [ej]; exact b2) ?_⟩⟩⟩
    refine yw_on (kd := kd) (dt := dt) (ar := ar) (j := 16 * g + p) (fun z => ?_) ?_
    · obtain ⟨q, hq, eq⟩ := p10 z
      exact ⟨q, hq, eq, ((ho.1 q hq).2.2.2 (pdc z q hq eq)).2⟩
    have on : q_on kd dt ar (16 * g + p) = q_o kd dt ar (16 * g) p := rfl
    rw [on]
    refine nm_r (e' := nI (sk_l (q_o kd dt ar (16 * g)) p - q_o kd dt ar (16 * g) p)) (pk_sub hno) ?_
    -- the common end
    have fin : ∀ x : Bool, x = m_f kd dt ar T b (16 * g + p) (fun i => sk_a (q_o kd dt ar (16 * g)) (fun p => m_f kd dt ar T b (16 * g + p)) false p (sk_l (q_o kd dt ar (16 * g)) p - q_o kd dt ar (16 * g) p + i)) → wY_mark_221 R (wY_mark_19 R (nI g) (nI b) g_functionLimit g_nodeLimit g_depthLimit g_draftFor g_draftSize g_analysed g_level g_runMode g_runDepth g_lastSet g_hasValue g_recordValue g_recordCount g_recordSet (w + 1)) (nI g) (nI b) (nI (sk_l (q_o kd dt ar (16 * g)) p - q_o kd dt ar (16 * g) p)) (nI (16 * g + p)) (y_b x) g_functionLimit g_nodeLimit g_depthLimit g_draftFor g_draftSize g_analysed g_level g_runMode g_runDepth g_lastSet g_hasValue g_recordValue g_recordCount g_recordSet b_arity b_bodySize b_bodyKind b_bodyData b_draftKind b_draftData b_heights b_truth b_next b_marks b_cellDefined b_cellValue b_levelFunction b_levelAt b_levelTop b_def b_val b_need b_count := by
      intro x hx
      unfold wY_mark_221
      refine ⟨vp_in_nI (by omega) (by omega), ?_⟩
      rw [nI_clamp (n := sk_l (q_o kd dt ar (16 * g)) p - q_o kd dt ar (16 * g) p) (by omega)]
      refine nm_e (nm_r (nI_1 _) (nm_r (nI_1 _) (ih (p + 1) (by omega) _ (fun k hk => ?_))))
      rw [sk_l_s] at hk
      by_cases e : k = sk_l (q_o kd dt ar (16 * g)) p - q_o kd dt ar (16 * g) p
      · rw [sk_a_t e, e, pk_us, hx]; rfl
      · rw [sk_a_n e, pk_un e]; exact hm k (by omega)
    have hmk : ∀ i, i < q_o kd dt ar (16 * g) p → b_marks (sk_l (q_o kd dt ar (16 * g)) p - q_o kd dt ar (16 * g) p + i) = y_b (sk_a (q_o kd dt ar (16 * g)) (fun p => m_f kd dt ar T b (16 * g + p)) false p (sk_l (q_o kd dt ar (16 * g)) p - q_o kd dt ar (16 * g) p + i)) := fun i hi => hm _ (by omega)
    have onv := on.symm
    unfold q_on at onv
    unfold m_f at fin
    by_cases k8 : kd (16 * g + p) = 8
    · rw [if_pos k8] at fin
      exact br_t k8 (fin true rfl)
    refine br_f k8 ?_
    by_cases k9 : kd (16 * g + p) = 9
    · rw [if_neg k8, if_pos k9] at fin
      obtain ⟨i, hi, ei⟩ := p9 k9
      have := hp.1 g
      rw [ei, nI_clamp (by omega)] at fin
      refine br_t k9 (nm_r (e' := y_b (b.testBit i)) ?_ (fin _ rfl))
      rw [ei, sa_bit _ (by omega), sa_btn (by omega)]
      rfl
    refine br_f k9 ?_
    rw [if_neg k8, if_neg k9] at fin
    by_cases k7 : kd (16 * g + p) = 7
    · rw [if_neg (by rw [k7]; decide), if_neg k8, if_neg k9, if_neg (by rw [k7]; decide), if_pos k7] at onv
      rw [if_pos k7] at fin
      rw [onv] at fin hmk hno hl8 ⊢
      have e0 : (nI (sk_l (q_o kd dt ar (16 * g)) p - 3)).toNatClampNeg = sk_l (q_o kd dt ar (16 * g)) p - 3 := nI_clamp (by omega)
      refine br_t k7 ⟨vp_in_nI (by omega) (by omega), by rw [nI_1]; exact vp_in_nI (by omega) (by omega), by rw [sa_c2]; exact vp_in_nI (by omega) (by omega), nm_r (e' := y_b (sk_a (q_o kd dt ar (16 * g)) (fun p => m_f kd dt ar T b (16 * g + p)) false p (sk_l (q_o kd dt ar (16 * g)) p - 3 + 0) && (sk_a (q_o kd dt ar (16 * g)) (fun p => m_f kd dt ar T b (16 * g + p)) false p (sk_l (q_o kd dt ar (16 * g)) p - 3 + 1) || sk_a (q_o kd dt ar (16 * g)) (fun p => m_f kd dt ar T b (16 * g + p)) false p (sk_l (q_o kd dt ar (16 * g)) p - 3 + 2)))) ?_ (fin _ rfl)⟩
      rw [nI_1, sa_c2, nI_clamp (n := sk_l (q_o kd dt ar (16 * g)) p - 3) (by omega), nI_clamp (n := sk_l (q_o kd dt ar (16 * g)) p - 3 + 1) (by omega), nI_clamp (n := sk_l (q_o kd dt ar (16 * g)) p - 3 + 2) (by omega)]
      have m0 := hmk 0 (by omega)
      rw [Nat.add_zero] at m0
      rw [m0, hmk 1 (by omega), hmk 2 (by omega), bb_7]
      rfl
    refine br_f k7 ?_
    rw [if_neg k7] at fin
    by_cases k10 : kd (16 * g + p) = 10
    · obtain ⟨q, hq, eq⟩ := p10 k10
      have hnq := hp.1 q
      rw [if_neg (by rw [k10]; decide), if_neg k8, if_neg k9, if_pos k10, eq, nI_clamp (by omega)] at onv
      rw [if_pos k10, eq, nI_clamp (by omega)] at fin
      rw [eq]
      rw [onv] at fin hmk hno hl8 ⊢
      exact br_t k10 ⟨ar q + 1, yw_mc (a := fun i => sk_a (q_o kd dt ar (16 * g)) (fun p => m_f kd dt ar T b (16 * g + p)) false p (sk_l (q_o kd dt ar (16 * g)) p - ar q + i)) hnq hq (by omega) hT hmk (fin _ rfl) (ar q) 0 (by omega)⟩
    refine br_f k10 ?_
    rw [if_neg k10] at fin
    by_cases k0 : kd (16 * g + p) = 0
    · rw [if_pos k0] at fin
      exact br_t k0 (fin false rfl)
    rw [if_neg k0] at fin
    rw [if_neg k0, if_neg k8, if_neg k9, if_neg k10, if_neg k7] at onv
    rw [onv] at fin hmk hno hl8 ⊢
    refine br_f k0 ⟨vp_in_nI (by omega) (by omega), by rw [nI_1]; exact vp_in_nI (by omega) (by omega), nm_r (e' := y_b (sk_a (q_o kd dt ar (16 * g)) (fun p => m_f kd dt ar T b (16 * g + p)) false p (sk_l (q_o kd dt ar (16 * g)) p - 2 + 0) && sk_a (q_o kd dt ar (16 * g)) (fun p => m_f kd dt ar T b (16 * g + p)) false p (sk_l (q_o kd dt ar (16 * g)) p - 2 + 1))) ?_ (fin _ rfl)⟩
    rw [nI_1, nI_clamp (n := sk_l (q_o kd dt ar (16 * g)) p - 2) (by omega), nI_clamp (n := sk_l (q_o kd dt ar (16 * g)) p - 2 + 1) (by omega)]
    have m0 := hmk 0 (by omega)
    rw [Nat.add_zero] at m0
    rw [m0, hmk 1 (by omega), bb_2]
    rfl
theorem yw_mk {R : Int32 → SY → Prop} {kd dt : Nat → Int32} {ar sz : Nat → Nat} {dc : Nat → Bool} {T : Nat → Nat → Bool} {g b : Nat} (ho : yr_ok kd dt ar sz dc b_arity b_bodySize b_bodyKind b_bodyData) (hp : pg_ok kd dt ar sz) (h8 : pg_8 kd dt ar sz) (hg : g < 4) (hb : b < 2 ^ ar g) (hT : yt_T b_truth T)
    (h : ∀ b_marks, R (y_b (m_F kd dt ar sz T g b)) (g_functionLimit, g_nodeLimit, g_depthLimit, g_draftFor, g_draftSize, g_analysed, g_level, g_runMode, g_runDepth, g_lastSet, g_hasValue, g_recordValue, g_recordCount, g_recordSet, b_arity, b_bodySize, b_bodyKind, b_bodyData, b_draftKind, b_draftData, b_heights, b_truth, b_next, b_marks, b_cellDefined, b_cellValue, b_levelFunction, b_levelAt, b_levelTop, b_def, b_val, b_need, b_count)) : wpY_mark R (g_functionLimit, g_nodeLimit, g_depthLimit, g_draftFor, g_draftSize, g_analysed, g_level, g_runMode, g_runDepth, g_lastSet, g_hasValue, g_recordValue, g_recordCount, g_recordSet, b_arity, b_bodySize, b_bodyKind, b_bodyData, b_draftKind, b_draftData, b_heights, b_truth, b_next, b_marks, b_cellDefined, b_cellValue, b_levelFunction, b_levelAt, b_levelTop, b_def, b_val, b_need, b_count) (nI g) (nI b) := by
  unfold wpY_mark
  have eg : (nI g).toNatClampNeg = g := nI_clamp (by omega)
  obtain ⟨o1, o2, o3, o4⟩ := ho.1 g hg
  refine ⟨vp_in_nI hg (by omega), ?_⟩
  by_cases hs : sz g = 0
  · refine br_t (by rw [eg, o1, hs]; rfl) ?_
    have e : m_F kd dt ar sz T g b = false := by
      cases e : m_F kd dt ar sz T g b
      · rfl
      · have := (m_F_i.mp e).2.2.1
        omega
    have := h b_marks
    rw [e] at this
    exact this
  · have e : m_F kd dt ar sz T g b = m_v kd dt ar T g b (sz g - 1) := by
      unfold m_F
      rw [decide_eq_true hg, decide_eq_true hb, decide_eq_true (show 0 < sz g by omega), Bool.true_and, Bool.true_and, Bool.true_and]
    rw [e] at h
    refine br_f (by rw [eg, o1]; exact nI_ne0 (by omega) (by omega)) (nm_r (sa_m16 g) ⟨sz g + 1, ?_⟩)
    exact yw_ml ho hp h8 hg (by omega) hT h (sz g) 0 (by omega) b_marks (fun k hk => absurd hk (Nat.not_lt_zero _))
/-! the rounds -/
theorem yw_cp {R : Int32 → SY → Prop} {J : Int32 → Int32 → Int32 → Int32 → Int32 → Int32 → Int32 → Int32 → Int32 → Int32 → Int32 → Int32 → Int32 → Int32 → Int32 → (Nat → Int32) → (Nat → Int32) → (Nat → Int32) → (Nat → Int32) → (Nat → Int32) → (Nat → Int32) → (Nat → Int32) → (Nat → Int32) → (Nat → Int32) → (Nat → Int32) → (Nat → Int32) → (Nat → Int32) → (Nat → Int32) → (Nat → Int32) → (Nat → Int32) → (Nat → Int32) → (Nat → Int32) → (Nat → Int32) → (Nat → Int32) → Prop} {r : Nat}
    (K : ∀ b_truth : Nat → Int32, (∀ e, e < 32 → b_truth e = b_next e) → J (nI (r + 1)) g_functionLimit g_nodeLimit g_depthLimit g_draftFor g_draftSize g_analysed g_level g_runMode g_runDepth g_lastSet g_hasValue g_recordValue g_recordCount g_recordSet b_arity b_bodySize b_bodyKind b_bodyData b_draftKind b_draftData b_heights b_truth b_next b_marks b_cellDefined b_cellValue b_levelFunction b_levelAt b_levelTop b_def b_val b_need b_count) : ∀ w i, i + w = 32 → ∀ b_truth : Nat → Int32, (∀ e, e < i → b_truth e = b_next e) → wY_analyse_100 R J (nI r) g_functionLimit g_nodeLimit g_depthLimit g_draftFor g_draftSize g_analysed g_level g_runMode g_runDepth g_lastSet g_hasValue g_recordValue g_recordCount g_recordSet (w + 1) (nI i) b_arity b_bodySize b_bodyKind b_bodyData b_draftKind b_draftData b_heights b_truth b_next b_marks b_cellDefined b_cellValue b_levelFunction b_levelAt b_levelTop b_def b_val b_need b_count := by
  intro w
  induction w with
  | zero =>
    intro i hi b_truth ht
    have : i = 32 := by omega
    subst this
    exact br_t (by decide) (nm_r (nI_1 r) (K b_truth ht))
  | succ w ih =>
    intro i hi b_truth ht
    have ei : (nI i).toNatClampNeg = i := nI_clamp (by omega)
    have hv : vp_in (nI i) 32 := vp_in_nI (by omega) (by omega)
    refine br_f (nI_ge (b := 32) (by omega) (by decide)) ⟨hv, hv, nm_r (e' := upd b_truth i (b_next i)) (by rw [ei]) (nm_r (nI_1 i) (ih (i + 1) (by omega) _ (fun e he => ?_)))⟩
    by_cases ee : e = i
    · subst ee; exact pk_us
    · exact (pk_un ee).trans (ht e (by omega))
theorem yw_r8 {R : Int32 → SY → Prop} {J23 J31 : Int32 → Int32 → Int32 → Int32 → Int32 → Int32 → Int32 → Int32 → Int32 → Int32 → Int32 → Int32 → Int32 → Int32 → Int32 → (Nat → Int32) → (Nat → Int32) → (Nat → Int32) → (Nat → Int32) → (Nat → Int32) → (Nat → Int32) → (Nat → Int32) → (Nat → Int32) → (Nat → Int32) → (Nat → Int32) → (Nat → Int32) → (Nat → Int32) → (Nat → Int32) → (Nat → Int32) → (Nat → Int32) → (Nat → Int32) → (Nat → Int32) → (Nat → Int32) → (Nat → Int32) → Prop} {X1 : Int32} {kd dt : Nat → Int32} {ar sz : Nat → Nat} {dc : Nat → Bool} {T : Nat → Nat → Bool} {f : Nat} (ho : yr_ok kd dt ar sz dc b_arity b_bodySize b_bodyKind b_bodyData) (hp : pg_ok kd dt ar sz) (h8 : pg_8 kd dt ar sz) (hf : f < 4) (hud : dc f = false → b_arity f = -1) (hT : yt_T b_truth T)
    (K : ∀ b_next b_marks : Nat → Int32, (∀ h c, h < 4 → c < 8 → 8 * h + c < 8 * f + 8 → b_next (8 * h + c) = y_b (m_F kd dt ar sz T h c)) → J31 (nI (f + 1)) g_functionLimit g_nodeLimit g_depthLimit g_draftFor g_draftSize g_analysed g_level g_runMode g_runDepth g_lastSet g_hasValue g_recordValue g_recordCount g_recordSet b_arity b_bodySize b_bodyKind b_bodyData b_draftKind b_draftData b_heights b_truth b_next b_marks b_cellDefined b_cellValue b_levelFunction b_levelAt b_levelTop b_def b_val b_need b_count) :
    ∀ w b, b + w = 8 → ∀ b_next b_marks : Nat → Int32, (∀ h c, h < 4 → c < 8 → 8 * h + c < 8 * f + b → b_next (8 * h + c) = y_b (m_F kd dt ar sz T h c)) → wY_analyse_38 R J23 J31 X1 (nI f) (w + 1) (nI b) g_functionLimit g_nodeLimit g_depthLimit g_draftFor g_draftSize g_analysed g_level g_runMode g_runDepth g_lastSet g_hasValue g_recordValue g_recordCount g_recordSet b_arity b_bodySize b_bodyKind b_bodyData b_draftKind b_draftData b_heights b_truth b_next b_marks b_cellDefined b_cellValue b_levelFunction b_levelAt b_levelTop b_def b_val b_need b_count := by
  have ef : (nI f).toNatClampNeg = f := nI_clamp (by omega)
  have hv : vp_in (nI f) 4 := vp_in_nI hf (by omega)
  obtain ⟨o1, o2, o3, o4⟩ := ho.1 f hf
  intro w
  induction w with
  | zero =>
    intro b hb b_next b_marks hn
    have : b = 8 := by omega
    subst this
    exact br_t (by decide) (nm_r (nI_1 f) (K b_next b_marks hn))
  | succ w ih =>
    intro b hb b_next b_marks hn
    have e : nI f * 8 + nI b = nI (8 * f + b) := by rw [sa_m8, nI_add]
    have ec : (nI f * 8 + nI b).toNatClampNeg = 8 * f + b := by rw [e]; exact nI_clamp (by omega)
    have hvb : vp_in (nI f * 8 + nI b) 32 := by rw [e]; exact vp_in_nI (by omega) (by omega)
    have nxt : ∀ b_marks, wY_analyse_38 R J23 J31 X1 (nI f) (w + 1) (nI (b + 1)) g_functionLimit g_nodeLimit g_depthLimit g_draftFor g_draftSize g_analysed g_level g_runMode g_runDepth g_lastSet g_hasValue g_recordValue g_recordCount g_recordSet b_arity b_bodySize b_bodyKind b_bodyData b_draftKind b_draftData b_heights b_truth (upd b_next (8 * f + b) (y_b (m_F kd dt ar sz T f b))) b_marks b_cellDefined b_cellValue b_levelFunction b_levelAt b_levelTop b_def b_val b_need b_count := by
      intro b_marks
      refine ih (b + 1) (by omega) _ b_marks (fun h c hh hc hl => ?_)
      by_cases ee : 8 * h + c = 8 * f + b
      · have e1 : h = f := by omega
        have e2 : c = b := by omega
        rw [e1, e2]; exact pk_us
      · rw [pk_un ee]; exact hn h c hh hc (by omega)
    refine br_f (nI_ge (b := 8) (by omega) (by decide)) ⟨hv, ?_⟩
    cases hd : dc f
    · have hs : sz f = 0 := by
        cases es : sz f with
        | zero => rfl
        | succ q =>
          have := o3 (by omega)
          rw [hd] at this
          exact ff_t this
      have e0 : m_F kd dt ar sz T f b = false := by
        cases e : m_F kd dt ar sz T f b
        · rfl
        · have := (m_F_i.mp e).2.2.1
          omega
      rw [e0] at nxt
      exact br_t (by rw [ef, hud hd]; decide) ⟨hvb, nm_r (e' := upd b_next (8 * f + b) 0) (by rw [ec]) (nm_r (nI_1 b) (nxt b_marks))⟩
    · obtain ⟨q5, q6⟩ := o4 hd
      have h8' := pw_8 q5
      refine br_f (by rw [ef, q6]; exact nI_pos (by omega)) ⟨hv, ?_⟩
      by_cases hb2 : 2 ^ ar f ≤ b
      · have e0 : m_F kd dt ar sz T f b = false := by
          cases e : m_F kd dt ar sz T f b
          · rfl
          · have := (m_F_i.mp e).2.1
            omega
        rw [e0] at nxt
        exact br_t (by rw [ef, q6, sa_s1 _ (by omega)]; exact nI_le hb2 (by omega)) ⟨hvb, nm_r (e' := upd b_next (8 * f + b) 0) (by rw [ec]) (nm_r (nI_1 b) (nxt b_marks))⟩
      · refine br_f (by rw [ef, q6, sa_s1 _ (by omega)]; exact nI_ge (by omega) (by omega)) ?_
        exact yw_mk ho hp h8 hf (by omega) hT (fun b_marks => ⟨hvb, nm_r (e' := upd b_next (8 * f + b) (y_b (m_F kd dt ar sz T f b))) (by rw [ec]) (nm_r (nI_1 b) (nxt b_marks))⟩)
theorem yw_r4 {R : Int32 → SY → Prop} {J23 : Int32 → Int32 → Int32 → Int32 → Int32 → Int32 → Int32 → Int32 → Int32 → Int32 → Int32 → Int32 → Int32 → Int32 → Int32 → (Nat → Int32) → (Nat → Int32) → (Nat → Int32) → (Nat → Int32) → (Nat → Int32) → (Nat → Int32) → (Nat → Int32) → (Nat → Int32) → (Nat → Int32) → (Nat → Int32) → (Nat → Int32) → (Nat → Int32) → (Nat → Int32) → (Nat → Int32) → (Nat → Int32) → (Nat → Int32) → (Nat → Int32) → (Nat → Int32) → (Nat → Int32) → Prop} {r : Nat} {kd dt : Nat → Int32} {ar sz : Nat → Nat} {dc : Nat → Bool} {T : Nat → Nat → Bool} (ho : yr_ok kd dt ar sz dc b_arity b_bodySize b_bodyKind b_bodyData) (hp : pg_ok kd dt ar sz) (h8 : pg_8 kd dt ar sz) (hud : ∀ f, f < 4 → dc f = false → b_arity f = -1) (hT : yt_T b_truth T)
    (K : ∀ b_truth b_next b_marks : Nat → Int32, yt_T b_truth (m_F kd dt ar sz T) → J23 (nI (r + 1)) g_functionLimit g_nodeLimit g_depthLimit g_draftFor g_draftSize g_analysed g_level g_runMode g_runDepth g_lastSet g_hasValue g_recordValue g_recordCount g_recordSet b_arity b_bodySize b_bodyKind b_bodyData b_draftKind b_draftData b_heights b_truth b_next b_marks b_cellDefined b_cellValue b_levelFunction b_levelAt b_levelTop b_def b_val b_need b_count) :
    ∀ w f, f + w = 4 → ∀ b_next b_marks : Nat → Int32, (∀ h c, h < 4 → c < 8 → 8 * h + c < 8 * f → b_next (8 * h + c) = y_b (m_F kd dt ar sz T h c)) → wY_analyse_31 R J23 (nI r) (w + 1) (nI f) g_functionLimit g_nodeLimit g_depthLimit g_draftFor g_draftSize g_analysed g_level g_runMode g_runDepth g_lastSet g_hasValue g_recordValue g_recordCount g_recordSet b_arity b_bodySize b_bodyKind b_bodyData b_draftKind b_draftData b_heights b_truth b_next b_marks b_cellDefined b_cellValue b_levelFunction b_levelAt b_levelTop b_def b_val b_need b_count := by
  intro w
  induction w with
  | zero =>
    intro f hf b_next b_marks hn
    have : f = 4 := by omega
    subst this
    refine br_t (by decide) ⟨33, yw_cp (fun b_truth ht => K b_truth b_next b_marks (fun h hh c hc => ?_)) 32 0 (by omega) b_truth (fun e he => absurd he (Nat.not_lt_zero _))⟩
    rw [ht _ (by omega)]
    exact hn h c hh hc (by omega)
  | succ w ih =>
    intro f hf b_next b_marks hn
    refine br_f (nI_ge (b := 4) (by omega) (by decide)) ⟨9, ?_⟩
    exact yw_r8 ho hp h8 (by omega) (hud f (by omega)) hT (fun b_next b_marks hn' => ih (f + 1) (by omega) b_next b_marks (fun h c hh hc hl => hn' h c hh hc (by omega))) 8 0 (by omega) b_next b_marks (fun h c hh hc hl => hn h c hh hc (by omega))
theorem yw_rr {R : Int32 → SY → Prop} {kd dt : Nat → Int32} {ar sz : Nat → Nat} {dc : Nat → Bool} (ho : yr_ok kd dt ar sz dc b_arity b_bodySize b_bodyKind b_bodyData) (hp : pg_ok kd dt ar sz) (h8 : pg_8 kd dt ar sz) (hud : ∀ f, f < 4 → dc f = false → b_arity f = -1)
    (K : ∀ b_truth b_next b_marks : Nat → Int32, yt_T b_truth (m_J kd dt ar sz 33) → R 0 (g_functionLimit, g_nodeLimit, g_depthLimit, g_draftFor, g_draftSize, 1, g_level, g_runMode, g_runDepth, g_lastSet, g_hasValue, g_recordValue, g_recordCount, g_recordSet, b_arity, b_bodySize, b_bodyKind, b_bodyData, b_draftKind, b_draftData, b_heights, b_truth, b_next, b_marks, b_cellDefined, b_cellValue, b_levelFunction, b_levelAt, b_levelTop, b_def, b_val, b_need, b_count)) :
    ∀ w r, r + w = 33 → ∀ b_truth b_next b_marks : Nat → Int32, yt_T b_truth (m_J kd dt ar sz r) → wY_analyse_23 R (w + 1) (nI r) g_functionLimit g_nodeLimit g_depthLimit g_draftFor g_draftSize g_analysed g_level g_runMode g_runDepth g_lastSet g_hasValue g_recordValue g_recordCount g_recordSet b_arity b_bodySize b_bodyKind b_bodyData b_draftKind b_draftData b_heights b_truth b_next b_marks b_cellDefined b_cellValue b_levelFunction b_levelAt b_levelTop b_def b_val b_need b_count := by
  intro w
  induction w with
  | zero =>
    intro r hr b_truth b_next b_marks hT
    have : r = 33 := by omega
    subst this
    exact br_t (by decide) (K b_truth b_next b_marks hT)
  | succ w ih =>
    intro r hr b_truth b_next b_marks hT
    refine br_f (nI_ge (b := 33) (by omega) (by decide)) ⟨5, ?_⟩
    exact yw_r4 ho hp h8 hud hT (fun b_truth b_next b_marks hT' => ih (r + 1) (by omega) b_truth b_next b_marks hT') 4 0 (by omega) b_next b_marks (fun h c hh hc hl => absurd hl (Nat.not_lt_zero _))
theorem yw_zl {R : Int32 → SY → Prop} (K : ∀ b_truth : Nat → Int32, (∀ e, e < 32 → b_truth e = 0) → ∃ n, wY_analyse_23 R n 0 g_functionLimit g_nodeLimit g_depthLimit g_draftFor g_draftSize g_analysed g_level g_runMode g_runDepth g_lastSet g_hasValue g_recordValue g_recordCount g_recordSet b_arity b_bodySize b_bodyKind b_bodyData b_draftKind b_draftData b_heights b_truth b_next b_marks b_cellDefined b_cellValue b_levelFunction b_levelAt b_levelTop b_def b_val b_need b_count) : ∀ w i, i + w = 32 → ∀ b_truth : Nat → Int32, (∀ e, e < i → b_truth e = 0) → wY_analyse_2 R g_functionLimit g_nodeLimit g_depthLimit g_draftFor g_draftSize g_analysed g_level g_runMode g_runDepth g_lastSet g_hasValue g_recordValue g_recordCount g_recordSet (w + 1) (nI i) b_arity b_bodySize b_bodyKind b_bodyData b_draftKind b_draftData b_heights b_truth b_next b_marks b_cellDefined b_cellValue b_levelFunction b_levelAt b_levelTop b_def b_val b_need b_count := by
  intro w
  induction w with
  | zero =>
    intro i hi b_truth ht
    have : i = 32 := by omega
    subst this
    exact br_t (by decide) (K b_truth ht)
  | succ w ih =>
    intro i hi b_truth ht
    have ei : (nI i).toNatClampNeg = i := nI_clamp (by omega)
    refine br_f (nI_ge (b := 32) (by omega) (by decide)) ⟨vp_in_nI (by omega) (by omega), nm_r (e' := upd b_truth i 0) (by rw [ei]) (nm_r (nI_1 i) (ih (i + 1) (by omega) _ (fun e he => ?_)))⟩
    by_cases ee : e = i
    · subst ee; exact pk_us
    · exact (pk_un ee).trans (ht e (by omega))
theorem yw_an {R : Int32 → SY → Prop} {kd dt : Nat → Int32} {ar sz : Nat → Nat} {dc : Nat → Bool} (ho : yr_ok kd dt ar sz dc b_arity b_bodySize b_bodyKind b_bodyData) (hp : pg_ok kd dt ar sz) (h8 : pg_8 kd dt ar sz) (hud : ∀ f, f < 4 → dc f = false → b_arity f = -1)
    (K : ∀ b_truth b_next b_marks : Nat → Int32, yt_T b_truth (m_J kd dt ar sz 33) → R 0 (g_functionLimit, g_nodeLimit, g_depthLimit, g_draftFor, g_draftSize, 1, g_level, g_runMode, g_runDepth, g_lastSet, g_hasValue, g_recordValue, g_recordCount, g_recordSet, b_arity, b_bodySize, b_bodyKind, b_bodyData, b_draftKind, b_draftData, b_heights, b_truth, b_next, b_marks, b_cellDefined, b_cellValue, b_levelFunction, b_levelAt, b_levelTop, b_def, b_val, b_need, b_count)) : wpY_analyse R (g_functionLimit, g_nodeLimit, g_depthLimit, g_draftFor, g_draftSize, g_analysed, g_level, g_runMode, g_runDepth, g_lastSet, g_hasValue, g_recordValue, g_recordCount, g_recordSet, b_arity, b_bodySize, b_bodyKind, b_bodyData, b_draftKind, b_draftData, b_heights, b_truth, b_next, b_marks, b_cellDefined, b_cellValue, b_levelFunction, b_levelAt, b_levelTop, b_def, b_val, b_need, b_count) := by
  unfold wpY_analyse
  refine ⟨33, yw_zl (fun b_truth hz => ⟨34, ?_⟩) 32 0 (by omega) b_truth (fun e he => absurd he (Nat.not_lt_zero _))⟩
  exact yw_rr ho hp h8 hud K 33 0 (by omega) b_truth b_next b_marks (fun h hh c hc => hz _ (by omega))
end
theorem P_yr {F : Nat} {dc : Nat → Bool} {ar sz : Nat → Nat} {a_declared a_arity a_size a_kindAt a_datumAt a_childAt b_arity b_bodySize b_bodyKind b_bodyData : Nat → Int32} (hP : rl_P F dc ar sz a_declared a_arity a_size a_kindAt a_datumAt a_childAt b_arity b_bodySize b_bodyKind b_bodyData) : yr_ok a_kindAt a_datumAt ar sz dc b_arity b_bodySize b_bodyKind b_bodyData := by
  refine ⟨fun h hh => ⟨(hP.2.2.1 h hh).2.1, (hP.2.2.1 h hh).2.2, fun z => ?_, fun z => ⟨hP.1 h, ((hP.2.1 h hh).1 z).2.2.2⟩⟩, hP.2.2.2.1, fun g hg p hp => (hP.2.2.2.2 g hg).1.1 p hp⟩
  cases hd : dc h
  · have := (((hP.2.1 h hh).2 hd).2).1
    omega
  · rfl
theorem P_8 {F : Nat} {dc : Nat → Bool} {ar sz : Nat → Nat} {a_declared a_arity a_size a_kindAt a_datumAt a_childAt b_arity b_bodySize b_bodyKind b_bodyData : Nat → Int32} (hP : rl_P F dc ar sz a_declared a_arity a_size a_kindAt a_datumAt a_childAt b_arity b_bodySize b_bodyKind b_bodyData) : pg_8 a_kindAt a_datumAt ar sz :=
  fun g hg _ p hp => ((hP.2.2.2.2 g hg).1.2.1 p hp).2
theorem i_vc_analyse {k : Nat} {u : SX} {v : SY} (I : i_Rel k u v) (hk : k + 4 ≤ 2051) : wpX_analyse (fun r u' => wpY_analyse (fun r' v' => r' = r ∧ i_Rel (k + 4) u' v') v) u := by
  refine zz_el (P := fun u v => wpX_analyse (fun r u' => wpY_analyse (fun r' v' => r' = r ∧ i_Rel (k + 4) u' v') v) u) ?_ I
  intro f_literalKind f_paramKind f_callKind f_evalTask f_applyTask f_branchTask f_updateTask f_storeTask f_slotAbsent f_slotDelayed f_slotReady f_functionCount f_nodeLimit f_depthLimit f_draftOpen f_draftFor f_draftNodes f_draftCalls f_treeCount f_analysed f_recordValue f_recordThunks f_recordNeeds f_taskTop f_valueTop f_frameCount f_failed f_thunkCount f_demanded a_declared a_arity a_size a_kindAt a_datumAt a_childAt a_treeRoot a_treeHeight a_tables a_marks a_cellDefined a_cellValue a_eager a_taskKind a_taskSubject a_taskFrame a_valueStack a_frameDepth a_slotState a_slotValue a_slotNode a_slotFrame g_functionLimit g_nodeLimit g_depthLimit g_draftFor g_draftSize g_analysed g_level g_runMode g_runDepth g_lastSet g_hasValue g_recordValue g_recordCount g_recordSet b_arity b_bodySize b_bodyKind b_bodyData b_draftKind b_draftData b_heights b_truth b_next b_marks b_cellDefined b_cellValue b_levelFunction b_levelAt b_levelTop b_def b_val b_need b_count hR
  obtain ⟨F, NL, DL, dc, ar, sz, hL, hP, hD, hA, hK, hV⟩ := hR
  have hp := P_ok hP
  have hF4 := hL.1.2.1
  refine xw_an hF4 hL.2.1 hp (P_ar hP) (fun h hh => ⟨(hP.2.2.1 h hh).1, (hP.2.2.1 h hh).2.2⟩) (fun h h1 h2 => ?_) (fun g hg => (hP.2.2.2.2 g hg).2.2) (fun a_tables a_marks hT => ?_)
  · cases hd : dc h
    · exact (((hP.2.1 h h2).2 hd).2).1
    · have := ((hP.2.1 h h2).1 hd).1
      omega
  · refine yw_an (P_yr hP) hp (P_8 hP) (fun f hf hd => ((hP.2.1 f hf).2 hd).2.2.2.2) (fun b_truth b_next b_marks hT' => ⟨rfl, zz_in ⟨F, NL, DL, dc, ar, sz, hL, hP, hD, ⟨rfl, Or.inr ⟨rfl, m_J a_kindAt a_datumAt ar sz 33, fun h hh => ⟨hT h hh, fun i hi => ?_, hT' h hh⟩⟩⟩, hK, hV⟩⟩)
    cases e : m_J a_kindAt a_datumAt ar sz 33 h i
    · rfl
    · have e2 : m_F a_kindAt a_datumAt ar sz (m_J a_kindAt a_datumAt ar sz 32) h i = true := e
      have := (m_F_i.mp e2).2.1
      omega
end
section
/-! X: which arguments are eager; the machine's start -/
def eg_m (mode : Nat) (T : Nat → Nat → Bool) (ar : Nat → Nat) : Nat → Nat → Bool := fun h i => if mode = 2 then true else if mode = 1 then !T h (2 ^ ar h - 1 - 2 ^ i) else false
/-- the argument cells as quads -/
def cq_q (cd cv : Nat → Int32) : Nat → QQ := fun i => if cd i = 0 then q_u else (true, cv i, 0, 0)
theorem nb_y (b : Bool) : narrow .boolean (.int (y_b b)) = .int (y_b b) ∧ fits .boolean (.int (y_b b)) = true := by
  cases b
  · exact ⟨rfl, by decide⟩
  · exact ⟨rfl, by decide⟩
section
variable {Q : SX → Prop} {f_literalKind f_paramKind f_callKind f_evalTask f_applyTask f_branchTask f_updateTask f_storeTask f_slotAbsent f_slotDelayed f_slotReady f_functionCount f_nodeLimit f_depthLimit f_draftOpen f_draftFor f_draftNodes f_draftCalls f_treeCount f_analysed f_recordValue f_recordThunks f_recordNeeds f_taskTop f_valueTop f_frameCount f_failed f_thunkCount f_demanded : Int32} {a_declared a_arity a_size a_kindAt a_datumAt a_childAt a_treeRoot a_treeHeight a_tables a_marks a_cellDefined a_cellValue a_eager a_taskKind a_taskSubject a_taskFrame a_valueStack a_frameDepth a_slotState a_slotValue a_slotNode a_slotFrame : Nat → Int32}
theorem xw_cel {F mode : Nat} {ar : Nat → Nat} {T : Nat → Nat → Bool} (hF4 : F ≤ 4) (eF : f_functionCount = nI F) (hm : mode ≤ 2) (ha3 : ∀ h, ar h ≤ 3) (har : ∀ h, h < 4 → a_arity h = nI (ar h)) (hT : mode = 1 → xt_T a_tables T)
    (h : ∀ a_eager : Nat → Int32, (∀ g, g < F → ∀ i, i < 32 → bt (a_eager g) i = (decide (i < ar g) && eg_m mode T ar g i)) → Q (f_literalKind, f_paramKind, f_callKind, f_evalTask, f_applyTask, f_branchTask, f_updateTask, f_storeTask, f_slotAbsent, f_slotDelayed, f_slotReady, f_functionCount, f_nodeLimit, f_depthLimit, f_draftOpen, f_draftFor, f_draftNodes, f_draftCalls, f_treeCount, f_analysed, f_recordValue, f_recordThunks, f_recordNeeds, f_taskTop, f_valueTop, f_frameCount, f_failed, f_thunkCount, f_demanded, a_declared, a_arity, a_size, a_kindAt, a_datumAt, a_childAt, a_treeRoot, a_treeHeight, a_tables, a_marks, a_cellDefined, a_cellValue, a_eager, a_taskKind, a_taskSubject, a_taskFrame, a_valueStack, a_frameDepth, a_slotState, a_slotValue, a_slotNode, a_slotFrame)) :
    ∀ w g, g + w = F → ∀ a_eager : Nat → Int32, (∀ g', g' < g → ∀ i, i < 32 → bt (a_eager g') i = (decide (i < ar g') && eg_m mode T ar g' i)) → wX_chooseEager_2 Q (nI mode) f_literalKind f_paramKind f_callKind f_evalTask f_applyTask f_branchTask f_updateTask f_storeTask f_slotAbsent f_slotDelayed f_slotReady f_functionCount f_nodeLimit f_depthLimit f_draftOpen f_draftFor f_draftNodes f_draftCalls f_treeCount f_analysed f_recordValue f_recordThunks f_recordNeeds f_taskTop f_valueTop f_frameCount f_failed f_thunkCount f_demanded (w + 1) (nI g) a_declared a_arity a_size a_kindAt a_datumAt a_childAt a_treeRoot a_treeHeight a_tables a_marks a_cellDefined a_cellValue a_eager a_taskKind a_taskSubject a_taskFrame a_valueStack a_frameDepth a_slotState a_slotValue a_slotNode a_slotFrame := by
  intro w
  induction w with
  | zero =>
    intro g hg a_eager he
    have : g = F := by omega
    subst this
    exact br_t (by rw [eF]; exact nI_le (Nat.le_refl _) (by omega)) (h a_eager he)
  | succ w ih =>
    intro g hg a_eager he
    have eg : (nI g).toNatClampNeg = g := nI_clamp (by omega)
    have hv : vp_in (nI g) 4 := vp_in_nI (by omega) (by omega)
    have hn := ha3 g
    have h8 := pw_8 hn
    have nxt : ∀ (e : Nat → Int32) (x : Int32), (∀ k, k ≠ g → e k = a_eager k) → e g = x → (∀ i, i < 32 → bt x i = (decide (i < ar g) && eg_m mode T ar g i)) → wX_chooseEager_2 Q (nI mode) f_literalKind f_paramKind f_callKind f_evalTask f_applyTask f_branchTask f_updateTask f_storeTask f_slotAbsent f_slotDelayed f_slotReady f_functionCount f_nodeLimit f_depthLimit f_draftOpen f_draftFor f_draftNodes f_draftCalls f_treeCount f_analysed f_recordValue f_recordThunks f_recordNeeds f_taskTop f_valueTop f_frameCount f_failed f_thunkCount f_demanded (w + 1) (nI (g + 1)) a_declared a_arity a_size a_kindAt a_datumAt a_childAt a_treeRoot a_treeHeight a_tables a_marks a_cellDefined a_cellValue e a_taskKind a_taskSubject a_taskFrame a_valueStack a_frameDepth a_slotState a_slotValue a_slotNode a_slotFrame := by
      intro e x h1 h2 h3
      refine ih (g + 1) (by omega) e (fun g' hg' i hi => ?_)
      by_cases eq : g' = g
      · subst eq; rw [h2]; exact h3 i hi
      · rw [h1 g' eq]; exact he g' (by omega) i hi
    refine br_f (by rw [eF]; exact nI_ge (by omega) (by omega)) ⟨hv, nm_r (e' := upd a_eager g 0) (by rw [eg]) ?_⟩
    by_cases m2 : mode = 2
    · subst m2
      have h1 : 1 ≤ 2 ^ ar g := Nat.one_le_two_pow
      refine br_t rfl ⟨hv, hv, nm_r (e' := upd (upd a_eager g 0) g (nI (2 ^ ar g - 1))) (by rw [eg, har g (by omega), sa_s1 _ (by omega), sa_s (by omega)]) (nm_r (nI_1 g) (nxt _ (nI (2 ^ ar g - 1)) (fun k hk => (pk_un hk).trans (pk_un hk)) pk_us (fun i hi => ?_)))⟩
      rw [sa_btn hi, Nat.testBit_two_pow_sub_one]
      unfold eg_m
      rw [if_pos rfl, Bool.and_true]
    refine br_f (fun z => m2 ((nI_eq (a := mode) (b := 2) (by omega) (by omega)).mp z)) ?_
    by_cases m1 : mode = 1
    · subst m1
      refine br_t rfl (xw_sm (T := T g) (by omega) hn (har g (by omega)) (hT rfl g (by omega)) ⟨hv, ?_⟩)
      rw [eg]
      refine nm_e (nm_r (nI_1 g) (nxt _ _ (fun k hk => (pk_un hk).trans (pk_un hk)) pk_us (fun i hi => ?_)))
      rw [sm_b hn hi]
      rfl
    · refine br_f (fun z => m1 ((nI_eq (a := mode) (b := 1) (by omega) (by omega)).mp z)) (nm_r (nI_1 g) (nxt _ 0 (fun k hk => pk_un hk) pk_us (fun i hi => ?_)))
      rw [b_0]
      unfold eg_m
      rw [if_neg m2, if_neg m1, Bool.and_false]
theorem xw_ce {F mode : Nat} {ar : Nat → Nat} {T : Nat → Nat → Bool} (hF4 : F ≤ 4) (eF : f_functionCount = nI F) (hm : mode ≤ 2) (ha3 : ∀ h, ar h ≤ 3) (har : ∀ h, h < 4 → a_arity h = nI (ar h)) (hT : mode = 1 → xt_T a_tables T)
    (h : ∀ a_eager : Nat → Int32, (∀ g, g < F → ∀ i, i < 32 → bt (a_eager g) i = (decide (i < ar g) && eg_m mode T ar g i)) → Q (f_literalKind, f_paramKind, f_callKind, f_evalTask, f_applyTask, f_branchTask, f_updateTask, f_storeTask, f_slotAbsent, f_slotDelayed, f_slotReady, f_functionCount, f_nodeLimit, f_depthLimit, f_draftOpen, f_draftFor, f_draftNodes, f_draftCalls, f_treeCount, f_analysed, f_recordValue, f_recordThunks, f_recordNeeds, f_taskTop, f_valueTop, f_frameCount, f_failed, f_thunkCount, f_demanded, a_declared, a_arity, a_size, a_kindAt, a_datumAt, a_childAt, a_treeRoot, a_treeHeight, a_tables, a_marks, a_cellDefined, a_cellValue, a_eager, a_taskKind, a_taskSubject, a_taskFrame, a_valueStack, a_frameDepth, a_slotState, a_slotValue, a_slotNode, a_slotFrame)) : wpX_chooseEager Q (f_literalKind, f_paramKind, f_callKind, f_evalTask, f_applyTask, f_branchTask, f_updateTask, f_storeTask, f_slotAbsent, f_slotDelayed, f_slotReady, f_functionCount, f_nodeLimit, f_depthLimit, f_draftOpen, f_draftFor, f_draftNodes, f_draftCalls, f_treeCount, f_analysed, f_recordValue, f_recordThunks, f_recordNeeds, f_taskTop, f_valueTop, f_frameCount, f_failed, f_thunkCount, f_demanded, a_declared, a_arity, a_size, a_kindAt, a_datumAt, a_childAt, a_treeRoot, a_treeHeight, a_tables, a_marks, a_cellDefined, a_cellValue, a_eager, a_taskKind, a_taskSubject, a_taskFrame, a_valueStack, a_frameDepth, a_slotState, a_slotValue, a_slotNode, a_slotFrame) (nI mode) := by
  unfold wpX_chooseEager
  exact ⟨F + 1, xw_cel hF4 eF hm ha3 har hT h F 0 (by omega) a_eager (fun g' hg' => absurd hg' (Nat.not_lt_zero _))⟩
theorem xw_ll {f n : Nat} {eg : Nat → Nat → Bool} {s0 : Bool} (hf : f < 4) (hn : n ≤ 3) (har : a_arity f = nI n) (heg : ∀ i, i < n → bt (a_eager f) i = eg f i)
    (h : ∀ a_slotState a_slotValue : Nat → Int32, (∀ i, i < n → a_slotState i = (if a_cellDefined i = 0 then 0 else 2) ∧ a_slotValue i = a_cellValue i) → Q (f_literalKind, f_paramKind, f_callKind, f_evalTask, f_applyTask, f_branchTask, f_updateTask, f_storeTask, f_slotAbsent, f_slotDelayed, f_slotReady, f_functionCount, f_nodeLimit, f_depthLimit, f_draftOpen, f_draftFor, f_draftNodes, f_draftCalls, f_treeCount, f_analysed, f_recordValue, f_recordThunks, f_recordNeeds, f_taskTop, f_valueTop, f_frameCount, (y_b (s0 || q_st eg f (cq_q a_cellDefined a_cellValue) n)), (nI (su (fun i => if eg f i = true then 0 else 1) n)), f_demanded, a_declared, a_arity, a_size, a_kindAt, a_datumAt, a_childAt, a_treeRoot, a_treeHeight, a_tables, a_marks, a_cellDefined, a_cellValue, a_eager, a_taskKind, a_taskSubject, a_taskFrame, a_valueStack, a_frameDepth, a_slotState, a_slotValue, a_slotNode, a_slotFrame)) :
    ∀ w i, i + w = n → ∀ a_slotState a_slotValue : Nat → Int32, (∀ i', i' < i → a_slotState i' = (if a_cellDefined i' = 0 then 0 else 2) ∧ a_slotValue i' = a_cellValue i') → wX_loadCells_2 Q (nI f) f_literalKind f_paramKind f_callKind f_evalTask f_applyTask f_branchTask f_updateTask f_storeTask f_slotAbsent f_slotDelayed f_slotReady f_functionCount f_nodeLimit f_depthLimit f_draftOpen f_draftFor f_draftNodes f_draftCalls f_treeCount f_analysed f_recordValue f_recordThunks f_recordNeeds f_taskTop f_valueTop f_frameCount f_demanded (w + 1) (nI i) (y_b (s0 || q_st eg f (cq_q a_cellDefined a_cellValue) i)) (nI (su (fun i => if eg f i = true then 0 else 1) i)) a_declared a_arity a_size a_kindAt a_datumAt a_childAt a_treeRoot a_treeHeight a_tables a_marks a_cellDefined a_cellValue a_eager a_taskKind a_taskSubject a_taskFrame a_valueStack a_frameDepth a_slotState a_slotValue a_slotNode a_slotFrame := by
  have ef : (nI f).toNatClampNeg = f := nI_clamp (by omega)
  have hv : vp_in (nI f) 4 := vp_in_nI hf (by omega)
  intro w
  induction w with
  | zero =>
    intro i hi a_slotState a_slotValue hs
    have : i = n := by omega
    subst this
    exact ⟨hv, br_t (by rw [ef, har]; exact nI_le (Nat.le_refl _) (by omega)) (h a_slotState a_slotValue hs)⟩
  | succ w ih =>
    intro i hi a_slotState a_slotValue hs
    have ei : (nI i).toNatClampNeg = i := nI_clamp (by omega)
    have hv3 : vp_in (nI i) 3 := vp_in_nI (by omega) (by omega)
    have hv189 : vp_in (nI i) 189 := vp_in_nI (by omega) (by omega)
    have eq : q_st eg f (cq_q a_cellDefined a_cellValue) (i + 1) = (q_st eg f (cq_q a_cellDefined a_cellValue) i || (eg f i && !(cq_q a_cellDefined a_cellValue i).1)) := rfl
    have es : su (fun i => if eg f i = true then 0 else 1) (i + 1) = su (fun i => if eg f i = true then 0 else 1) i + (if eg f i = true then 0 else 1) := rfl
    have go : ∀ z : Int32, z = (if a_cellDefined i = 0 then 0 else 2) → wX_loadCells_31 Q (wX_loadCells_2 Q (nI f) f_literalKind f_paramKind f_callKind f_evalTask f_applyTask f_branchTask f_updateTask f_storeTask f_slotAbsent f_slotDelayed f_slotReady f_functionCount f_nodeLimit f_depthLimit f_draftOpen f_draftFor f_draftNodes f_draftCalls f_treeCount f_analysed f_recordValue f_recordThunks f_recordNeeds f_taskTop f_valueTop f_frameCount f_demanded (w + 1)) (nI f) (nI i) z (nI i) f_literalKind f_paramKind f_callKind f_evalTask f_applyTask f_branchTask f_updateTask f_storeTask f_slotAbsent f_slotDelayed f_slotReady f_functionCount f_nodeLimit f_depthLimit f_draftOpen f_draftFor f_draftNodes f_draftCalls f_treeCount f_analysed f_recordValue f_recordThunks f_recordNeeds f_taskTop f_valueTop f_frameCount (y_b (s0 || q_st eg f (cq_q a_cellDefined a_cellValue) i)) (nI (su (fun i => if eg f i = true then 0 else 1) i)) f_demanded a_declared a_arity a_size a_kindAt a_datumAt a_childAt a_treeRoot a_treeHeight a_tables a_marks a_cellDefined a_cellValue a_eager a_taskKind a_taskSubject a_taskFrame a_valueStack a_frameDepth a_slotState a_slotValue a_slotNode a_slotFrame := by
      intro z hz
      have ih' := ih (i + 1) (by omega) (upd a_slotState i z) (upd a_slotValue i (a_cellValue i)) (fun i' hi' => by
        by_cases e : i' = i
        · subst e; rw [pk_us, pk_us]; exact ⟨hz, rfl⟩
        · rw [pk_un e, pk_un e]; exact hs i' (by omega))
      rw [eq, es] at ih'
      unfold wX_loadCells_31
      refine ⟨hv189, nm_r (e' := upd a_slotState i z) (by rw [ei]) ⟨hv3, hv189, nm_r (e' := upd a_slotValue i (a_cellValue i)) (by rw [ei]) ⟨hv, ?_⟩⟩⟩
      have eb := heg i (by omega)
      cases ee : eg f i
      · rw [ee, Bool.false_and, Bool.or_false, if_neg (by decide)] at ih'
        exact br_t (by rw [ef, sa_bz _ (by omega), eb, ee]) (nm_r (nI_1 _) (nm_r (nI_1 i) ih'))
      · rw [ee, Bool.true_and, if_pos rfl, Nat.add_zero] at ih'
        refine br_f (by rw [ef, sa_bz _ (by omega), eb, ee]; decide) ⟨hv3, ?_⟩
        by_cases cd : a_cellDefined i = 0
        · have ec : (cq_q a_cellDefined a_cellValue i).1 = false := by unfold cq_q; rw [if_pos cd]; rfl
          have e4 : (s0 || (q_st eg f (cq_q a_cellDefined a_cellValue) i || !(cq_q a_cellDefined a_cellValue i).1)) = true := by rw [ec]; simp
          rw [e4] at ih'
          exact br_t (by rw [ei]; exact cd) (nm_r (nI_1 i) ih')
        · have ec : (cq_q a_cellDefined a_cellValue i).1 = true := by unfold cq_q; rw [if_neg cd]
          rw [ec, Bool.not_true, Bool.or_false] at ih'
          exact br_f (by rw [ei]; exact cd) (nm_r (nI_1 i) ih')
    refine ⟨hv, br_f (by rw [ef, har]; exact nI_ge (by omega) (by omega)) ⟨hv3, ?_⟩⟩
    by_cases cd : a_cellDefined i = 0
    · exact br_t (by rw [ei]; exact cd) (go 0 (by rw [if_pos cd]))
    · exact br_f (by rw [ei]; exact cd) (go 2 (by rw [if_neg cd]))
theorem xw_lc {f n : Nat} {eg : Nat → Nat → Bool} {s0 : Bool} (hf : f < 4) (hn : n ≤ 3) (har : a_arity f = nI n) (heg : ∀ i, i < n → bt (a_eager f) i = eg f i)
    (h : ∀ a_slotState a_slotValue : Nat → Int32, (∀ i, i < n → a_slotState i = (if a_cellDefined i = 0 then 0 else 2) ∧ a_slotValue i = a_cellValue i) → Q (f_literalKind, f_paramKind, f_callKind, f_evalTask, f_applyTask, f_branchTask, f_updateTask, f_storeTask, f_slotAbsent, f_slotDelayed, f_slotReady, f_functionCount, f_nodeLimit, f_depthLimit, f_draftOpen, f_draftFor, f_draftNodes, f_draftCalls, f_treeCount, f_analysed, f_recordValue, f_recordThunks, f_recordNeeds, f_taskTop, f_valueTop, f_frameCount, (y_b (s0 || q_st eg f (cq_q a_cellDefined a_cellValue) n)), (nI (su (fun i => if eg f i = true then 0 else 1) n)), f_demanded, a_declared, a_arity, a_size, a_kindAt, a_datumAt, a_childAt, a_treeRoot, a_treeHeight, a_tables, a_marks, a_cellDefined, a_cellValue, a_eager, a_taskKind, a_taskSubject, a_taskFrame, a_valueStack, a_frameDepth, a_slotState, a_slotValue, a_slotNode, a_slotFrame)) :
    wpX_loadCells Q (f_literalKind, f_paramKind, f_callKind, f_evalTask, f_applyTask, f_branchTask, f_updateTask, f_storeTask, f_slotAbsent, f_slotDelayed, f_slotReady, f_functionCount, f_nodeLimit, f_depthLimit, f_draftOpen, f_draftFor, f_draftNodes, f_draftCalls, f_treeCount, f_analysed, f_recordValue, f_recordThunks, f_recordNeeds, f_taskTop, f_valueTop, f_frameCount, (y_b s0), 0, f_demanded, a_declared, a_arity, a_size, a_kindAt, a_datumAt, a_childAt, a_treeRoot, a_treeHeight, a_tables, a_marks, a_cellDefined, a_cellValue, a_eager, a_taskKind, a_taskSubject, a_taskFrame, a_valueStack, a_frameDepth, a_slotState, a_slotValue, a_slotNode, a_slotFrame) (nI f) := by
  unfold wpX_loadCells
  refine ⟨n + 1, ?_⟩
  have L := xw_ll (s0 := s0) (eg := eg) hf hn har heg h n 0 (by omega) a_slotState a_slotValue (fun i' hi' => absurd hi' (Nat.not_lt_zero _))
  have e : (s0 || q_st eg f (cq_q a_cellDefined a_cellValue) 0) = s0 := Bool.or_false s0
  rw [e] at L
  exact L
theorem xw_sm2 {f n z D : Nat} {eg : Nat → Nat → Bool} (hf : f < 4) (hn : n ≤ 3) (har : a_arity f = nI n) (heg : ∀ i, i < n → bt (a_eager f) i = eg f i) (hz : a_size f = nI z) (hz16 : z ≤ 16) (hD : D ≤ 6)
    (h1 : (D = 0 ∨ z = 0 ∨ q_st eg f (cq_q a_cellDefined a_cellValue) n = true) → ∀ f_thunkCount (a_slotState a_slotValue : Nat → Int32), Q (f_literalKind, f_paramKind, f_callKind, f_evalTask, f_applyTask, f_branchTask, f_updateTask, f_storeTask, f_slotAbsent, f_slotDelayed, f_slotReady, f_functionCount, f_nodeLimit, f_depthLimit, f_draftOpen, f_draftFor, f_draftNodes, f_draftCalls, f_treeCount, f_analysed, f_recordValue, f_recordThunks, f_recordNeeds, 0, 0, 1, 1, f_thunkCount, (a_eager f), a_declared, a_arity, a_size, a_kindAt, a_datumAt, a_childAt, a_treeRoot, a_treeHeight, a_tables, a_marks, a_cellDefined, a_cellValue, a_eager, a_taskKind, a_taskSubject, a_taskFrame, a_valueStack, (upd a_frameDepth 0 (nI D)), a_slotState, a_slotValue, a_slotNode, a_slotFrame))
    (h0 : 1 ≤ D → 0 < z → q_st eg f (cq_q a_cellDefined a_cellValue) n = false → ∀ a_slotState a_slotValue : Nat → Int32, (∀ i, i < n → a_slotState i = (if a_cellDefined i = 0 then 0 else 2) ∧ a_slotValue i = a_cellValue i) → Q (f_literalKind, f_paramKind, f_callKind, f_evalTask, f_applyTask, f_branchTask, f_updateTask, f_storeTask, f_slotAbsent, f_slotDelayed, f_slotReady, f_functionCount, f_nodeLimit, f_depthLimit, f_draftOpen, f_draftFor, f_draftNodes, f_draftCalls, f_treeCount, f_analysed, f_recordValue, f_recordThunks, f_recordNeeds, 1, 0, 1, 0, (nI (su (fun i => if eg f i = true then 0 else 1) n)), (a_eager f), a_declared, a_arity, a_size, a_kindAt, a_datumAt, a_childAt, a_treeRoot, a_treeHeight, a_tables, a_marks, a_cellDefined, a_cellValue, a_eager, (upd a_taskKind 0 0), (upd a_taskSubject 0 (nI (16 * f + (z - 1)))), (upd a_taskFrame 0 0), a_valueStack, (upd a_frameDepth 0 (nI D)), a_slotState, a_slotValue, a_slotNode, a_slotFrame)) :
    wpX_startMachine Q (f_literalKind, f_paramKind, f_callKind, f_evalTask, f_applyTask, f_branchTask, f_updateTask, f_storeTask, f_slotAbsent, f_slotDelayed, f_slotReady, f_functionCount, f_nodeLimit, f_depthLimit, f_draftOpen, f_draftFor, f_draftNodes, f_draftCalls, f_treeCount, f_analysed, f_recordValue, f_recordThunks, f_recordNeeds, f_taskTop, f_valueTop, f_frameCount, f_failed, f_thunkCount, f_demanded, a_declared, a_arity, a_size, a_kindAt, a_datumAt, a_childAt, a_treeRoot, a_treeHeight, a_tables, a_marks, a_cellDefined, a_cellValue, a_eager, a_taskKind, a_taskSubject, a_taskFrame, a_valueStack, a_frameDepth, a_slotState, a_slotValue, a_slotNode, a_slotFrame) (nI f) (nI D) := by
  unfold wpX_startMachine
  have ef : (nI f).toNatClampNeg = f := nI_clamp (by omega)
  have hv : vp_in (nI f) 4 := vp_in_nI hf (by omega)
  have go : ∀ s0 : Bool, (s0 = true ↔ (D = 0 ∨ z = 0)) → wX_startMachine_56 Q (nI f) (y_b s0) f_literalKind f_paramKind f_callKind f_evalTask f_applyTask f_branchTask f_updateTask f_storeTask f_slotAbsent f_slotDelayed f_slotReady f_functionCount f_nodeLimit f_depthLimit f_draftOpen f_draftFor f_draftNodes f_draftCalls f_treeCount f_analysed f_recordValue f_recordThunks f_recordNeeds 0 0 1 f_failed 0 (a_eager f) a_declared a_arity a_size a_kindAt a_datumAt a_childAt a_treeRoot a_treeHeight a_tables a_marks a_cellDefined a_cellValue a_eager a_taskKind a_taskSubject a_taskFrame a_valueStack (upd a_frameDepth 0 (nI D)) a_slotState a_slotValue a_slotNode a_slotFrame := by
    intro s0 hs0
    unfold wX_startMachine_56
    refine ⟨(nb_y s0).1, (nb_y s0).2, ?_⟩
    refine xw_lc (s0 := s0) (eg := eg) hf hn har heg (fun ss sv hss => ?_)
    cases e : (s0 || q_st eg f (cq_q a_cellDefined a_cellValue) n)
    · have z1 : s0 = false := by
        cases e2 : s0
        · rfl
        · rw [e2] at e; exact absurd e (by simp)
      have z2 : q_st eg f (cq_q a_cellDefined a_cellValue) n = false := by
        cases e2 : q_st eg f (cq_q a_cellDefined a_cellValue) n
        · rfl
        · rw [e2] at e; exact absurd e (by simp)
      have z3 : ¬ (D = 0 ∨ z = 0) := fun y => by rw [hs0.mpr y] at z1; exact absurd z1 (by decide)
      refine br_t rfl ⟨hv, ?_⟩
      show wpX_pushTask Q _ 0 ((nI f * 16 + a_size (nI f).toNatClampNeg) - 1) 0
      rw [ef, hz, sa_m16, nI_add, sa_s (by omega)]
      have ez : 16 * f + z - 1 = 16 * f + (z - 1) := by omega
      rw [ez]
      exact xw_pt (k := 0) (by omega) _ _ _ (h0 (by omega) (by omega) z2 ss sv hss)
    · refine br_f (by show ¬ y_b true = 0; decide) (h1 ?_ _ ss sv)
      rcases (Bool.or_eq_true _ _).mp e with y | y
      · rcases hs0.mp y with y | y
        · exact Or.inl y
        · exact Or.inr (Or.inl y)
      · exact Or.inr (Or.inr y)
  refine ⟨hv, nm_r (e' := a_eager f) (by rw [ef]) (nm_e ?_)⟩
  by_cases d0 : D = 0
  · refine br_t (by rw [d0]; rfl) ?_
    unfold wX_startMachine_51
    exact go true ⟨fun _ => Or.inl d0, fun _ => rfl⟩
  · refine br_f (nI_ne0 (by omega) (by omega)) ⟨hv, ?_⟩
    by_cases z0 : z = 0
    · refine br_t (by rw [ef, hz, z0]; rfl) ?_
      unfold wX_startMachine_51
      exact go true ⟨fun _ => Or.inr z0, fun _ => rfl⟩
    · exact br_f (by rw [ef, hz]; exact nI_ne0 (by omega) (by omega)) (go false ⟨fun z => ff_t z, fun z => by omega⟩)
end
end
section
/-! X's run as a whole -/
def q_cn (kd dt : Nat → Int32) (ar : Nat → Nat) : Nat → Nat → Nat := fun j i => 16 * (j / 16) + sk_c (q_o kd dt ar (16 * (j / 16))) (j % 16) i
theorem q_cn_e {kd dt : Nat → Int32} {ar : Nat → Nat} : ∀ g p, g < 4 → p < 16 → q_cn kd dt ar (16 * g + p) = fun i => 16 * g + sk_c (q_o kd dt ar (16 * g)) p i := by
  intro g p _ hp
  funext i
  unfold q_cn
  rw [show (16 * g + p) / 16 = g from by omega, show (16 * g + p) % 16 = p from by omega]
theorem kk_6 : ∀ D, D ≤ 6 → kk 1 (D - 1) ≤ 31 ∧ kk 34 (D - 1) ≤ 1054 ∧ kk 16 (D - 1) ≤ 496 := by decide
theorem P_xr {F : Nat} {dc : Nat → Bool} {ar sz : Nat → Nat} {eg : Nat → Nat → Bool} {a_declared a_arity a_size a_kindAt a_datumAt a_childAt a_eager b_arity b_bodySize b_bodyKind b_bodyData : Nat → Int32} (hP : rl_P F dc ar sz a_declared a_arity a_size a_kindAt a_datumAt a_childAt b_arity b_bodySize b_bodyKind b_bodyData) (he : ∀ g, g < F → ∀ i, i < 32 → bt (a_eager g) i = (decide (i < ar g) && eg g i)) : xr_ok a_arity a_size a_kindAt a_datumAt a_childAt a_eager ar sz eg (q_cn a_kindAt a_datumAt ar) := by
  refine ⟨fun h hh => ⟨hP.1 h, P_ar hP h hh, (hP.2.2.1 h hh).1, (hP.2.2.1 h hh).2.2, fun i hi => ?_⟩, fun j hj i hi => ?_⟩
  · have h3 := hP.1 h
    cases hd : dc h
    · have := ((hP.2.1 h hh).2 hd).1
      omega
    · have := ((hP.2.1 h hh).1 hd).1
      rw [he h this i (by omega), decide_eq_true hi, Bool.true_and]
  · obtain ⟨_, g, p, hg, hp, rfl⟩ := hj
    have hs := (hP.2.2.1 g hg).2.2
    rw [q_cn_e g p hg (by omega)]
    exact (hP.2.2.2.2 g hg).2.2 p hp i hi
section
variable {Q : SX → Prop} {f_literalKind f_paramKind f_callKind f_evalTask f_applyTask f_branchTask f_updateTask f_storeTask f_slotAbsent f_slotDelayed f_slotReady f_functionCount f_nodeLimit f_depthLimit f_draftOpen f_draftFor f_draftNodes f_draftCalls f_treeCount f_analysed f_recordValue f_recordThunks f_recordNeeds f_taskTop f_valueTop f_frameCount f_failed f_thunkCount f_demanded : Int32} {a_declared a_arity a_size a_kindAt a_datumAt a_childAt a_treeRoot a_treeHeight a_tables a_marks a_cellDefined a_cellValue a_eager a_taskKind a_taskSubject a_taskFrame a_valueStack a_frameDepth a_slotState a_slotValue a_slotNode a_slotFrame : Nat → Int32}
theorem xw_mr {ar sz : Nat → Nat} {eg : Nat → Nat → Bool} {f D tc : Nat} {dm : Int32} {fd : Nat → Int32} (hp : pg_ok a_kindAt a_datumAt ar sz) (ho : xr_ok a_arity a_size a_kindAt a_datumAt a_childAt a_eager ar sz eg (q_cn a_kindAt a_datumAt ar)) (hf : f < 4) (hD1 : 1 ≤ D) (hD6 : D ≤ 6) (hs : 0 < sz f)
    (hss : ∀ i, i < ar f → a_slotState i = (if a_cellDefined i = 0 then 0 else 2) ∧ a_slotValue i = a_cellValue i)
    (hF : (q_bd a_kindAt a_datumAt ar sz eg D f (cq_q a_cellDefined a_cellValue)).1 = false → xr_F Q f_literalKind f_paramKind f_callKind f_evalTask f_applyTask f_branchTask f_updateTask f_storeTask f_slotAbsent f_slotDelayed f_slotReady f_functionCount f_nodeLimit f_depthLimit f_draftOpen f_draftFor f_draftNodes f_draftCalls f_treeCount f_analysed f_recordValue f_recordThunks f_recordNeeds a_declared a_arity a_size a_kindAt a_datumAt a_childAt a_treeRoot a_treeHeight a_tables a_marks a_cellDefined a_cellValue a_eager)
    (hK : (q_bd a_kindAt a_datumAt ar sz eg D f (cq_q a_cellDefined a_cellValue)).1 = true → ∀ (f_frameCount dm' : Int32) (a_taskKind a_taskSubject a_taskFrame a_valueStack a_frameDepth a_slotState a_slotValue a_slotNode a_slotFrame : Nat → Int32), a_valueStack 0 = (q_bd a_kindAt a_datumAt ar sz eg D f (cq_q a_cellDefined a_cellValue)).2.1 → (∀ i, i < 3 → (bt dm' i = true ↔ bt dm i = true ∨ bt (q_bd a_kindAt a_datumAt ar sz eg D f (cq_q a_cellDefined a_cellValue)).2.2.1 i = true)) →
      Q (f_literalKind, f_paramKind, f_callKind, f_evalTask, f_applyTask, f_branchTask, f_updateTask, f_storeTask, f_slotAbsent, f_slotDelayed, f_slotReady, f_functionCount, f_nodeLimit, f_depthLimit, f_draftOpen, f_draftFor, f_draftNodes, f_draftCalls, f_treeCount, f_analysed, f_recordValue, f_recordThunks, f_recordNeeds, 0, (nI 1), f_frameCount, 0, (nI (tc + (q_bd a_kindAt a_datumAt ar sz eg D f (cq_q a_cellDefined a_cellValue)).2.2.2)), dm', a_declared, a_arity, a_size, a_kindAt, a_datumAt, a_childAt, a_treeRoot, a_treeHeight, a_tables, a_marks, a_cellDefined, a_cellValue, a_eager, a_taskKind, a_taskSubject, a_taskFrame, a_valueStack, a_frameDepth, a_slotState, a_slotValue, a_slotNode, a_slotFrame)) :
    wpX_runMachine Q (f_literalKind, f_paramKind, f_callKind, f_evalTask, f_applyTask, f_branchTask, f_updateTask, f_storeTask, f_slotAbsent, f_slotDelayed, f_slotReady, f_functionCount, f_nodeLimit, f_depthLimit, f_draftOpen, f_draftFor, f_draftNodes, f_draftCalls, f_treeCount, f_analysed, f_recordValue, f_recordThunks, f_recordNeeds, 1, 0, 1, 0, (nI tc), dm, a_declared, a_arity, a_size, a_kindAt, a_datumAt, a_childAt, a_treeRoot, a_treeHeight, a_tables, a_marks, a_cellDefined, a_cellValue, a_eager, (upd a_taskKind 0 0), (upd a_taskSubject 0 (nI (16 * f + (sz f - 1)))), (upd a_taskFrame 0 0), a_valueStack, (upd fd 0 (nI D)), a_slotState, a_slotValue, a_slotNode, a_slotFrame) := by
  unfold wpX_runMachine
  refine ⟨4097, ?_⟩
  obtain ⟨s0, x1, x2, x3, x4, x5, x6, x7, x8, x9⟩ : ∃ s0 : HS, h_fc s0 = 1 ∧ h_x s0 = 0 ∧ h_tc s0 = tc ∧ h_dm s0 = dm ∧ h_fd s0 = upd fd 0 (nI D) ∧ h_ss s0 = a_slotState ∧ h_sv s0 = a_slotValue ∧ h_sn s0 = a_slotNode ∧ h_sf s0 = a_slotFrame := ⟨(1, 0, tc, dm, upd fd 0 (nI D), a_slotState, a_slotValue, a_slotNode, a_slotFrame), rfl, rfl, rfl, rfl, rfl, rfl, rfl, rfl, rfl⟩
  obtain ⟨f0, y1, y2, y3, y4⟩ : ∃ f0 : FR, fr_i f0 = 0 ∧ fr_f f0 = f ∧ fr_d f0 = D ∧ fr_e f0 = cq_q a_cellDefined a_cellValue := ⟨(0, f, D, cq_q a_cellDefined a_cellValue, fun _ => 0), rfl, rfl, rfl, rfl⟩
  have hsc : c_sc a_kindAt a_datumAt ar sz eg [f0] := ⟨y1, by omega, by omega, by rw [y2]; exact hs⟩
  have hE := ex_main (RM := xr_R Q f_literalKind f_paramKind f_callKind f_evalTask f_applyTask f_branchTask f_updateTask f_storeTask f_slotAbsent f_slotDelayed f_slotReady f_functionCount f_nodeLimit f_depthLimit f_draftOpen f_draftFor f_draftNodes f_draftCalls f_treeCount f_analysed f_recordValue f_recordThunks f_recordNeeds a_declared a_arity a_size a_kindAt a_datumAt a_childAt a_treeRoot a_treeHeight a_tables a_marks a_cellDefined a_cellValue a_eager) (RF := xr_F Q f_literalKind f_paramKind f_callKind f_evalTask f_applyTask f_branchTask f_updateTask f_storeTask f_slotAbsent f_slotDelayed f_slotReady f_functionCount f_nodeLimit f_depthLimit f_draftOpen f_draftFor f_draftNodes f_draftCalls f_treeCount f_analysed f_recordValue f_recordThunks f_recordNeeds a_declared a_arity a_size a_kindAt a_datumAt a_childAt a_treeRoot a_treeHeight a_tables a_marks a_cellDefined a_cellValue a_eager) hp (xr_ev ho) (xr_tk ho) q_cn_e D f0 [] y3 hD6 hsc trivial (sz f - 1) (by rw [y2]; omega)
  have eq : ex_q a_kindAt a_datumAt ar sz eg f0 (sz f - 1) = q_bd a_kindAt a_datumAt ar sz eg D f (cq_q a_cellDefined a_cellValue) := by
    obtain ⟨d, rfl⟩ : ∃ d, D = d + 1 := ⟨D - 1, by omega⟩
    rw [q_bd_s a_kindAt a_datumAt ar sz eg d f _ hs]
    unfold ex_q
    rw [y2, y3, y4]
  have e3 : ∀ i, 3 * fr_i f0 + i = i := fun i => by rw [y1]; omega
  have hcd : c_cd ar s0 [f0] := by
    refine ⟨⟨by rw [x5, y1, y3]; exact pk_us, fun i hi => ?_⟩, fun i hi => ?_⟩
    · rw [y2] at hi
      rw [e3, x6, x7, y4]
      obtain ⟨g1, g2⟩ := hss i hi
      rw [g1, g2]
      unfold cq_q
      by_cases cd : a_cellDefined i = 0
      · rw [if_pos cd, if_pos cd]
        exact Or.inr (Or.inr ⟨rfl, rfl⟩)
      · rw [if_neg cd, if_neg cd]
        exact Or.inl ⟨rfl, rfl, rfl⟩
    · rw [y2] at hi
      rw [e3, x6, (hss i hi).1]
      by_cases cd : a_cellDefined i = 0
      · rw [if_pos cd]; exact i0_1
      · rw [if_neg cd]; exact i2_1
  have rF := w_w_root hp (al := 0) (a := 1) (d := D) hf hs
  have rS := w_w_root hp (al := 2) (a := 34) (d := D) hf hs
  have rN := w_w_root hp (al := 1) (a := 16) (d := D) hf hs
  obtain ⟨k1, k2, k3⟩ := kk_6 D hD6
  have p0 : ∀ w s, c_pt ar w s [f0] = 0 := fun _ _ => rfl
  have hb : ex_b a_kindAt a_datumAt ar f0 [] s0 ([] : List TK).length ([] : List Int32).length (sz f - 1) := by
    refine ⟨?_, ?_, ?_⟩
    · rw [p0, x1, y2, y3]; omega
    · rw [p0, x2, y2, y3]; show 0 + 0 + 0 + _ ≤ _; omega
    · rw [p0, y2, y3]; show 0 + 0 + _ ≤ _; omega
  have R := hE s0 [] [] hcd (by rw [x1, y1]; omega) hb (fun z => hF (by rw [← eq]; exact z)) (fun z s' hs' => ?_)
  · have R' := R 4097 (upd a_taskKind 0 0) (upd a_taskSubject 0 (nI (16 * f + (sz f - 1)))) (upd a_taskFrame 0 0) a_valueStack (by omega) (by show 1 ≤ 4096; omega) (by show 0 ≤ 1024; omega) ⟨⟨pk_us, by rw [y2]; exact pk_us, by rw [y1]; exact pk_us⟩, trivial⟩ trivial
    rw [x1, x2, x3, x4, x5, x6, x7, x8, x9] at R'
    exact R'
  · intro n tk ts tf vs hn hT hV hrT hrV
    unfold ex_s at hs'
    rw [eq] at z hs' hrV
    obtain ⟨_, _, _, _, g5, _, g7, _, g9⟩ := hs'
    rw [p0, p0, x2, y2, y3] at g9
    rw [p0, p0, x3] at g7
    have k := hK z (nI (h_fc s')) (h_dm s') tk ts tf vs (h_fd s') (h_ss s') (h_sv s') (h_sn s') (h_sf s') hrV.1 (fun i hi => by
      have := g5 i hi
      rw [c_rd_0 y1, c_rd_0 y1, x4] at this
      exact this)
    have etc : h_tc s' = tc + (q_bd a_kindAt a_datumAt ar sz eg D f (cq_q a_cellDefined a_cellValue)).2.2.2 := by omega
    rw [← etc] at k
    obtain ⟨m, rfl⟩ : ∃ m, n = m + 1 := ⟨n - 1, by omega⟩
    by_cases c : (4096 : Int32) ≤ nI (h_x s')
    · exact br_t c k
    · exact br_f c (br_t (by show nI 0 ≤ 0; decide) k)
theorem xw_rec1 {R : Int32 → SX → Prop} (h : R 2 (f_literalKind, f_paramKind, f_callKind, f_evalTask, f_applyTask, f_branchTask, f_updateTask, f_storeTask, f_slotAbsent, f_slotDelayed, f_slotReady, f_functionCount, f_nodeLimit, f_depthLimit, f_draftOpen, f_draftFor, f_draftNodes, f_draftCalls, f_treeCount, f_analysed, 0, (-1), 0, f_taskTop, f_valueTop, f_frameCount, 1, f_thunkCount, f_demanded, a_declared, a_arity, a_size, a_kindAt, a_datumAt, a_childAt, a_treeRoot, a_treeHeight, a_tables, a_marks, a_cellDefined, a_cellValue, a_eager, a_taskKind, a_taskSubject, a_taskFrame, a_valueStack, a_frameDepth, a_slotState, a_slotValue, a_slotNode, a_slotFrame)) : wpX_recordOutcome R (f_literalKind, f_paramKind, f_callKind, f_evalTask, f_applyTask, f_branchTask, f_updateTask, f_storeTask, f_slotAbsent, f_slotDelayed, f_slotReady, f_functionCount, f_nodeLimit, f_depthLimit, f_draftOpen, f_draftFor, f_draftNodes, f_draftCalls, f_treeCount, f_analysed, f_recordValue, f_recordThunks, f_recordNeeds, f_taskTop, f_valueTop, f_frameCount, 1, f_thunkCount, f_demanded, a_declared, a_arity, a_size, a_kindAt, a_datumAt, a_childAt, a_treeRoot, a_treeHeight, a_tables, a_marks, a_cellDefined, a_cellValue, a_eager, a_taskKind, a_taskSubject, a_taskFrame, a_valueStack, a_frameDepth, a_slotState, a_slotValue, a_slotNode, a_slotFrame) := by
  unfold wpX_recordOutcome
  exact br_f (by decide) h
theorem xw_rec0 {R : Int32 → SX → Prop} (h : R 1 (f_literalKind, f_paramKind, f_callKind, f_evalTask, f_applyTask, f_branchTask, f_updateTask, f_storeTask, f_slotAbsent, f_slotDelayed, f_slotReady, f_functionCount, f_nodeLimit, f_depthLimit, f_draftOpen, f_draftFor, f_draftNodes, f_draftCalls, f_treeCount, f_analysed, (a_valueStack 0), f_thunkCount, f_demanded, f_taskTop, (nI 0), f_frameCount, 0, f_thunkCount, f_demanded, a_declared, a_arity, a_size, a_kindAt, a_datumAt, a_childAt, a_treeRoot, a_treeHeight, a_tables, a_marks, a_cellDefined, a_cellValue, a_eager, a_taskKind, a_taskSubject, a_taskFrame, a_valueStack, a_frameDepth, a_slotState, a_slotValue, a_slotNode, a_slotFrame)) : wpX_recordOutcome R (f_literalKind, f_paramKind, f_callKind, f_evalTask, f_applyTask, f_branchTask, f_updateTask, f_storeTask, f_slotAbsent, f_slotDelayed, f_slotReady, f_functionCount, f_nodeLimit, f_depthLimit, f_draftOpen, f_draftFor, f_draftNodes, f_draftCalls, f_treeCount, f_analysed, f_recordValue, f_recordThunks, f_recordNeeds, f_taskTop, (nI 1), f_frameCount, 0, f_thunkCount, f_demanded, a_declared, a_arity, a_size, a_kindAt, a_datumAt, a_childAt, a_treeRoot, a_treeHeight, a_tables, a_marks, a_cellDefined, a_cellValue, a_eager, a_taskKind, a_taskSubject, a_taskFrame, a_valueStack, a_frameDepth, a_slotState, a_slotValue, a_slotNode, a_slotFrame) := by
  unfold wpX_recordOutcome
  exact br_t rfl (xw_pop (k := 0) (by omega) h)
theorem xw_stop {n : Nat} (h : Q (f_literalKind, f_paramKind, f_callKind, f_evalTask, f_applyTask, f_branchTask, f_updateTask, f_storeTask, f_slotAbsent, f_slotDelayed, f_slotReady, f_functionCount, f_nodeLimit, f_depthLimit, f_draftOpen, f_draftFor, f_draftNodes, f_draftCalls, f_treeCount, f_analysed, f_recordValue, f_recordThunks, f_recordNeeds, 0, f_valueTop, f_frameCount, 1, f_thunkCount, f_demanded, a_declared, a_arity, a_size, a_kindAt, a_datumAt, a_childAt, a_treeRoot, a_treeHeight, a_tables, a_marks, a_cellDefined, a_cellValue, a_eager, a_taskKind, a_taskSubject, a_taskFrame, a_valueStack, a_frameDepth, a_slotState, a_slotValue, a_slotNode, a_slotFrame)) : wX_runMachine_2 Q (n + 1) 0 f_literalKind f_paramKind f_callKind f_evalTask f_applyTask f_branchTask f_updateTask f_storeTask f_slotAbsent f_slotDelayed f_slotReady f_functionCount f_nodeLimit f_depthLimit f_draftOpen f_draftFor f_draftNodes f_draftCalls f_treeCount f_analysed f_recordValue f_recordThunks f_recordNeeds 0 f_valueTop f_frameCount 1 f_thunkCount f_demanded a_declared a_arity a_size a_kindAt a_datumAt a_childAt a_treeRoot a_treeHeight a_tables a_marks a_cellDefined a_cellValue a_eager a_taskKind a_taskSubject a_taskFrame a_valueStack a_frameDepth a_slotState a_slotValue a_slotNode a_slotFrame := br_f (by decide) (br_t (by decide) h)
/-- the whole of run behind its checks -/
theorem xw_run {R : Int32 → SX → Prop} {F DL mode f : Nat} {p2 : Int32} {dc : Nat → Bool} {ar sz : Nat → Nat} {T : Nat → Nat → Bool} {b_arity b_bodySize b_bodyKind b_bodyData : Nat → Int32}
    (hF4 : F ≤ 4) (eF : f_functionCount = nI F) (eD : f_depthLimit = nI DL) (hDL : DL ≤ 6) (hm : mode ≤ 2) (hP : rl_P F dc ar sz a_declared a_arity a_size a_kindAt a_datumAt a_childAt b_arity b_bodySize b_bodyKind b_bodyData) (hT : mode = 1 → xt_T a_tables T) (hfF : f < F)
    (D : Nat) (hD : z_cl p2 0 (nI DL) = nI D) (hDD : D ≤ DL)
    (q : QQ) (hq : q = q_cr ar sz (eg_m mode T ar) (q_bd a_kindAt a_datumAt ar sz (eg_m mode T ar) D) f (cq_q a_cellDefined a_cellValue))
    (h2 : q.1 = false → ∀ (f_taskTop f_valueTop f_frameCount f_failed f_thunkCount f_demanded : Int32) (a_eager a_taskKind a_taskSubject a_taskFrame a_valueStack a_frameDepth a_slotState a_slotValue a_slotNode a_slotFrame : Nat → Int32), R 2 (f_literalKind, f_paramKind, f_callKind, f_evalTask, f_applyTask, f_branchTask, f_updateTask, f_storeTask, f_slotAbsent, f_slotDelayed, f_slotReady, f_functionCount, f_nodeLimit, f_depthLimit, f_draftOpen, f_draftFor, f_draftNodes, f_draftCalls, f_treeCount, f_analysed, 0, (-1), 0, f_taskTop, f_valueTop, f_frameCount, f_failed, f_thunkCount, f_demanded, a_declared, a_arity, a_size, a_kindAt, a_datumAt, a_childAt, a_treeRoot, a_treeHeight, a_tables, a_marks, a_cellDefined, a_cellValue, a_eager, a_taskKind, a_taskSubject, a_taskFrame, a_valueStack, a_frameDepth, a_slotState, a_slotValue, a_slotNode, a_slotFrame))
    (h1 : q.1 = true → ∀ (f_taskTop f_valueTop f_frameCount f_failed f_thunkCount f_demanded : Int32) (a_eager a_taskKind a_taskSubject a_taskFrame a_valueStack a_frameDepth a_slotState a_slotValue a_slotNode a_slotFrame : Nat → Int32), (∀ i, i < 3 → bt f_demanded i = bt (q_set ar (eg_m mode T ar) f (q_bd a_kindAt a_datumAt ar sz (eg_m mode T ar) D f (cq_q a_cellDefined a_cellValue))) i) → R 1 (f_literalKind, f_paramKind, f_callKind, f_evalTask, f_applyTask, f_branchTask, f_updateTask, f_storeTask, f_slotAbsent, f_slotDelayed, f_slotReady, f_functionCount, f_nodeLimit, f_depthLimit, f_draftOpen, f_draftFor, f_draftNodes, f_draftCalls, f_treeCount, f_analysed, q.2.1, (nI q.2.2.2), f_demanded, f_taskTop, f_valueTop, f_frameCount, f_failed, f_thunkCount, f_demanded, a_declared, a_arity, a_size, a_kindAt, a_datumAt, a_childAt, a_treeRoot, a_treeHeight, a_tables, a_marks, a_cellDefined, a_cellValue, a_eager, a_taskKind, a_taskSubject, a_taskFrame, a_valueStack, a_frameDepth, a_slotState, a_slotValue, a_slotNode, a_slotFrame)) :
    wX_run_34 R (nI f) (nI mode) p2 f_literalKind f_paramKind f_callKind f_evalTask f_applyTask f_branchTask f_updateTask f_storeTask f_slotAbsent f_slotDelayed f_slotReady f_functionCount f_nodeLimit f_depthLimit f_draftOpen f_draftFor f_draftNodes f_draftCalls f_treeCount f_analysed f_recordValue f_recordThunks f_recordNeeds f_taskTop f_valueTop f_frameCount f_failed f_thunkCount f_demanded a_declared a_arity a_size a_kindAt a_datumAt a_childAt a_treeRoot a_treeHeight a_tables a_marks a_cellDefined a_cellValue a_eager a_taskKind a_taskSubject a_taskFrame a_valueStack a_frameDepth a_slotState a_slotValue a_slotNode a_slotFrame := by
  unfold wX_run_34
  have hp := P_ok hP
  have h3 := hP.1 f
  rw [eD]
  refine xw_cl ?_
  have hD' : z_cl p2 0 (nI DL) = nI D := hD
  rw [hD', ← eD]
  refine xw_ce hF4 eF hm hP.1 (P_ar hP) hT (fun a_eager he => ?_)
  have ho := P_xr (eg := eg_m mode T ar) hP he
  obtain ⟨o1, o2, o3, o4, o5⟩ := ho.1 f (by omega)
  refine xw_sm2 (by omega) h3 o2 o5 o3 o4 (by omega) (fun c f_thunkCount a_slotState a_slotValue => ?_) (fun c1 c2 c3 a_slotState a_slotValue hss => ?_)
  · unfold wpX_runMachine
    refine ⟨1, xw_stop (xw_rec1 (h2 ?_ _ _ _ _ _ _ _ _ _ _ _ _ _ _ _ _))⟩
    rw [hq]
    unfold q_cr
    by_cases z0 : sz f = 0
    · rw [if_pos z0]; rfl
    rw [if_neg z0]
    by_cases zs : q_st (eg_m mode T ar) f (cq_q a_cellDefined a_cellValue) (ar f) = true
    · rw [if_pos zs]; rfl
    rw [if_neg zs]
    have d0 : D = 0 := by
      rcases c with c | c | c
      · exact c
      · exact absurd c z0
      · exact absurd c zs
    subst d0
    rfl
  · have hqe : q = q_cv ar (eg_m mode T ar) f (cq_q a_cellDefined a_cellValue) (q_bd a_kindAt a_datumAt ar sz (eg_m mode T ar) D f (cq_q a_cellDefined a_cellValue)) := by
      rw [hq]
      unfold q_cr
      rw [if_neg (by omega), if_neg (by rw [c3]; decide)]
    unfold q_cv at hqe
    refine xw_mr hp ho (by omega) c1 (by omega) c2 hss (fun z => ?_) (fun z => ?_)
    · rw [if_neg (by rw [z]; decide)] at hqe
      intro f_taskTop f_valueTop f_frameCount f_thunkCount f_demanded a_taskKind a_taskSubject a_taskFrame a_valueStack a_frameDepth a_slotState a_slotValue a_slotNode a_slotFrame
      exact xw_rec1 (h2 (by rw [hqe]; rfl) _ _ _ _ _ _ _ _ _ _ _ _ _ _ _ _)
    · rw [if_pos z] at hqe
      intro f_frameCount dm' a_taskKind a_taskSubject a_taskFrame a_valueStack a_frameDepth a_slotState a_slotValue a_slotNode a_slotFrame hv hdm
      refine xw_rec0 ?_
      have k := h1 (by rw [hqe]) 0 (nI 0) f_frameCount 0 (nI (su (fun i => if eg_m mode T ar f i = true then 0 else 1) (ar f) + (q_bd a_kindAt a_datumAt ar sz (eg_m mode T ar) D f (cq_q a_cellDefined a_cellValue)).2.2.2)) dm' a_eager a_taskKind a_taskSubject a_taskFrame a_valueStack a_frameDepth a_slotState a_slotValue a_slotNode a_slotFrame (fun i hi => ?_)
      · have ev : q.2.1 = a_valueStack 0 := by rw [hqe, hv]
        have ec : q.2.2.2 = su (fun i => if eg_m mode T ar f i = true then 0 else 1) (ar f) + (q_bd a_kindAt a_datumAt ar sz (eg_m mode T ar) D f (cq_q a_cellDefined a_cellValue)).2.2.2 := by
          rw [hqe]
          show q_ct ar (eg_m mode T ar) f (cq_q a_cellDefined a_cellValue) _ = _
          rw [q_ct_e ar _ h3]
          have zc : ∀ i, (cq_q a_cellDefined a_cellValue i).2.2.2 = 0 := fun i => by
            unfold cq_q
            by_cases cd : a_cellDefined i = 0
            · rw [if_pos cd]; rfl
            · rw [if_neg cd]
          have s1 := su_z (f := fun i => if eg_m mode T ar f i = true then (cq_q a_cellDefined a_cellValue i).2.2.2 else 0) (ar f) (fun i _ => by rw [zc, ite_self])
          have s2 := su_z (f := fun i => if eg_m mode T ar f i = false ∧ bt (q_bd a_kindAt a_datumAt ar sz (eg_m mode T ar) D f (cq_q a_cellDefined a_cellValue)).2.2.1 i = true then (cq_q a_cellDefined a_cellValue i).2.2.2 else 0) (ar f) (fun i _ => by rw [zc, ite_self])
          omega
        rw [ev, ec] at k
        exact k
      · apply Bool.eq_iff_iff.mpr
        rw [hdm i hi, q_set_b3 ar _ hi h3, he f hfF i (by omega), Bool.and_eq_true, decide_eq_true_eq]
        constructor
        · rintro (z | z)
          · exact Or.inr z
          · exact Or.inl z
        · rintro (z | z)
          · exact Or.inr z
          · exact Or.inl z
end
end
section
/-! Y's run as a whole -/
theorem kk_17 : ∀ D, D ≤ 6 → kk 17 (D - 1) ≤ 527 := by decide
section
variable {g_functionLimit g_nodeLimit g_depthLimit g_draftFor g_draftSize g_analysed g_level g_runMode g_runDepth g_lastSet g_hasValue g_recordValue g_recordCount g_recordSet : Int32} {b_arity b_bodySize b_bodyKind b_bodyData b_draftKind b_draftData b_heights b_truth b_next b_marks b_cellDefined b_cellValue b_levelFunction b_levelAt b_levelTop b_def b_val b_need b_count : Nat → Int32}
theorem yw_eg {F mode : Nat} {ar : Nat → Nat} {dc : Nat → Bool} {T : Nat → Nat → Bool} (hF4 : F ≤ 4) (eF : g_functionLimit = nI F) (hm : mode ≤ 2) (ha3 : ∀ h, ar h ≤ 3) (hdc : ∀ h, h < 4 → dc h = true → h < F ∧ b_arity h = nI (ar h)) (hT : mode = 1 → ¬ g_analysed = 0 ∧ yt_T b_truth T) : ye_L g_functionLimit g_nodeLimit g_depthLimit g_draftFor g_draftSize g_analysed (nI mode) g_runDepth g_hasValue g_recordValue g_recordCount g_recordSet b_arity b_bodySize b_bodyKind b_bodyData b_draftKind b_draftData b_heights b_truth b_next b_marks b_cellDefined b_cellValue ar (eg_m mode T ar) dc := by
  intro g_level g_lastSet b_levelFunction b_levelAt b_levelTop b_def b_val b_need b_count h i hh hd hi R hR
  unfold wpY_eager
  unfold eg_m at hR
  by_cases m2 : mode = 2
  · subst m2
    rw [if_pos rfl] at hR
    exact br_t rfl hR
  refine br_f (fun z => m2 ((nI_eq (a := mode) (b := 2) (by omega) (by omega)).mp z)) ?_
  rw [if_neg m2] at hR
  by_cases m1 : mode = 1
  · subst m1
    rw [if_pos rfl] at hR
    obtain ⟨h1, h2⟩ := hdc h hh hd
    obtain ⟨t1, t2⟩ := hT rfl
    refine br_t rfl (yw_st (T := T h) eF hF4 h1 (ha3 h) hi h2 t1 (t2 h hh) ?_)
    cases e : T h (2 ^ ar h - 1 - 2 ^ i)
    · rw [e] at hR; exact br_t rfl hR
    · rw [e] at hR; exact br_f (by decide) hR
  · rw [if_neg m1] at hR
    exact br_f (fun z => m1 ((nI_eq (a := mode) (b := 1) (by omega) (by omega)).mp z)) hR
theorem yw_204 {R : Int32 → SY → Prop} {q : QQ} (h1 : b_def 0 = y_b q.1) (h2 : b_val 0 = q.2.1) (h3 : b_count 0 = nI q.2.2.2) (h : R (if q.1 = true then 1 else 2) (g_functionLimit, g_nodeLimit, g_depthLimit, g_draftFor, g_draftSize, g_analysed, g_level, g_runMode, g_runDepth, g_lastSet, (y_b q.1), q.2.1, (nI q.2.2.2), g_lastSet, b_arity, b_bodySize, b_bodyKind, b_bodyData, b_draftKind, b_draftData, b_heights, b_truth, b_next, b_marks, b_cellDefined, b_cellValue, b_levelFunction, b_levelAt, b_levelTop, b_def, b_val, b_need, b_count)) : wY_run_204 R g_functionLimit g_nodeLimit g_depthLimit g_draftFor g_draftSize g_analysed g_level g_runMode g_runDepth g_lastSet g_hasValue g_recordValue g_recordCount g_recordSet b_arity b_bodySize b_bodyKind b_bodyData b_draftKind b_draftData b_heights b_truth b_next b_marks b_cellDefined b_cellValue b_levelFunction b_levelAt b_levelTop b_def b_val b_need b_count := by
  unfold wY_run_204
  refine nm_r h1 ⟨(nb_y q.1).1, (nb_y q.1).2, nm_r h2 (nm_r h3 ?_)⟩
  cases e : q.1
  · rw [e, if_neg (by decide)] at h; exact br_t rfl h
  · rw [e, if_pos rfl] at h; exact br_f (by decide) h
theorem yw_146 {R : Int32 → SY → Prop} {n : Nat} {X4 : Int32} (h : wY_run_204 R g_functionLimit g_nodeLimit g_depthLimit g_draftFor g_draftSize g_analysed 0 g_runMode g_runDepth g_lastSet g_hasValue g_recordValue g_recordCount g_recordSet b_arity b_bodySize b_bodyKind b_bodyData b_draftKind b_draftData b_heights b_truth b_next b_marks b_cellDefined b_cellValue b_levelFunction b_levelAt b_levelTop b_def b_val b_need b_count) : wY_run_146 R (n + 1) X4 g_functionLimit g_nodeLimit g_depthLimit g_draftFor g_draftSize g_analysed 0 g_runMode g_runDepth g_lastSet g_hasValue g_recordValue g_recordCount g_recordSet b_arity b_bodySize b_bodyKind b_bodyData b_draftKind b_draftData b_heights b_truth b_next b_marks b_cellDefined b_cellValue b_levelFunction b_levelAt b_levelTop b_def b_val b_need b_count := by
  by_cases c : (2000 : Int32) ≤ X4
  · exact br_t c h
  · exact br_f c (br_t (by decide) h)
theorem yw_cells {R : Int32 → SY → Prop} {f n : Nat} {cd cv : Nat → Int32} (hf : f < 4) (hn : n ≤ 3) (har : b_arity f = nI n) (hc : ∀ i, i < n → b_cellDefined i = cd i ∧ (¬ cd i = 0 → b_cellValue i = cv i))
    (h : ∀ b_def b_val b_need b_count : Nat → Int32, (∀ i, i < n → b_def i = y_b (cq_q cd cv i).1 ∧ b_val i = (cq_q cd cv i).2.1 ∧ b_need i = (cq_q cd cv i).2.2.1 ∧ b_count i = nI (cq_q cd cv i).2.2.2) → ∀ P : SY → Prop, (∀ (g_functionLimit' g_nodeLimit' g_depthLimit' g_draftFor' g_draftSize' g_analysed' g_level' g_runMode' g_runDepth' g_lastSet' g_hasValue' g_recordValue' g_recordCount' g_recordSet' : Int32) (b_arity' b_bodySize' b_bodyKind' b_bodyData' b_draftKind' b_draftData' b_heights' b_truth' b_next' b_marks' b_cellDefined' b_cellValue' b_levelFunction' b_levelAt' b_levelTop' b_def' b_val' b_need' b_count' : Nat → Int32), (∃ n146, wY_run_146 R n146 0 g_functionLimit' g_nodeLimit' g_depthLimit' g_draftFor' g_draftSize' g_analysed' g_level' g_runMode' g_runDepth' g_lastSet' g_hasValue' g_recordValue' g_recordCount' g_recordSet' b_arity' b_bodySize' b_bodyKind' b_bodyData' b_draftKind' b_draftData' b_heights' b_truth' b_next' b_marks' b_cellDefined' b_cellValue' b_levelFunction' b_levelAt' b_levelTop' b_def' b_val' b_need' b_count') → P (g_functionLimit', g_nodeLimit', g_depthLimit', g_draftFor', g_draftSize', g_analysed', g_level', g_runMode', g_runDepth', g_lastSet', g_hasValue', g_recordValue', g_recordCount', g_recordSet', b_arity', b_bodySize', b_bodyKind', b_bodyData', b_draftKind', b_draftData', b_heights', b_truth', b_next', b_marks', b_cellDefined', b_cellValue', b_levelFunction', b_levelAt', b_levelTop', b_def', b_val', b_need', b_count')) → wpY_enter P (g_functionLimit, g_nodeLimit, g_depthLimit, g_draftFor, g_draftSize, g_analysed, g_level, g_runMode, g_runDepth, g_lastSet, g_hasValue, g_recordValue, g_recordCount, g_recordSet, b_arity, b_bodySize, b_bodyKind, b_bodyData, b_draftKind, b_draftData, b_heights, b_truth, b_next, b_marks, b_cellDefined, b_cellValue, b_levelFunction, b_levelAt, b_levelTop, b_def, b_val, b_need, b_count) (nI f)) :
    ∀ w i, i + w = n → ∀ b_def b_val b_need b_count : Nat → Int32, (∀ i', i' < i → b_def i' = y_b (cq_q cd cv i').1 ∧ b_val i' = (cq_q cd cv i').2.1 ∧ b_need i' = (cq_q cd cv i').2.2.1 ∧ b_count i' = nI (cq_q cd cv i').2.2.2) → wY_run_87 R (nI f) (w + 1) (nI i) g_functionLimit g_nodeLimit g_depthLimit g_draftFor g_draftSize g_analysed g_level g_runMode g_runDepth g_lastSet g_hasValue g_recordValue g_recordCount g_recordSet b_arity b_bodySize b_bodyKind b_bodyData b_draftKind b_draftData b_heights b_truth b_next b_marks b_cellDefined b_cellValue b_levelFunction b_levelAt b_levelTop b_def b_val b_need b_count := by
  have ef : (nI f).toNatClampNeg = f := nI_clamp (by omega)
  have hv : vp_in (nI f) 4 := vp_in_nI hf (by omega)
  intro w
  induction w with
  | zero =>
    intro i hi b_def b_val b_need b_count hq
    have : i = n := by omega
    subst this
    refine ⟨hv, br_t (by rw [ef, har]; exact nI_le (Nat.le_refl _) (by omega)) (h b_def b_val b_need b_count hq _ ?_)⟩
    intro g_functionLimit' g_nodeLimit' g_depthLimit' g_draftFor' g_draftSize' g_analysed' g_level' g_runMode' g_runDepth' g_lastSet' g_hasValue' g_recordValue' g_recordCount' g_recordSet' b_arity' b_bodySize' b_bodyKind' b_bodyData' b_draftKind' b_draftData' b_heights' b_truth' b_next' b_marks' b_cellDefined' b_cellValue' b_levelFunction' b_levelAt' b_levelTop' b_def' b_val' b_need' b_count' hx
    exact hx
  | succ w ih =>
    intro i hi b_def b_val b_need b_count hq
    have ei : (nI i).toNatClampNeg = i := nI_clamp (by omega)
    have hv3 : vp_in (nI i) 3 := vp_in_nI (by omega) (by omega)
    obtain ⟨c1, c2⟩ := hc i (by omega)
    refine ⟨hv, br_f (by rw [ef, har]; exact nI_ge (by omega) (by omega)) ⟨hv3, ?_⟩⟩
    by_cases z : cd i = 0
    · have e : cq_q cd cv i = q_u := if_pos z
      refine br_t (by rw [ei, c1]; exact z) (yw_pu (by omega) (nm_r (nI_1 i) (ih (i + 1) (by omega) _ _ _ _ (fun i' hi' => ?_))))
      by_cases ee : i' = i
      · subst ee; rw [e]; exact ⟨pk_us, pk_us, pk_us, pk_us⟩
      · rw [pk_un ee, pk_un ee, pk_un ee, pk_un ee]; exact hq i' (by omega)
    · have e : cq_q cd cv i = (true, cv i, 0, 0) := if_neg z
      refine br_f (by rw [ei, c1]; exact z) ⟨hv3, ?_⟩
      rw [ei, c2 z]
      refine yw_put (by omega) (nm_r (nI_1 i) (ih (i + 1) (by omega) _ _ _ _ (fun i' hi' => ?_)))
      by_cases ee : i' = i
      · subst ee; rw [e]; exact ⟨pk_us, pk_us, pk_us, pk_us⟩
      · rw [pk_un ee, pk_un ee, pk_un ee, pk_un ee]; exact hq i' (by omega)
theorem yw_run {R : Int32 → SY → Prop} {F DL mode f : Nat} {p2 : Int32} {kd dt : Nat → Int32} {dc : Nat → Bool} {ar sz : Nat → Nat} {T : Nat → Nat → Bool} {cd cv : Nat → Int32}
    (hF4 : F ≤ 4) (eF : g_functionLimit = nI F) (eD : g_depthLimit = nI DL) (hDL : DL ≤ 6) (hm : mode ≤ 2) (hp : pg_ok kd dt ar sz) (h8 : pg_8 kd dt ar sz) (ho : yr_ok kd dt ar sz dc b_arity b_bodySize b_bodyKind b_bodyData) (hdc : ∀ h, h < 4 → dc h = true → h < F ∧ b_arity h = nI (ar h)) (hT : mode = 1 → ¬ g_analysed = 0 ∧ yt_T b_truth T) (hf : f < 4) (hfd : dc f = true)
    (hc : ∀ i, i < 3 → b_cellDefined i = cd i ∧ (¬ cd i = 0 → b_cellValue i = cv i))
    (D : Nat) (hD : z_cl p2 0 (nI DL) = nI D) (hDD : D ≤ DL)
    (q : QQ) (hq : q = q_cr ar sz (eg_m mode T ar) (q_bd kd dt ar sz (eg_m mode T ar) D) f (cq_q cd cv))
    (h : ∀ (g_level g_lastSet : Int32) (b_levelFunction b_levelAt b_levelTop b_def b_val b_need b_count : Nat → Int32), (q.1 = true → g_lastSet = q_set ar (eg_m mode T ar) f (q_bd kd dt ar sz (eg_m mode T ar) D f (cq_q cd cv))) → R (if q.1 = true then 1 else 2) (g_functionLimit, g_nodeLimit, g_depthLimit, g_draftFor, g_draftSize, g_analysed, g_level, (nI mode), (nI D), g_lastSet, (y_b q.1), q.2.1, (nI q.2.2.2), g_lastSet, b_arity, b_bodySize, b_bodyKind, b_bodyData, b_draftKind, b_draftData, b_heights, b_truth, b_next, b_marks, b_cellDefined, b_cellValue, b_levelFunction, b_levelAt, b_levelTop, b_def, b_val, b_need, b_count)) :
    wY_run_34 R (nI f) (nI mode) p2 g_functionLimit g_nodeLimit g_depthLimit g_draftFor g_draftSize g_analysed g_level g_runMode g_runDepth g_lastSet g_hasValue g_recordValue g_recordCount g_recordSet b_arity b_bodySize b_bodyKind b_bodyData b_draftKind b_draftData b_heights b_truth b_next b_marks b_cellDefined b_cellValue b_levelFunction b_levelAt b_levelTop b_def b_val b_need b_count := by
  obtain ⟨o1, o2, o3, o4⟩ := ho.1 f hf
  obtain ⟨h3, har⟩ := o4 hfd
  have hE := yw_eg (g_runDepth := nI D) (g_nodeLimit := g_nodeLimit) (g_depthLimit := g_depthLimit) (g_draftFor := g_draftFor) (g_draftSize := g_draftSize) (g_hasValue := g_hasValue) (g_recordValue := g_recordValue) (g_recordCount := g_recordCount) (g_recordSet := g_recordSet) (b_bodySize := b_bodySize) (b_bodyKind := b_bodyKind) (b_bodyData := b_bodyData) (b_draftKind := b_draftKind) (b_draftData := b_draftData) (b_heights := b_heights) (b_next := b_next) (b_marks := b_marks) (b_cellDefined := b_cellDefined) (b_cellValue := b_cellValue) hF4 eF hm hp.1 hdc hT
  have hym := yr_ym (post := R) ho hE (by omega : D ≤ 6)
  have s64 : wY_run_64 R (nI f) (nI D) g_functionLimit g_nodeLimit g_depthLimit g_draftFor g_draftSize g_analysed g_level (nI mode) g_runDepth g_lastSet g_hasValue g_recordValue g_recordCount g_recordSet b_arity b_bodySize b_bodyKind b_bodyData b_draftKind b_draftData b_heights b_truth b_next b_marks b_cellDefined b_cellValue b_levelFunction b_levelAt b_levelTop b_def b_val b_need b_count := by
    unfold wY_run_64
    have ef : (nI f).toNatClampNeg = f := nI_clamp (by omega)
    refine ⟨vp_in_nI hf (by omega), nm_r (e' := upd b_levelTop 0 (nI (ar f))) (by rw [ef, har]) ⟨ar f + 1, ?_⟩⟩
    refine yw_cells (cd := cd) (cv := cv) hf h3 har (fun i hi => hc i (by omega)) (fun b_def b_val b_need b_count hq0 P hP => ?_) (ar f) 0 (by omega) b_def b_val b_need b_count (fun i' hi' => absurd hi' (Nat.not_lt_zero _))
    have ez : ∀ i, 8 * 0 + (ar f - ar f + i) = i := fun i => by omega
    refine yw_en (eg := eg_m mode T ar) (a := cq_q cd cv) (L := 0) (t := ar f) (D := D) hf h3 (Nat.le_refl _) (by omega) (by omega) (by omega) pk_us har o1 o2 (by omega) (fun i hi => by rw [ez]; exact (hq0 i hi).1) (fun i hi R' hR' => hE _ _ _ _ _ _ _ _ _ f i hf hfd hi R' hR') (fun c => ?_) (fun c1 c2 c3 => ?_)
    · have hqu : q = q_u := by
        rw [hq]
        unfold q_cr
        by_cases z0 : sz f = 0
        · rw [if_pos z0]
        rw [if_neg z0]
        by_cases zs : q_st (eg_m mode T ar) f (cq_q cd cv) (ar f) = true
        · rw [if_pos zs]
        rw [if_neg zs]
        have d0 : D = 0 := by
          rcases c with c | c | c
          · omega
          · exact absurd c z0
          · exact absurd c zs
        subst d0
        rfl
      refine hP _ _ _ _ _ _ _ _ _ _ _ _ _ _ _ _ _ _ _ _ _ _ _ _ _ _ _ _ _ _ _ _ _ ⟨1, yw_146 (yw_204 (q := q_u) ?_ ?_ ?_ ?_)⟩
      · have e : 8 * 0 + (ar f - ar f) = 0 := by omega
        rw [e]; exact pk_us
      · have e : 8 * 0 + (ar f - ar f) = 0 := by omega
        rw [e]; exact pk_us
      · have e : 8 * 0 + (ar f - ar f) = 0 := by omega
        rw [e]; exact pk_us
      · rw [hqu] at h
        exact h _ _ _ _ _ _ _ _ _ (fun z => ff_t z)
    · refine hP _ _ _ _ _ _ _ _ _ _ _ _ _ _ _ _ _ _ _ _ _ _ _ _ _ _ _ _ _ _ _ _ _ ⟨2001, ?_⟩
      obtain ⟨s1, x1, x2, x3, x4, x5, x6, x7, x8, x9, x10⟩ : ∃ s1 : YS, y_x s1 = 0 ∧ y_l s1 = 0 + 1 ∧ y_ls s1 = g_lastSet ∧ y_lf s1 = upd b_levelFunction (0 + 1) (nI f) ∧ y_la s1 = upd b_levelAt (0 + 1) 0 ∧ y_lt s1 = upd (upd b_levelTop 0 (nI (ar f))) (0 + 1) 0 ∧ y_df s1 = b_def ∧ y_vl s1 = b_val ∧ y_ne s1 = b_need ∧ y_co s1 = b_count := ⟨(0, 0 + 1, g_lastSet, upd b_levelFunction (0 + 1) (nI f), upd b_levelAt (0 + 1) 0, upd (upd b_levelTop 0 (nI (ar f))) (0 + 1) 0, b_def, b_val, b_need, b_count), rfl, rfl, rfl, rfl, rfl, rfl, rfl, rfl, rfl, rfl⟩
      have hwt := y_w_t hp (d := D) hf c2
      have k17 := kk_17 D (by omega)
      have hqv : q = q_cv ar (eg_m mode T ar) f (cq_q cd cv) (q_bd kd dt ar sz (eg_m mode T ar) D f (cq_q cd cv)) := by
        rw [hq]
        unfold q_cr
        rw [if_neg (by omega), if_neg (by rw [c3]; decide)]
      have hcell : ∀ i, i < ar f → y_c s1 (8 * 0 + (ar f - ar f + i)) (cq_q cd cv i) := fun i hi => by
        unfold y_c
        rw [ez, x7, x8, x9, x10]
        exact hq0 i hi
      have B := y_body hp h8 hym (by omega) D 0 (by omega) (by omega) f hf c2 (cq_q cd cv) (ar f) (Nat.le_refl _) (by omega) (sz f) s1 0 (by omega) ⟨x2, by rw [x4]; exact pk_us, by rw [x5]; exact pk_us, by rw [x6]; exact pk_us, fun k hk => absurd hk (Nat.not_lt_zero _)⟩ (by rw [x6, pk_un (by omega)]; exact pk_us) hcell (by rw [x1]; have : su (y_w kd D f) 0 = 0 := rfl; omega) (fun s2 hlo r1 r2 r3 r4 r5 => ?_)
      · have B' := B 2001 (by omega)
        rw [x1, x2, x3, x4, x5, x6, x7, x8, x9, x10] at B'
        exact B'
      · have x2' : y_x s2 ≤ 1070 := by
          rw [x1] at r5
          have : su (y_w kd D f) 0 = 0 := rfl
          omega
        have hlt : y_lt s2 0 = nI (ar f) := by
          rw [(hlo.1 0 (by omega)).2.2, x6, pk_un (by omega)]
          exact pk_us
        refine hym.2.2.2 s2 0 f (ar f) (cq_q cd cv) _ (by omega) r1 (by omega) hf c2 r2 r3 hlt (by omega) (Nat.le_refl _) (by omega) (fun i hi => y_c_lo hlo (by omega) (hcell i hi)) r4 ?_
        intro n hn
        obtain ⟨m, rfl⟩ : ∃ m, n = m + 1 := ⟨n - 1, by
          have e : y_x (y_lv s2 0 (ar f) (ar f) (q_set ar (eg_m mode T ar) f (q_bd kd dt ar sz (eg_m mode T ar) D f (cq_q cd cv))) (q_cv ar (eg_m mode T ar) f (cq_q cd cv) (q_bd kd dt ar sz (eg_m mode T ar) D f (cq_q cd cv)))) = y_x s2 + 1 := rfl
          omega⟩
        have e : 8 * 0 + (ar f - ar f) = 0 := by omega
        refine yw_146 (yw_204 (q := q) ?_ ?_ ?_ (h _ _ _ _ _ _ _ _ _ (fun _ => rfl)))
        · rw [hqv]
          show upd (y_df s2) (8 * 0 + (ar f - ar f)) _ 0 = _
          rw [e]; exact pk_us
        · rw [hqv]
          show upd (y_vl s2) (8 * 0 + (ar f - ar f)) _ 0 = _
          rw [e]; exact pk_us
        · rw [hqv]
          show upd (y_co s2) (8 * 0 + (ar f - ar f)) _ 0 = _
          rw [e]; exact pk_us
  unfold wY_run_34
  have hz := hD
  unfold z_cl at hz
  by_cases c1 : 0 ≤ p2
  · rw [if_pos c1] at hz
    by_cases c2 : p2 ≤ nI DL
    · rw [if_pos c2] at hz
      rw [hz] at c1 c2 ⊢
      exact br_t c1 (br_t (by rw [eD]; exact c2) s64)
    · rw [if_neg c2] at hz
      refine br_t c1 (br_f (by rw [eD]; exact c2) ?_)
      rw [eD, hz] at s64 ⊢
      exact s64
  · rw [if_neg c1] at hz
    rw [← hz] at s64
    exact br_f c1 s64
end
end
section
/-! run -/
theorem i_vc_run {k : Nat} {u : SX} {v : SY} (I : i_Rel k u v) (hk : k + 4 ≤ 2051) (v1 : Int32) (v2 : Int32) (v3 : Int32) : wpX_run (fun r u' => wpY_run (fun r' v' => r' = r ∧ i_Rel (k + 4) u' v') v v1 v2 v3) u v1 v2 v3 := by
  refine zz_el (P := fun u v => wpX_run (fun r u' => wpY_run (fun r' v' => r' = r ∧ i_Rel (k + 4) u' v') v v1 v2 v3) u v1 v2 v3) ?_ I
  intro f_literalKind f_paramKind f_callKind f_evalTask f_applyTask f_branchTask f_updateTask f_storeTask f_slotAbsent f_slotDelayed f_slotReady f_functionCount f_nodeLimit f_depthLimit f_draftOpen f_draftFor f_draftNodes f_draftCalls f_treeCount f_analysed f_recordValue f_recordThunks f_recordNeeds f_taskTop f_valueTop f_frameCount f_failed f_thunkCount f_demanded a_declared a_arity a_size a_kindAt a_datumAt a_childAt a_treeRoot a_treeHeight a_tables a_marks a_cellDefined a_cellValue a_eager a_taskKind a_taskSubject a_taskFrame a_valueStack a_frameDepth a_slotState a_slotValue a_slotNode a_slotFrame g_functionLimit g_nodeLimit g_depthLimit g_draftFor g_draftSize g_analysed g_level g_runMode g_runDepth g_lastSet g_hasValue g_recordValue g_recordCount g_recordSet b_arity b_bodySize b_bodyKind b_bodyData b_draftKind b_draftData b_heights b_truth b_next b_marks b_cellDefined b_cellValue b_levelFunction b_levelAt b_levelTop b_def b_val b_need b_count hR
  have hI : i_Rel (k + 4) (f_literalKind, f_paramKind, f_callKind, f_evalTask, f_applyTask, f_branchTask, f_updateTask, f_storeTask, f_slotAbsent, f_slotDelayed, f_slotReady, f_functionCount, f_nodeLimit, f_depthLimit, f_draftOpen, f_draftFor, f_draftNodes, f_draftCalls, f_treeCount, f_analysed, f_recordValue, f_recordThunks, f_recordNeeds, f_taskTop, f_valueTop, f_frameCount, f_failed, f_thunkCount, f_demanded, a_declared, a_arity, a_size, a_kindAt, a_datumAt, a_childAt, a_treeRoot, a_treeHeight, a_tables, a_marks, a_cellDefined, a_cellValue, a_eager, a_taskKind, a_taskSubject, a_taskFrame, a_valueStack, a_frameDepth, a_slotState, a_slotValue, a_slotNode, a_slotFrame) (g_functionLimit, g_nodeLimit, g_depthLimit, g_draftFor, g_draftSize, g_analysed, g_level, g_runMode, g_runDepth, g_lastSet, g_hasValue, g_recordValue, g_recordCount, g_recordSet, b_arity, b_bodySize, b_bodyKind, b_bodyData, b_draftKind, b_draftData, b_heights, b_truth, b_next, b_marks, b_cellDefined, b_cellValue, b_levelFunction, b_levelAt, b_levelTop, b_def, b_val, b_need, b_count) := zz_in hR
  obtain ⟨F, NL, DL, dc, ar, sz, hL, hP, hD, hA, hK, hV⟩ := hR
  unfold wpX_run
  have hF4 := hL.1.2.1
  have hDL := hL.1.2.2.2.2.2
  have eF := hL.2.1
  have eD := hL.2.2.2.1
  have eF' := hL.2.2.2.2.1
  have eD' := hL.2.2.2.2.2.2
  rcases dc_or hP hF4 v1 with ⟨f, hfF, hf4, rfl, hd, e1, e2, e3⟩ | hno
  · have h3 := hP.1 f
    refine xw_id1 eF hF4 hfF e1 (br_f (by decide) ?_)
    have yd : ∀ {P : Int32 → SY → Prop}, ((v2 < 0 → P (-1) (g_functionLimit, g_nodeLimit, g_depthLimit, g_draftFor, g_draftSize, g_analysed, g_level, g_runMode, g_runDepth, g_lastSet, g_hasValue, g_recordValue, g_recordCount, g_recordSet, b_arity, b_bodySize, b_bodyKind, b_bodyData, b_draftKind, b_draftData, b_heights, b_truth, b_next, b_marks, b_cellDefined, b_cellValue, b_levelFunction, b_levelAt, b_levelTop, b_def, b_val, b_need, b_count)) ∧ (¬ v2 < 0 → ((v2 ≤ 2 → ((v2 = 1 → ((g_analysed = 0 → P (-6) (g_functionLimit, g_nodeLimit, g_depthLimit, g_draftFor, g_draftSize, g_analysed, g_level, g_runMode, g_runDepth, g_lastSet, g_hasValue, g_recordValue, g_recordCount, g_recordSet, b_arity, b_bodySize, b_bodyKind, b_bodyData, b_draftKind, b_draftData, b_heights, b_truth, b_next, b_marks, b_cellDefined, b_cellValue, b_levelFunction, b_levelAt, b_levelTop, b_def, b_val, b_need, b_count)) ∧ (¬ g_analysed = 0 → wY_run_34 P (nI f) v2 v3 g_functionLimit g_nodeLimit g_depthLimit g_draftFor g_draftSize g_analysed g_level g_runMode g_runDepth g_lastSet g_hasValue g_recordValue g_recordCount g_recordSet b_arity b_bodySize b_bodyKind b_bodyData b_draftKind b_draftData b_heights b_truth b_next b_marks b_cellDefined b_cellValue b_levelFunction b_levelAt b_levelTop b_def b_val b_need b_count))) ∧ (¬ v2 = 1 → wY_run_34 P (nI f) v2 v3 g_functionLimit g_nodeLimit g_depthLimit g_draftFor g_draftSize g_analysed g_level g_runMode g_runDepth g_lastSet g_hasValue g_recordValue g_recordCount g_recordSet b_arity b_bodySize b_bodyKind b_bodyData b_draftKind b_draftData b_heights b_truth b_next b_marks b_cellDefined b_cellValue b_levelFunction b_levelAt b_levelTop b_def b_val b_need b_count))) ∧ (¬ v2 ≤ 2 → P (-1) (g_functionLimit, g_nodeLimit, g_depthLimit, g_draftFor, g_draftSize, g_analysed, g_level, g_runMode, g_runDepth, g_lastSet, g_hasValue, g_recordValue, g_recordCount, g_recordSet, b_arity, b_bodySize, b_bodyKind, b_bodyData, b_draftKind, b_draftData, b_heights, b_truth, b_next, b_marks, b_cellDefined, b_cellValue, b_levelFunction, b_levelAt, b_levelTop, b_def, b_val, b_need, b_count))))) → wpY_run P (g_functionLimit, g_nodeLimit, g_depthLimit, g_draftFor, g_draftSize, g_analysed, g_level, g_runMode, g_runDepth, g_lastSet, g_hasValue, g_recordValue, g_recordCount, g_recordSet, b_arity, b_bodySize, b_bodyKind, b_bodyData, b_draftKind, b_draftData, b_heights, b_truth, b_next, b_marks, b_cellDefined, b_cellValue, b_levelFunction, b_levelAt, b_levelTop, b_def, b_val, b_need, b_count) (nI f) v2 v3 := by
      intro P H
      unfold wpY_run
      exact yw_id1 eF' hF4 hfF e3 h3 (br_f (by decide) H)
    rcases pk_ix v2 (n := 3) (by omega) with w | w | ⟨mode, hmode, rfl⟩
    · refine br_t w ?_
      exact yd (br_t w ⟨rfl, hI⟩)
    · have w2 : ¬ v2 < 0 := Int32.not_lt.mpr (Int32.le_trans (by decide) w)
      have w3 : ¬ v2 ≤ 2 := fun z => absurd (Int32.le_trans w z) (by decide)
      refine br_f w2 (br_f w3 ?_)
      exact yd (br_f w2 (br_f w3 ⟨rfl, hI⟩))
    have w2 : ¬ nI mode < 0 := nI_pos (by omega)
    have w3 : nI mode ≤ 2 := nI_le (b := 2) (by omega) (by decide)
    have main : ∀ T : Nat → Nat → Bool, (mode = 1 → xt_T a_tables T ∧ ¬ g_analysed = 0 ∧ yt_T b_truth T) → (∀ P : Int32 → SY → Prop, wY_run_34 P (nI f) (nI mode) v3 g_functionLimit g_nodeLimit g_depthLimit g_draftFor g_draftSize g_analysed g_level g_runMode g_runDepth g_lastSet g_hasValue g_recordValue g_recordCount g_recordSet b_arity b_bodySize b_bodyKind b_bodyData b_draftKind b_draftData b_heights b_truth b_next b_marks b_cellDefined b_cellValue b_levelFunction b_levelAt b_levelTop b_def b_val b_need b_count → wpY_run P (g_functionLimit, g_nodeLimit, g_depthLimit, g_draftFor, g_draftSize, g_analysed, g_level, g_runMode, g_runDepth, g_lastSet, g_hasValue, g_recordValue, g_recordCount, g_recordSet, b_arity, b_bodySize, b_bodyKind, b_bodyData, b_draftKind, b_draftData, b_heights, b_truth, b_next, b_marks, b_cellDefined, b_cellValue, b_levelFunction, b_levelAt, b_levelTop, b_def, b_val, b_need, b_count) (nI f) (nI mode) v3) → wX_run_34 (fun r u' => wpY_run (fun r' v' => r' = r ∧ i_Rel (k + 4) u' v') (g_functionLimit, g_nodeLimit, g_depthLimit, g_draftFor, g_draftSize, g_analysed, g_level, g_runMode, g_runDepth, g_lastSet, g_hasValue, g_recordValue, g_recordCount, g_recordSet, b_arity, b_bodySize, b_bodyKind, b_bodyData, b_draftKind, b_draftData, b_heights, b_truth, b_next, b_marks, b_cellDefined, b_cellValue, b_levelFunction, b_levelAt, b_levelTop, b_def, b_val, b_need, b_count) (nI f) (nI mode) v3) (nI f) (nI mode) v3 f_literalKind f_paramKind f_callKind f_evalTask f_applyTask f_branchTask f_updateTask f_storeTask f_slotAbsent f_slotDelayed f_slotReady f_functionCount f_nodeLimit f_depthLimit f_draftOpen f_draftFor f_draftNodes f_draftCalls f_treeCount f_analysed f_recordValue f_recordThunks f_recordNeeds f_taskTop f_valueTop f_frameCount f_failed f_thunkCount f_demanded a_declared a_arity a_size a_kindAt a_datumAt a_childAt a_treeRoot a_treeHeight a_tables a_marks a_cellDefined a_cellValue a_eager a_taskKind a_taskSubject a_taskFrame a_valueStack a_frameDepth a_slotState a_slotValue a_slotNode a_slotFrame := by
      intro T hT lift
      obtain ⟨D, _, hDD, hD'⟩ := z_cl_n v3 (a := 0) (b := DL) (by omega) (by omega)
      have hDz : z_cl v3 0 (nI DL) = nI D := hD'
      have goY : ∀ {P : Int32 → SY → Prop} (q : QQ), q = q_cr ar sz (eg_m mode T ar) (q_bd a_kindAt a_datumAt ar sz (eg_m mode T ar) D) f (cq_q a_cellDefined a_cellValue) →
          (∀ (g_level g_lastSet : Int32) (b_levelFunction b_levelAt b_levelTop b_def b_val b_need b_count : Nat → Int32), (q.1 = true → g_lastSet = q_set ar (eg_m mode T ar) f (q_bd a_kindAt a_datumAt ar sz (eg_m mode T ar) D f (cq_q a_cellDefined a_cellValue))) → P (if q.1 = true then 1 else 2) (g_functionLimit, g_nodeLimit, g_depthLimit, g_draftFor, g_draftSize, g_analysed, g_level, (nI mode), (nI D), g_lastSet, (y_b q.1), q.2.1, (nI q.2.2.2), g_lastSet, b_arity, b_bodySize, b_bodyKind, b_bodyData, b_draftKind, b_draftData, b_heights, b_truth, b_next, b_marks, b_cellDefined, b_cellValue, b_levelFunction, b_levelAt, b_levelTop, b_def, b_val, b_need, b_count)) → wpY_run P (g_functionLimit, g_nodeLimit, g_depthLimit, g_draftFor, g_draftSize, g_analysed, g_level, g_runMode, g_runDepth, g_lastSet, g_hasValue, g_recordValue, g_recordCount, g_recordSet, b_arity, b_bodySize, b_bodyKind, b_bodyData, b_draftKind, b_draftData, b_heights, b_truth, b_next, b_marks, b_cellDefined, b_cellValue, b_levelFunction, b_levelAt, b_levelTop, b_def, b_val, b_need, b_count) (nI f) (nI mode) v3 := by
        intro P q hq H
        refine lift P ?_
        exact yw_run (kd := a_kindAt) (dt := a_datumAt) (cd := a_cellDefined) (cv := a_cellValue) hF4 eF' eD' hDL (by omega) (P_ok hP) (P_8 hP) (P_yr hP) (fun h hh hd => ⟨((hP.2.1 h hh).1 hd).1, ((hP.2.1 h hh).1 hd).2.2.2⟩) (fun z => (hT z).2) hf4 hd (fun i hi => by
          obtain ⟨c1, c2⟩ := hK i hi
          refine ⟨c1, fun z => ?_⟩
          rcases c2 with c2 | c2
          · exact absurd c2 z
          · exact c2.2) D hDz hDD q hq H
      refine xw_run (T := T) (dc := dc) hF4 eF eD hDL (by omega) hP (fun z => (hT z).1) hfF D hDz hDD _ rfl (fun z => ?_) (fun z => ?_)
      · intro f_taskTop f_valueTop f_frameCount f_failed f_thunkCount f_demanded a_eager a_taskKind a_taskSubject a_taskFrame a_valueStack a_frameDepth a_slotState a_slotValue a_slotNode a_slotFrame
        refine goY _ rfl (fun g_level g_lastSet b_levelFunction b_levelAt b_levelTop b_def b_val b_need b_count _ => ?_)
        rw [z, if_neg (by decide)]
        exact ⟨rfl, zz_in ⟨F, NL, DL, dc, ar, sz, hL, hP, hD, hA, hK, Or.inl ⟨rfl, rfl, rfl, rfl⟩⟩⟩
      · intro f_taskTop f_valueTop f_frameCount f_failed f_thunkCount f_demanded a_eager a_taskKind a_taskSubject a_taskFrame a_valueStack a_frameDepth a_slotState a_slotValue a_slotNode a_slotFrame hn
        refine goY _ rfl (fun g_level g_lastSet b_levelFunction b_levelAt b_levelTop b_def b_val b_need b_count hls => ?_)
        have hls' := hls z
        rw [z, if_pos rfl]
        exact ⟨rfl, zz_in ⟨F, NL, DL, dc, ar, sz, hL, hP, hD, hA, hK, Or.inr ⟨rfl, rfl, rfl, fun i hi => by rw [hls']; exact hn i hi⟩⟩⟩
    refine br_f w2 (br_t w3 ?_)
    by_cases m1 : mode = 1
    · have m1' : nI mode = 1 := by rw [m1]; rfl
      rcases hA with ⟨ea, a1 | ⟨a1, T, hT⟩⟩
      · refine br_t m1' (br_t a1 ?_)
        exact yd (br_f w2 (br_t w3 (br_t m1' (br_t (by rw [← ea]; exact a1) ⟨rfl, hI⟩))))
      · have n1 : ¬ f_analysed = 0 := by rw [a1]; decide
        have n2 : ¬ g_analysed = 0 := by rw [← ea]; exact n1
        refine br_t m1' (br_f n1 ?_)
        exact main T (fun _ => ⟨fun h hh c hc => (hT h hh).1 c hc, n2, fun h hh c hc => (hT h hh).2.2 c hc⟩) (fun P H => yd (br_f w2 (br_t w3 (br_t m1' (br_f n2 H)))))
    · have m1' : ¬ nI mode = 1 := fun z => m1 ((nI_eq (a := mode) (b := 1) (by omega) (by omega)).mp z)
      refine br_f m1' ?_
      exact main (fun _ _ => false) (fun z => absurd z m1) (fun P H => yd (br_f w2 (br_t w3 (br_f m1' H))))
  · refine xw_id0 eF hF4 (fun g hg e => (hno g hg e).1) (br_t rfl ?_)
    unfold wpY_run
    exact yw_id0 eF' hF4 (fun g hg e => (hno g hg e).2) (br_t rfl ⟨rfl, hI⟩)
end
