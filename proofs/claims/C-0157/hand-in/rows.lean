section
theorem pk_us {f : Nat → Int32} {k : Nat} {x : Int32} : upd f k x k = x := if_pos rfl
theorem pk_un {f : Nat → Int32} {k j : Nat} {x : Int32} (h : j ≠ k) : upd f k x j = f j := if_neg h
theorem pk_sub {a b : Nat} (h : b ≤ a) : nI a - nI b = nI (a - b) := by
  obtain ⟨c, rfl⟩ : ∃ c, a = c + b := ⟨a - b, by omega⟩
  rw [← nI_add, Int32.add_sub_cancel, Nat.add_sub_cancel]
theorem pk_m1 (n : Nat) : nI (n + 1) + (-1) = nI n := by
  rw [← nI_1, Int32.add_assoc, show (1 : Int32) + (-1) = 0 from rfl, Int32.add_zero]
theorem pk_mul (a b : Nat) : nI a * nI b = nI (a * b) := (Int32.ofNat_mul a b).symm
theorem pk_div {a d : Nat} (ha : a < 2 ^ 31) (h0 : 0 < d) (hd : d < 2 ^ 31) : nI a / nI d = nI (a / d) := by
  apply Int32.toInt_inj.mp
  rw [lg_idiv_nonneg (by rw [nI_toInt ha]; omega) (by rw [nI_toInt hd]; omega), nI_toInt ha, nI_toInt hd, nI_toInt (Nat.lt_of_le_of_lt (Nat.div_le_self a d) ha)]
  first | rfl | exact (Int.natCast_ediv _ _).symm
theorem pk_rem {a d : Nat} (ha : a < 2 ^ 31) (h0 : 0 < d) (hd : d < 2 ^ 31) : nI a - nI a / nI d * nI d = nI (a % d) := by
  rw [pk_div ha h0 hd, pk_mul, pk_sub (Nat.div_mul_le_self a d)]
  exact congrArg nI (by have := Nat.div_add_mod' a d; omega)
theorem pk_sub_toInt {a b : Nat} (ha : a < 2 ^ 30) (hb : b < 2 ^ 30) : (nI a - nI b).toInt = (a : Int) - b := by
  rw [Int32.toInt_sub, nI_toInt (by omega), nI_toInt (by omega)]
  exact Int.bmod_eq_of_le (by omega) (by omega)
theorem pk_sneg {a b : Nat} (hb : b < 2 ^ 30) (h : a < b) : nI a - nI b < 0 := by
  rw [Int32.lt_iff_toInt_lt, pk_sub_toInt (by omega) hb, show (0 : Int32).toInt = 0 from by decide]
  omega
theorem pk_ix (x : Int32) {n : Nat} (hn : n < 2 ^ 31) : x < 0 ∨ nI n ≤ x ∨ ∃ j : Nat, j < n ∧ x = nI j := by
  by_cases h : x < 0
  · exact Or.inl h
  · obtain ⟨j, hj, rfl⟩ := nI_of h
    by_cases h2 : j < n
    · exact Or.inr (Or.inr ⟨j, h2, rfl⟩)
    · exact Or.inr (Or.inl (nI_le (by omega) hj))
theorem pk_le {x y : Int32} {A B : Prop} (a b : Nat) (f : a ≤ b → A) (g : b < a → B) (hx : x = nI a := by rfl) (hy : y = nI b := by rfl) (ha : a < 2 ^ 31 := by omega) (hb : b < 2 ^ 31 := by omega) : (x ≤ y → A) ∧ (¬ x ≤ y → B) := by
  subst hx hy
  rw [nI_leI ha hb]
  exact ⟨f, fun z => g (by omega)⟩
theorem pk_lt {x y : Int32} {A B : Prop} (a b : Nat) (f : a < b → A) (g : b ≤ a → B) (hx : x = nI a := by rfl) (hy : y = nI b := by rfl) (ha : a < 2 ^ 31 := by omega) (hb : b < 2 ^ 31 := by omega) : (x < y → A) ∧ (¬ x < y → B) := by
  subst hx hy
  rw [nI_ltI ha hb]
  exact ⟨f, fun z => g (by omega)⟩
theorem pk_eq {x y : Int32} {A B : Prop} (a b : Nat) (f : a = b → A) (g : a ≠ b → B) (hx : x = nI a := by rfl) (hy : y = nI b := by rfl) (ha : a < 2 ^ 31 := by omega) (hb : b < 2 ^ 31 := by omega) : (x = y → A) ∧ (¬ x = y → B) := by
  subst hx hy
  rw [nI_eq ha hb]
  exact ⟨f, g⟩
theorem pk_in {x : Int32} (n N : Nat) (h : n < N) (hx : x = nI n := by rfl) (hN : N < 2 ^ 31 := by omega) : vp_in x N := by
  subst hx
  exact vp_in_nI h hN
theorem pk_cl {x : Int32} (n : Nat) (hx : x = nI n := by rfl) (h : n < 2 ^ 31 := by omega) : x.toNatClampNeg = n := by
  subst hx
  exact nI_clamp h
theorem pk_tn {n : Nat} (h : n < 2 ^ 32) : (nI n).toBitVec.toNat = n := Nat.mod_eq_of_lt h
theorem pk_and (x : Int32) {m : Int32} (k : Nat) (hm : m.toBitVec.toNat = 2 ^ k - 1) : x &&& m = nI (x.toBitVec.toNat % 2 ^ k) := by
  apply Int32.toBitVec_inj.mp
  apply BitVec.eq_of_toNat_eq
  rw [Int32.toBitVec_and, BitVec.toNat_and, hm, Nat.and_two_pow_sub_one_eq_mod]
  show _ = (BitVec.ofNat 32 _).toNat
  rw [BitVec.toNat_ofNat]
  exact (Nat.mod_eq_of_lt (Nat.lt_of_le_of_lt (Nat.mod_le _ _) x.toBitVec.isLt)).symm
theorem pk_andN {n : Nat} (h : n < 2 ^ 32) {m : Int32} (k : Nat) (hm : m.toBitVec.toNat = 2 ^ k - 1) : nI n &&& m = nI (n % 2 ^ k) := by
  rw [pk_and _ k hm, pk_tn h]
theorem pk_andE (x : Int32) {m : Int32} (k : Nat) (hm : m.toBitVec.toNat = 2 ^ k - 1) : ∃ j : Nat, j < 2 ^ k ∧ x &&& m = nI j := ⟨_, Nat.mod_lt _ (Nat.two_pow_pos k), pk_and x k hm⟩
theorem pk_andIn (x : Int32) {m : Int32} (k : Nat) (hm : m.toBitVec.toNat = 2 ^ k - 1) (hk : k ≤ 30) : vp_in (x &&& m) (2 ^ k) := by
  obtain ⟨j, hj, e⟩ := pk_andE x k hm
  rw [e]
  exact vp_in_nI hj (Nat.lt_of_le_of_lt (Nat.pow_le_pow_right (by decide) hk) (by decide))
theorem pk_shl (a s : Int32) (k : Nat) (hs : (s.toBitVec.smod 32).toNat = k) : (a <<< s).toBitVec.toNat = a.toBitVec.toNat * 2 ^ k % 2 ^ 32 := by
  show (a.toBitVec <<< (s.toBitVec.smod 32).toNat).toNat = _
  rw [hs, BitVec.toNat_shiftLeft, Nat.shiftLeft_eq]
theorem pk_shlN {n : Nat} (s : Int32) (k : Nat) (hs : (s.toBitVec.smod 32).toNat = k) (h : n * 2 ^ k < 2 ^ 32) : nI n <<< s = nI (n * 2 ^ k) := by
  apply Int32.toBitVec_inj.mp
  apply BitVec.eq_of_toNat_eq
  have hn : n < 2 ^ 32 := Nat.lt_of_le_of_lt (Nat.le_mul_of_pos_right n (Nat.two_pow_pos k)) h
  rw [pk_shl _ _ k hs, pk_tn hn, pk_tn h, Nat.mod_eq_of_lt h]
theorem pk_shr (a s : Int32) (k : Nat) (hs : (s.toBitVec.smod 32).toNat = k) : (a >>> s).toInt = a.toInt >>> k := by
  show (a.toBitVec.sshiftRight (s.toBitVec.smod 32).toNat).toInt = _
  rw [hs, BitVec.toInt_sshiftRight]
  rfl
theorem pk_shrN {n : Nat} (h : n < 2 ^ 31) (s : Int32) (k : Nat) (hs : (s.toBitVec.smod 32).toNat = k) : nI n >>> s = nI (n / 2 ^ k) := by
  apply Int32.toInt_inj.mp
  have h2 : n / 2 ^ k ≤ n := Nat.div_le_self _ _
  rw [pk_shr _ _ k hs, nI_toInt h, nI_toInt (by omega), Int.shiftRight_eq_div_pow]
  rfl
theorem pk_loop {σ : Type} (W : Nat → Nat → σ → Prop) (I : Nat → σ → Prop) (e i0 : Nat) (s : σ) (hi : i0 ≤ e) (h0 : I i0 s) (hx : ∀ n s, I e s → W (n + 1) e s)
    (hs : ∀ n i s, i < e → I i s → (∀ s', I (i + 1) s' → W n (i + 1) s') → W (n + 1) i s) : ∃ n, W n i0 s :=
  ⟨e + 1, loop_i W I e hx hs (e + 1) i0 s hi (by omega) h0⟩
theorem pk_least (P : Nat → Prop) (h : ∃ k, P k) : ∃ k, P k ∧ ∀ j, j < k → ¬ P j := by
  obtain ⟨k, hk⟩ := h
  induction k using Nat.strongRecOn with
  | ind k ih =>
    by_cases e : ∃ j, j < k ∧ P j
    · obtain ⟨j, hj, pj⟩ := e
      exact ih j hj pj
    · exact ⟨k, hk, fun j hj pj => e ⟨j, hj, pj⟩⟩
theorem ek_if {c d A B : Prop} (e : c ↔ d) (f : d → A) (g : ¬ d → B) : (c → A) ∧ (¬ c → B) :=
  ⟨fun z => f (e.mp z), fun z => g (fun y => z (e.mpr y))⟩
theorem s_l : ∀ n, n < 32 → ((nI n &&& 31).toBitVec.smod 32).toNat = n := by decide +kernel
theorem nx_and (a b : Nat) : nI a &&& nI b = nI (a &&& b) := by
  apply Int32.toBitVec_inj.1
  show BitVec.ofNat 32 a &&& BitVec.ofNat 32 b = BitVec.ofNat 32 (a &&& b)
  apply BitVec.eq_of_getLsbD_eq
  intro i hi
  simp [hi]
theorem nx_xor (a b : Nat) : nI a ^^^ nI b = nI (a ^^^ b) := by
  apply Int32.toBitVec_inj.1
  show BitVec.ofNat 32 a ^^^ BitVec.ofNat 32 b = BitVec.ofNat 32 (a ^^^ b)
  apply BitVec.eq_of_getLsbD_eq
  intro i hi
  simp [hi]
theorem cb_or (a b : Nat) : nI a ||| nI b = nI (a ||| b) := by
  apply Int32.toBitVec_inj.1
  show BitVec.ofNat 32 a ||| BitVec.ofNat 32 b = BitVec.ofNat 32 (a ||| b)
  apply BitVec.eq_of_getLsbD_eq
  intro i hi
  simp [hi]
theorem cb_ix (k a b : Nat) : nI k * nI a + nI b = nI (k * a + b) := by rw [pk_mul, nI_add]
theorem cb_m1 : (-1 : Int32) = nI 4294967295 := by decide +kernel
theorem cb_neg (a : Nat) (h : a < 2 ^ 31) : ¬ nI a = -1 := by
  intro e
  have h1 := nI_pos (n := a) h
  rw [e] at h1
  exact h1 (by decide)
theorem cb_bit {S k : Nat} (hS : S < 2 ^ 31) (hk : k < 32) : (nI S >>> (nI k &&& 31)) &&& 1 = nI (S / 2 ^ k % 2) := by
  have h2 : S / 2 ^ k ≤ S := Nat.div_le_self _ _
  rw [pk_shrN hS (nI k &&& 31) k (s_l k hk)]
  exact pk_andN (by omega) 1 (by decide)
theorem cb_tb (S k : Nat) : S.testBit k = true ↔ S / 2 ^ k % 2 = 1 := by
  rw [Nat.testBit_eq_decide_div_mod_eq, decide_eq_true_eq]
theorem cb_bit1 {S k : Nat} (hS : S < 2 ^ 31) (hk : k < 32) : ((nI S >>> (nI k &&& 31)) &&& 1) = 1 ↔ S.testBit k = true := by
  have hm : S / 2 ^ k % 2 < 2 := Nat.mod_lt _ (by decide)
  rw [cb_bit hS hk, cb_tb]
  exact nI_eq (b := 1) (by omega) (by decide)
theorem cb_bit0 {S k : Nat} (hS : S < 2 ^ 31) (hk : k < 32) : ((nI S >>> (nI k &&& 31)) &&& 1) = 0 ↔ ¬ S.testBit k = true := by
  have hm : S / 2 ^ k % 2 < 2 := Nat.mod_lt _ (by decide)
  have h1 : nI (S / 2 ^ k % 2) = 0 ↔ S / 2 ^ k % 2 = 0 := nI_eq (b := 0) (by omega) (by decide)
  rw [cb_bit hS hk, cb_tb, h1]
  omega
theorem cb_p2 {m : Nat} (h : m ≤ 8) : 2 ^ m ≤ 256 := Nat.pow_le_pow_right (n := 2) (by decide) h
theorem cb_1s {k : Nat} (hk : k ≤ 8) : (1 : Int32) <<< (nI k &&& 31) = nI (2 ^ k) := by
  have h := cb_p2 hk
  have e := pk_shlN (n := 1) (nI k &&& 31) k (s_l k (by omega)) (by omega)
  rw [Nat.one_mul] at e
  exact e
theorem cb_1s1 {k : Nat} (hk : k ≤ 8) : ((1 : Int32) <<< (nI k &&& 31)) - 1 = nI (2 ^ k - 1) := by
  rw [cb_1s hk]
  exact pk_sub (b := 1) (Nat.two_pow_pos k)
theorem cb_bs {S k : Nat} (hk : k ≤ 8) : nI S ||| ((1 : Int32) <<< (nI k &&& 31)) = nI (S ||| 2 ^ k) := by
  rw [cb_1s hk, cb_or]
def cb_df (T P : Nat) : Nat := T &&& (P ^^^ 4294967295)
theorem cb_dfI (T P : Nat) : nI T &&& (nI P ^^^ (-1)) = nI (cb_df T P) := by
  rw [cb_m1, nx_xor, nx_and]
  rfl
theorem cb_dfb {T P k : Nat} (hk : k < 32) : (cb_df T P).testBit k = (T.testBit k && !P.testBit k) := by
  unfold cb_df
  rw [Nat.testBit_and, Nat.testBit_xor, show (4294967295 : Nat) = 2 ^ 32 - 1 from rfl, Nat.testBit_two_pow_sub_one]
  simp [hk]
theorem cb_dfle (T P : Nat) : cb_df T P ≤ T := Nat.and_le_left
theorem cb_sp {A B : Prop} {c d : Prop} (e : c ↔ d) (hd : d) (a : A) : (c → A) ∧ (¬ c → B) := ⟨fun _ => a, fun z => absurd (e.mpr hd) z⟩
theorem cb_sn {A B : Prop} {c d : Prop} (e : c ↔ d) (hd : ¬ d) (b : B) : (c → A) ∧ (¬ c → B) := ⟨fun z => absurd (e.mp z) hd, fun _ => b⟩
def cb_bI (b : Bool) : Int32 := if b = true then 1 else 0
theorem cb_bI1 {b : Bool} (h : b = true) : cb_bI b = 1 := if_pos h
theorem cb_bI0 {b : Bool} (h : ¬ b = true) : cb_bI b = 0 := if_neg h
theorem cb_bIe {b : Bool} : cb_bI b = 0 ↔ ¬ b = true := by
  cases b <;> decide
theorem cb_up {C i : Nat} {t f h : Nat → Int32} {v : Int32} (ht : ∀ x, x < C → t x = if x < i then f x else h x) (hv : v = f i) : ∀ x, x < C → upd t i v x = if x < i + 1 then f x else h x := by
  intro x hx
  by_cases e : x = i
  · subst e
    rw [pk_us, if_pos (Nat.lt_succ_self x), hv]
  · rw [pk_un e, ht x hx]
    by_cases l : x < i
    · rw [if_pos l, if_pos (by omega)]
    · rw [if_neg l, if_neg (by omega)]
theorem cb_nt {b : Bool} (h : ¬ b = true) : b = false := by
  cases b
  · rfl
  · exact absurd rfl h
end
section
/-! counts -/
def cb_cn (p : Nat → Bool) : Nat → Nat
  | 0 => 0
  | n + 1 => if p n = true then cb_cn p n + 1 else cb_cn p n
theorem cb_cn_t {p : Nat → Bool} {n : Nat} (h : p n = true) : cb_cn p (n + 1) = cb_cn p n + 1 := if_pos h
theorem cb_cn_f {p : Nat → Bool} {n : Nat} (h : ¬ p n = true) : cb_cn p (n + 1) = cb_cn p n := if_neg h
theorem cb_cn_le (p : Nat → Bool) (n : Nat) : cb_cn p n ≤ n := by
  induction n with
  | zero => exact Nat.le_refl 0
  | succ n ih =>
    by_cases h : p n = true
    · rw [cb_cn_t h]; omega
    · rw [cb_cn_f h]; omega
theorem cb_cn_mono {p : Nat → Bool} {a b : Nat} (h : a ≤ b) : cb_cn p a ≤ cb_cn p b := by
  induction b with
  | zero =>
    have e : a = 0 := by omega
    rw [e]; exact Nat.le_refl _
  | succ b ih =>
    by_cases e : a = b + 1
    · rw [e]; exact Nat.le_refl _
    · have h1 := ih (by omega)
      by_cases hp : p b = true
      · rw [cb_cn_t hp]; omega
      · rw [cb_cn_f hp]; omega
theorem cb_cn_congr {p q : Nat → Bool} {n : Nat} (h : ∀ i, i < n → p i = q i) : cb_cn p n = cb_cn q n := by
  induction n with
  | zero => rfl
  | succ n ih =>
    have e := ih (fun i hi => h i (by omega))
    have e2 := h n (by omega)
    by_cases hp : p n = true
    · rw [cb_cn_t hp, cb_cn_t (by rw [← e2]; exact hp), e]
    · rw [cb_cn_f hp, cb_cn_f (by rw [← e2]; exact hp), e]
theorem cb_cn_sub {p q : Nat → Bool} {n : Nat} (h : ∀ i, i < n → p i = true → q i = true) : cb_cn p n ≤ cb_cn q n := by
  induction n with
  | zero => exact Nat.le_refl 0
  | succ n ih =>
    have e := ih (fun i hi => h i (by omega))
    by_cases hp : p n = true
    · rw [cb_cn_t hp, cb_cn_t (h n (by omega) hp)]; omega
    · rw [cb_cn_f hp]
      by_cases hq : q n = true
      · rw [cb_cn_t hq]; omega
      · rw [cb_cn_f hq]; exact e
theorem cb_cn_lt {p q : Nat → Bool} {n k : Nat} (h : ∀ i, i < n → p i = true → q i = true) (hk : k < n) (h1 : ¬ p k = true) (h2 : q k = true) : cb_cn p n < cb_cn q n := by
  induction n with
  | zero => omega
  | succ n ih =>
    by_cases e : k = n
    · subst e
      have e1 := cb_cn_sub (p := p) (q := q) (n := k) (fun i hi => h i (by omega))
      rw [cb_cn_f h1, cb_cn_t h2]; omega
    · have e1 := ih (fun i hi => h i (by omega)) (by omega)
      by_cases hp : p n = true
      · rw [cb_cn_t hp, cb_cn_t (h n (by omega) hp)]; omega
      · rw [cb_cn_f hp]
        by_cases hq : q n = true
        · rw [cb_cn_t hq]; omega
        · rw [cb_cn_f hq]; exact e1
theorem cb_cn_pos {p : Nat → Bool} {n k : Nat} (hk : k < n) (h : p k = true) : 0 < cb_cn p n := by
  have h1 := cb_cn_mono (p := p) (a := k + 1) (b := n) (by omega)
  rw [cb_cn_t h] at h1
  omega
theorem cb_cn_ex {p : Nat → Bool} {n : Nat} (h : 0 < cb_cn p n) : ∃ k, k < n ∧ p k = true := by
  induction n with
  | zero => exact absurd h (Nat.lt_irrefl 0)
  | succ n ih =>
    by_cases hp : p n = true
    · exact ⟨n, by omega, hp⟩
    · rw [cb_cn_f hp] at h
      obtain ⟨k, hk, e⟩ := ih h
      exact ⟨k, by omega, e⟩
theorem cb_cn_all {p : Nat → Bool} {n : Nat} (h : ∀ i, i < n → p i = true) : cb_cn p n = n := by
  induction n with
  | zero => rfl
  | succ n ih => rw [cb_cn_t (h n (by omega)), ih (fun i hi => h i (by omega))]
theorem cb_cn_none {p : Nat → Bool} {n : Nat} (h : ∀ i, i < n → ¬ p i = true) : cb_cn p n = 0 := by
  induction n with
  | zero => rfl
  | succ n ih => rw [cb_cn_f (h n (by omega)), ih (fun i hi => h i (by omega))]
theorem cb_cn_front (p : Nat → Bool) (n : Nat) : cb_cn p (n + 1) = cb_cn (fun i => p (i + 1)) n + (if p 0 = true then 1 else 0) := by
  induction n with
  | zero =>
    by_cases h : p 0 = true
    · rw [cb_cn_t h, if_pos h]; rfl
    · rw [cb_cn_f h, if_neg h]; rfl
  | succ n ih =>
    by_cases h : p (n + 1) = true
    · rw [cb_cn_t h, ih, cb_cn_t (p := fun i => p (i + 1)) h]; omega
    · rw [cb_cn_f h, ih, cb_cn_f (p := fun i => p (i + 1)) h]
theorem cb_cn_rev (n : Nat) : ∀ p : Nat → Bool, cb_cn (fun i => p (n - 1 - i)) n = cb_cn p n := by
  induction n with
  | zero => intro p; rfl
  | succ n ih =>
    intro p
    rw [cb_cn_front p n, ← ih (fun i => p (i + 1))]
    have e : cb_cn (fun i => p (n + 1 - 1 - i)) n = cb_cn (fun i => p (n - 1 - i + 1)) n := cb_cn_congr (fun i hi => congrArg p (by omega))
    have z : n + 1 - 1 - n = 0 := by omega
    by_cases h : p 0 = true
    · rw [cb_cn_t (p := fun i => p (n + 1 - 1 - i)) (by show p (n + 1 - 1 - n) = true; rw [z]; exact h), if_pos h, e]
    · rw [cb_cn_f (p := fun i => p (n + 1 - 1 - i)) (by show ¬ p (n + 1 - 1 - n) = true; rw [z]; exact h), if_neg h, e]; rfl
theorem cb_cn_split (p : Nat → Bool) (k n : Nat) : cb_cn p n = cb_cn (fun i => p i && !decide (i = k)) n + (if k < n ∧ p k = true then 1 else 0) := by
  induction n with
  | zero =>
    rw [if_neg (fun z => Nat.not_lt_zero k z.1)]; rfl
  | succ n ih =>
    by_cases h : p n = true
    · rw [cb_cn_t h, ih]
      by_cases e : n = k
      · subst e
        rw [cb_cn_f (p := fun i => p i && !decide (i = n)) (by simp), if_neg (fun z => Nat.lt_irrefl n z.1), if_pos ⟨Nat.lt_succ_self n, h⟩]
      · rw [cb_cn_t (p := fun i => p i && !decide (i = k)) (by simp [h, e])]
        by_cases q : k < n ∧ p k = true
        · rw [if_pos q, if_pos ⟨by omega, q.2⟩]
        · rw [if_neg q, if_neg (fun z => q ⟨by omega, z.2⟩)]
    · rw [cb_cn_f h, ih, cb_cn_f (p := fun i => p i && !decide (i = k)) (by simp [h])]
      by_cases q : k < n ∧ p k = true
      · rw [if_pos q, if_pos ⟨by omega, q.2⟩]
      · have q2 : ¬ (k < n + 1 ∧ p k = true) := by
          intro z
          by_cases e : k = n
          · subst e; exact h z.2
          · exact q ⟨by omega, z.2⟩
        rw [if_neg q, if_neg q2]
/-! the k-th of them -/
def cb_kt (p : Nat → Bool) (k : Nat) : Nat → Nat
  | 0 => 0
  | n + 1 => if p n = true ∧ cb_cn p n = k then n else cb_kt p k n
theorem cb_kt_eq {p : Nat → Bool} {k n x : Nat} (hx : x < n) (hp : p x = true) (hc : cb_cn p x = k) : cb_kt p k n = x := by
  induction n with
  | zero => omega
  | succ n ih =>
    by_cases h : x = n
    · subst h; exact if_pos ⟨hp, hc⟩
    · have h1 := cb_cn_mono (p := p) (a := x + 1) (b := n) (by omega)
      rw [cb_cn_t hp] at h1
      have h2 : cb_kt p k (n + 1) = cb_kt p k n := if_neg (fun z => by omega)
      rw [h2]
      exact ih (by omega)
theorem cb_kt_lt {p : Nat → Bool} {k n : Nat} (h : k < cb_cn p n) : cb_kt p k n < n := by
  induction n with
  | zero => exact absurd h (Nat.not_lt_zero k)
  | succ n ih =>
    by_cases e : p n = true ∧ cb_cn p n = k
    · have h2 : cb_kt p k (n + 1) = n := if_pos e
      rw [h2]; exact Nat.lt_succ_self n
    · have h2 : cb_kt p k (n + 1) = cb_kt p k n := if_neg e
      rw [h2]
      have h3 : k < cb_cn p n := by
        by_cases hp : p n = true
        · rw [cb_cn_t hp] at h
          have h4 : ¬ cb_cn p n = k := fun z => e ⟨hp, z⟩
          omega
        · rw [cb_cn_f hp] at h; exact h
      have h5 := ih h3
      omega
/-! sums, greatest, squares -/
def cb_sm (f : Nat → Nat) : Nat → Nat
  | 0 => 0
  | n + 1 => cb_sm f n + f n
def cb_mx (f : Nat → Nat) : Nat → Nat
  | 0 => 0
  | n + 1 => if f n ≤ cb_mx f n then cb_mx f n else f n
def cb_sq (f : Nat → Nat) : Nat → Nat
  | 0 => 0
  | n + 1 => cb_sq f n + f n * f n
def cb_pc (f : Nat → Nat) (n : Nat) : Nat := cb_cn (fun a => decide (0 < f a)) n
theorem cb_sm_one {f f' : Nat → Nat} {a0 : Nat} (h : ∀ a, f' a = f a + (if a = a0 then 1 else 0)) (k : Nat) : cb_sm f' k = cb_sm f k + (if a0 < k then 1 else 0) := by
  induction k with
  | zero => rw [if_neg (Nat.not_lt_zero a0)]; rfl
  | succ k ih =>
    show cb_sm f' k + f' k = cb_sm f k + f k + _
    rw [ih, h k]
    by_cases e : k = a0
    · rw [if_pos e, if_neg (by omega), if_pos (by omega)]; omega
    · rw [if_neg e]
      by_cases l : a0 < k
      · rw [if_pos l, if_pos (by omega)]; omega
      · rw [if_neg l, if_neg (by omega)]; omega
theorem cb_sm_c {f f' : Nat → Nat} (h : ∀ a, f' a = f a) (k : Nat) : cb_sm f' k = cb_sm f k := by
  have e : f' = f := funext h
  rw [e]
theorem cb_sm_0 {f : Nat → Nat} (h : ∀ a, f a = 0) (k : Nat) : cb_sm f k = 0 := by
  induction k with
  | zero => rfl
  | succ k ih => show cb_sm f k + f k = 0; rw [ih, h k]
theorem cb_mx_le {f : Nat → Nat} {M n : Nat} (h : ∀ a, a < n → f a ≤ M) : cb_mx f n ≤ M := by
  induction n with
  | zero => exact Nat.zero_le M
  | succ n ih =>
    have h1 := ih (fun a ha => h a (by omega))
    have h2 := h n (by omega)
    show (if f n ≤ cb_mx f n then cb_mx f n else f n) ≤ M
    by_cases e : f n ≤ cb_mx f n
    · rw [if_pos e]; exact h1
    · rw [if_neg e]; exact h2
theorem cb_sq_le {f : Nat → Nat} {M n : Nat} (h : ∀ a, a < n → f a ≤ M) : cb_sq f n ≤ M * cb_sm f n := by
  induction n with
  | zero => exact Nat.zero_le _
  | succ n ih =>
    have h1 := ih (fun a ha => h a (by omega))
    have h2 := Nat.mul_le_mul_right (f n) (h n (by omega))
    show cb_sq f n + f n * f n ≤ M * (cb_sm f n + f n)
    rw [Nat.mul_add]; omega
theorem cb_mx_up {f : Nat → Nat} {n : Nat} (h : ∀ a, n ≤ a → f a = 0) (k : Nat) : cb_mx f (n + k) = cb_mx f n := by
  induction k with
  | zero => rfl
  | succ k ih =>
    have z : f (n + k) ≤ cb_mx f (n + k) := by rw [h (n + k) (by omega)]; exact Nat.zero_le _
    have e : cb_mx f (n + (k + 1)) = cb_mx f (n + k) := if_pos z
    rw [e, ih]
theorem cb_sq_up {f : Nat → Nat} {n : Nat} (h : ∀ a, n ≤ a → f a = 0) (k : Nat) : cb_sq f (n + k) = cb_sq f n := by
  induction k with
  | zero => rfl
  | succ k ih =>
    have e : cb_sq f (n + (k + 1)) = cb_sq f (n + k) + f (n + k) * f (n + k) := rfl
    rw [e, ih, h (n + k) (by omega), Nat.mul_zero, Nat.add_zero]
theorem cb_pc_up {f : Nat → Nat} {n : Nat} (h : ∀ a, n ≤ a → f a = 0) (k : Nat) : cb_pc f (n + k) = cb_pc f n := by
  induction k with
  | zero => rfl
  | succ k ih =>
    have z : ¬ decide (0 < f (n + k)) = true := by rw [h (n + k) (by omega)]; decide
    have e : cb_pc f (n + (k + 1)) = cb_pc f (n + k) := cb_cn_f (p := fun a => decide (0 < f a)) z
    rw [e, ih]
end
section
/-! digits and answers -/
def cb_dg (D x i : Nat) : Nat := x / D ^ i % D
def cb_tm (D x d n : Nat) : Nat := cb_cn (fun i => decide (cb_dg D x i = d)) n
def cb_sa (D g s n : Nat) : Nat := cb_cn (fun i => decide (cb_dg D g i = cb_dg D s i)) n
def cb_mn (D L g s : Nat) : Nat → Nat
  | 0 => 0
  | d + 1 => cb_mn D L g s d + (if cb_tm D s d L ≤ cb_tm D g d L then cb_tm D s d L else cb_tm D g d L)
def cb_an (L D g s : Nat) : Nat := 10 * cb_sa D g s L + cb_mn D L g s D - cb_sa D g s L
theorem cb_dg_lt {D x i : Nat} (h : 0 < D) : cb_dg D x i < D := Nat.mod_lt _ h
theorem cb_tm_le (D x d n : Nat) : cb_tm D x d n ≤ n := cb_cn_le _ n
theorem cb_sa_le (D g s n : Nat) : cb_sa D g s n ≤ n := cb_cn_le _ n
theorem cb_tm_s (D x d n : Nat) : cb_tm D x d (n + 1) = cb_tm D x d n + (if d = cb_dg D x n then 1 else 0) := by
  by_cases e : d = cb_dg D x n
  · rw [if_pos e]
    exact cb_cn_t (p := fun i => decide (cb_dg D x i = d)) (by simp [e])
  · rw [if_neg e]
    exact cb_cn_f (p := fun i => decide (cb_dg D x i = d)) (by simp; exact fun z => e z.symm)
theorem cb_tm_sum {D : Nat} (h : 0 < D) (x n : Nat) : cb_sm (fun d => cb_tm D x d n) D = n := by
  induction n with
  | zero => exact cb_sm_0 (fun _ => rfl) D
  | succ n ih =>
    rw [cb_sm_one (f := fun d => cb_tm D x d n) (a0 := cb_dg D x n) (fun d => cb_tm_s D x d n) D, ih, if_pos (cb_dg_lt h)]
theorem cb_mn_le (D L g s n : Nat) : cb_mn D L g s n ≤ cb_sm (fun d => cb_tm D g d L) n := by
  induction n with
  | zero => exact Nat.le_refl 0
  | succ n ih =>
    show cb_mn D L g s n + (if cb_tm D s n L ≤ cb_tm D g n L then cb_tm D s n L else cb_tm D g n L) ≤ cb_sm (fun d => cb_tm D g d L) n + cb_tm D g n L
    by_cases e : cb_tm D s n L ≤ cb_tm D g n L
    · rw [if_pos e]; omega
    · rw [if_neg e]; omega
theorem cb_mn_eq (D L g n : Nat) : cb_mn D L g g n = cb_sm (fun d => cb_tm D g d L) n := by
  induction n with
  | zero => rfl
  | succ n ih =>
    show cb_mn D L g g n + (if cb_tm D g n L ≤ cb_tm D g n L then cb_tm D g n L else cb_tm D g n L) = cb_sm (fun d => cb_tm D g d L) n + cb_tm D g n L
    rw [if_pos (Nat.le_refl _), ih]
theorem cb_an_le {L D : Nat} (hL : L ≤ 4) (hD : 0 < D) (g s : Nat) : cb_an L D g s ≤ 40 := by
  have h1 := cb_mn_le D L g s D
  rw [cb_tm_sum hD] at h1
  have h2 := cb_sa_le D g s L
  unfold cb_an
  omega
theorem cb_an_eq {L D : Nat} (hD : 0 < D) (g : Nat) : cb_an L D g g = 10 * L := by
  have h1 := cb_mn_eq D L g D
  rw [cb_tm_sum hD] at h1
  have h2 : cb_sa D g g L = L := cb_cn_all (fun i _ => by simp)
  unfold cb_an
  omega
theorem cb_C81 {L D : Nat} (h1 : 1 ≤ L) (h2 : L ≤ 4) (h3 : 1 ≤ D) (h4 : D ≤ 3) : 1 ≤ D ^ L ∧ D ^ L ≤ 81 := by
  constructor
  · exact Nat.pow_pos h3
  · exact Nat.le_trans (Nat.pow_le_pow_left h4 L) (Nat.le_trans (Nat.pow_le_pow_right (n := 3) (by decide) h2) (by decide))
/-! agreement -/
def cb_ds (A : Nat → Nat → Nat) (G R : Nat → Nat) (x i : Nat) : Bool := decide (¬ A (G i) x = R i)
def cb_ok (A : Nat → Nat → Nat) (G R : Nat → Nat) (c x : Nat) : Bool := decide (cb_cn (cb_ds A G R x) c = 0)
def cb_ow (A : Nat → Nat → Nat) (G R : Nat → Nat) (c k x : Nat) : Bool := decide (cb_cn (fun i => cb_ds A G R x i && !decide (i = k)) c = 0)
def cb_us (A : Nat → Nat → Nat) (G R : Nat → Nat) (c C k : Nat) : Nat := cb_cn (fun x => decide (cb_cn (cb_ds A G R x) c = 1) && cb_ds A G R x k) C
theorem cb_okI {A : Nat → Nat → Nat} {G R : Nat → Nat} {c x : Nat} : cb_ok A G R c x = true ↔ cb_cn (cb_ds A G R x) c = 0 := decide_eq_true_iff
theorem cb_owI {A : Nat → Nat → Nat} {G R : Nat → Nat} {c k x : Nat} : cb_ow A G R c k x = true ↔ cb_cn (fun i => cb_ds A G R x i && !decide (i = k)) c = 0 := decide_eq_true_iff
theorem cb_us_pt {A : Nat → Nat → Nat} {G R : Nat → Nat} {c k x : Nat} (hk : k < c) : (cb_ow A G R c k x = true ∧ ¬ cb_ok A G R c x = true) ↔ (cb_cn (cb_ds A G R x) c = 1 ∧ cb_ds A G R x k = true) := by
  have h := cb_cn_split (cb_ds A G R x) k c
  rw [cb_owI, cb_okI]
  by_cases d : cb_ds A G R x k = true
  · rw [if_pos ⟨hk, d⟩] at h
    exact ⟨fun z => ⟨by omega, d⟩, fun z => ⟨by omega, by omega⟩⟩
  · rw [if_neg (fun z => d z.2)] at h
    exact ⟨fun z => absurd (by omega : cb_cn (cb_ds A G R x) c = 0) z.2, fun z => absurd z.2 d⟩
theorem cb_ok_ow {A : Nat → Nat → Nat} {G R : Nat → Nat} {c k x : Nat} (h : cb_ok A G R c x = true) : cb_ow A G R c k x = true := by
  rw [cb_owI]
  rw [cb_okI] at h
  have h2 := cb_cn_split (cb_ds A G R x) k c
  omega
theorem cb_us_iff {A : Nat → Nat → Nat} {G R : Nat → Nat} {c k C : Nat} (hk : k < c) : cb_cn (cb_ok A G R c) C < cb_cn (cb_ow A G R c k) C ↔ 0 < cb_us A G R c C k := by
  constructor
  · intro h
    by_cases e : ∃ x, x < C ∧ cb_ow A G R c k x = true ∧ ¬ cb_ok A G R c x = true
    · obtain ⟨x, hx, hw⟩ := e
      obtain ⟨a, b⟩ := (cb_us_pt hk).mp hw
      exact cb_cn_pos (p := fun x => decide (cb_cn (cb_ds A G R x) c = 1) && cb_ds A G R x k) hx (by simp [a, b])
    · have h2 : cb_cn (cb_ow A G R c k) C ≤ cb_cn (cb_ok A G R c) C := cb_cn_sub (fun x hx hw => Classical.byContradiction (fun z => e ⟨x, hx, hw, z⟩))
      omega
  · intro h
    obtain ⟨x, hx, e⟩ := cb_cn_ex h
    have e2 : cb_cn (cb_ds A G R x) c = 1 ∧ cb_ds A G R x k = true := by
      simpa using e
    obtain ⟨a, b⟩ := (cb_us_pt hk).mpr e2
    exact cb_cn_lt (fun i _ hi => cb_ok_ow hi) hx b a
/-! sizes of parts -/
def cb_sz (A : Nat → Nat → Nat) (ok : Nat → Bool) (g n a : Nat) : Nat := cb_cn (fun x => ok x && decide (A g x = a)) n
theorem cb_sz_s {A : Nat → Nat → Nat} {ok : Nat → Bool} {g n a : Nat} (h : ok n = true) : cb_sz A ok g (n + 1) a = cb_sz A ok g n a + (if a = A g n then 1 else 0) := by
  by_cases e : a = A g n
  · rw [if_pos e]
    exact cb_cn_t (p := fun x => ok x && decide (A g x = a)) (by simp [e, h])
  · rw [if_neg e]
    exact cb_cn_f (p := fun x => ok x && decide (A g x = a)) (by simp [h]; exact fun z => e z.symm)
theorem cb_sz_n {A : Nat → Nat → Nat} {ok : Nat → Bool} {g n a : Nat} (h : ¬ ok n = true) : cb_sz A ok g (n + 1) a = cb_sz A ok g n a :=
  cb_cn_f (p := fun x => ok x && decide (A g x = a)) (by simp [h])
theorem cb_sz_le (A : Nat → Nat → Nat) (ok : Nat → Bool) (g n a : Nat) : cb_sz A ok g n a ≤ n := cb_cn_le _ n
theorem cb_sz_z {A : Nat → Nat → Nat} {ok : Nat → Bool} {g n a : Nat} (h : ∀ x, x < n → ¬ A g x = a) : cb_sz A ok g n a = 0 :=
  cb_cn_none (fun x hx => by simp [h x hx])
theorem cb_sz_sum (A : Nat → Nat → Nat) (ok : Nat → Bool) (g n k : Nat) : cb_sm (cb_sz A ok g n) k ≤ n := by
  induction n with
  | zero => rw [cb_sm_0 (f := cb_sz A ok g 0) (fun _ => rfl) k]; exact Nat.le_refl 0
  | succ n ih =>
    by_cases h : ok n = true
    · rw [cb_sm_one (f := cb_sz A ok g n) (a0 := A g n) (fun a => cb_sz_s h) k]
      by_cases e : A g n < k
      · rw [if_pos e]; omega
      · rw [if_neg e]; omega
    · rw [cb_sm_c (f := cb_sz A ok g n) (fun a => cb_sz_n h) k]; omega
/-- by = 0: the greatest part; else the squares -/
def cb_vl (A : Nat → Nat → Nat) (ok : Nat → Bool) (C : Nat) (bs : Bool) (g : Nat) : Nat := if bs = true then cb_sq (cb_sz A ok g C) 45 else cb_mx (cb_sz A ok g C) 45
def cb_rk (A : Nat → Nat → Nat) (ok : Nat → Bool) (C : Nat) (bs : Bool) (g : Nat) : Nat := 2 * cb_vl A ok C bs g + (if ok g = true then 0 else 1)
theorem cb_vl_le {A : Nat → Nat → Nat} {ok : Nat → Bool} {C : Nat} (hC : C ≤ 81) (bs : Bool) (g : Nat) : cb_vl A ok C bs g ≤ 6561 := by
  have h1 : ∀ a, a < 45 → cb_sz A ok g C a ≤ 81 := fun a _ => Nat.le_trans (cb_sz_le A ok g C a) hC
  have h2 := cb_mx_le h1
  have h3 := cb_sq_le h1
  have h4 := cb_sz_sum A ok g C 45
  have h5 : 81 * cb_sm (cb_sz A ok g C) 45 ≤ 6561 := by omega
  unfold cb_vl
  cases bs
  · rw [if_neg (by decide)]; omega
  · rw [if_pos rfl]; omega
theorem cb_rk_le {A : Nat → Nat → Nat} {ok : Nat → Bool} {C : Nat} (hC : C ≤ 81) (bs : Bool) (g : Nat) : cb_rk A ok C bs g ≤ 13123 := by
  have h := cb_vl_le (A := A) (ok := ok) hC bs g
  unfold cb_rk
  by_cases e : ok g = true
  · rw [if_pos e]; omega
  · rw [if_neg e]; omega
def cb_bi (rk : Nat → Nat) : Nat → Nat
  | 0 => 0
  | n + 1 => if rk (cb_bi rk n) ≤ rk n then cb_bi rk n else n
theorem cb_bi_1 (rk : Nat → Nat) : cb_bi rk 1 = 0 := if_pos (Nat.le_refl _)
end
section
/-! sets of the few codes as numbers, their parts, the guesses that are needed -/
def cb_pt (b : Nat → Nat) (S a : Nat) : Nat → Nat
  | 0 => 0
  | k + 1 => if S.testBit k = true ∧ b k = a then cb_pt b S a k ||| 2 ^ k else cb_pt b S a k
theorem cb_pt_t {b : Nat → Nat} {S a k : Nat} (h : S.testBit k = true ∧ b k = a) : cb_pt b S a (k + 1) = cb_pt b S a k ||| 2 ^ k := if_pos h
theorem cb_pt_f {b : Nat → Nat} {S a k : Nat} (h : ¬ (S.testBit k = true ∧ b k = a)) : cb_pt b S a (k + 1) = cb_pt b S a k := if_neg h
theorem cb_pt_lt (b : Nat → Nat) (S a k : Nat) : cb_pt b S a k < 2 ^ k := by
  induction k with
  | zero => exact Nat.zero_lt_one
  | succ k ih =>
    have e : 2 ^ (k + 1) = 2 ^ k + 2 ^ k := by rw [Nat.pow_succ]; omega
    by_cases h : S.testBit k = true ∧ b k = a
    · rw [cb_pt_t h]
      exact Nat.or_lt_two_pow (by omega) (by have := Nat.two_pow_pos k; omega)
    · rw [cb_pt_f h]; omega
theorem cb_pt_b (b : Nat → Nat) (S a k j : Nat) : (cb_pt b S a k).testBit j = true ↔ (j < k ∧ S.testBit j = true ∧ b j = a) := by
  induction k with
  | zero =>
    constructor
    · intro h
      have h2 : (0 : Nat).testBit j = true := h
      rw [Nat.zero_testBit] at h2
      exact absurd h2 (by decide)
    · exact fun h => absurd h.1 (Nat.not_lt_zero j)
  | succ k ih =>
    by_cases h : S.testBit k = true ∧ b k = a
    · rw [cb_pt_t h, Nat.testBit_or, Bool.or_eq_true, ih, Nat.testBit_two_pow, decide_eq_true_eq]
      constructor
      · rintro (z | z)
        · exact ⟨by omega, z.2⟩
        · subst z; exact ⟨by omega, h⟩
      · intro z
        by_cases e : k = j
        · exact Or.inr e
        · exact Or.inl ⟨by omega, z.2⟩
    · rw [cb_pt_f h, ih]
      constructor
      · exact fun z => ⟨by omega, z.2⟩
      · intro z
        by_cases e : k = j
        · subst e; exact absurd z.2 h
        · exact ⟨by omega, z.2⟩
theorem cb_sle {P S : Nat} (h : ∀ j, P.testBit j = true → S.testBit j = true) : P ≤ S := by
  have e : P &&& S = P := by
    apply Nat.eq_of_testBit_eq
    intro i
    rw [Nat.testBit_and]
    by_cases hp : P.testBit i = true
    · rw [hp, h i hp]; rfl
    · rw [Bool.not_eq_true] at hp; rw [hp]; rfl
  rw [← e]
  exact Nat.and_le_right
theorem cb_pt_le (b : Nat → Nat) (S a k : Nat) : cb_pt b S a k ≤ S := cb_sle (fun j h => ((cb_pt_b b S a k j).mp h).2.1)
theorem cb_tlt {S m k : Nat} (hS : S < 2 ^ m) (h : S.testBit k = true) : k < m := by
  by_cases e : k < m
  · exact e
  · have h2 : S < 2 ^ k := Nat.lt_of_lt_of_le hS (Nat.pow_le_pow_right (n := 2) (by decide) (by omega))
    rw [Nat.testBit_lt_two_pow h2] at h
    exact absurd h (by decide)
theorem cb_tex {S m : Nat} (hS : S < 2 ^ m) (h : ¬ S = 0) : ∃ k, k < m ∧ S.testBit k = true := by
  obtain ⟨k, hk⟩ := Nat.exists_testBit_of_ne_zero h
  exact ⟨k, cb_tlt hS hk, hk⟩
def cb_hh (L : Nat) (N b : Nat → Nat) (S m k : Nat) : Nat :=
  if b k = 10 * L then 0 else if cb_pt b S (b k) m = 0 then 0 else if cb_pt b S (b k) m = S then 100 else N (cb_pt b S (b k) m)
def cb_mh (h : Nat → Nat) : Nat → Nat
  | 0 => 0
  | k + 1 => if h k ≤ cb_mh h k then cb_mh h k else h k
theorem cb_mh_le {h : Nat → Nat} {n q : Nat} : cb_mh h n ≤ q ↔ ∀ k, k < n → h k ≤ q := by
  induction n with
  | zero => exact ⟨fun _ k hk => absurd hk (Nat.not_lt_zero k), fun _ => Nat.zero_le q⟩
  | succ n ih =>
    show (if h n ≤ cb_mh h n then cb_mh h n else h n) ≤ q ↔ _
    constructor
    · intro z k hk
      by_cases e : h n ≤ cb_mh h n
      · rw [if_pos e] at z
        by_cases ek : k = n
        · subst ek; omega
        · exact ih.mp z k (by omega)
      · rw [if_neg e] at z
        by_cases ek : k = n
        · subst ek; exact z
        · exact ih.mp (by omega) k (by omega)
    · intro z
      have z1 := ih.mpr (fun k hk => z k (by omega))
      have z2 := z n (by omega)
      by_cases e : h n ≤ cb_mh h n
      · rw [if_pos e]; exact z1
      · rw [if_neg e]; exact z2
theorem cb_mh_c {h h' : Nat → Nat} {n : Nat} (e : ∀ k, k < n → h k = h' k) : cb_mh h n = cb_mh h' n := by
  induction n with
  | zero => rfl
  | succ n ih =>
    show (if h n ≤ cb_mh h n then cb_mh h n else h n) = (if h' n ≤ cb_mh h' n then cb_mh h' n else h' n)
    rw [ih (fun k hk => e k (by omega)), e n (by omega)]
def cb_nw (L : Nat) (N b : Nat → Nat) (S m : Nat) : Nat := cb_mh (cb_hh L N b S m) m + 1
def cb_io (F : Nat → Nat) (S g : Nat) : Nat → Bool
  | 0 => false
  | k + 1 => cb_io F S g k || (S.testBit k && decide (F k = g))
theorem cb_io_t {F : Nat → Nat} {S g n : Nat} : cb_io F S g n = true ↔ ∃ k, k < n ∧ S.testBit k = true ∧ F k = g := by
  induction n with
  | zero => exact ⟨fun z => absurd (show false = true from z) (by decide), fun ⟨k, hk, _⟩ => absurd hk (Nat.not_lt_zero k)⟩
  | succ n ih =>
    show (cb_io F S g n || (S.testBit n && decide (F n = g))) = true ↔ _
    rw [Bool.or_eq_true, ih, Bool.and_eq_true, decide_eq_true_eq]
    constructor
    · rintro (⟨k, hk, z⟩ | z)
      · exact ⟨k, by omega, z⟩
      · exact ⟨n, by omega, z⟩
    · rintro ⟨k, hk, z⟩
      by_cases e : k = n
      · subst e; exact Or.inr z
      · exact Or.inl ⟨k, by omega, z⟩
def cb_kd (kb : Bool) (F : Nat → Nat) (m S g : Nat) : Bool := !kb || cb_io F S g m
/-- the least over the guesses below n -/
def cb_ls (w : Nat → Nat) (p : Nat → Bool) : Nat → Nat
  | 0 => 100
  | g + 1 => if p g = true then (if cb_ls w p g ≤ w g then cb_ls w p g else w g) else cb_ls w p g
theorem cb_ls_n {w : Nat → Nat} {p : Nat → Bool} {g : Nat} (h : ¬ p g = true) : cb_ls w p (g + 1) = cb_ls w p g := if_neg h
theorem cb_ls_a {w : Nat → Nat} {p : Nat → Bool} {g : Nat} (h : p g = true) (h2 : cb_ls w p g ≤ w g) : cb_ls w p (g + 1) = cb_ls w p g := (if_pos h).trans (if_pos h2)
theorem cb_ls_b {w : Nat → Nat} {p : Nat → Bool} {g : Nat} (h : p g = true) (h2 : ¬ cb_ls w p g ≤ w g) : cb_ls w p (g + 1) = w g := (if_pos h).trans (if_neg h2)
theorem cb_ls_sp (w : Nat → Nat) (p : Nat → Bool) (n : Nat) : cb_ls w p n ≤ 100 ∧ (∀ g, g < n → p g = true → cb_ls w p n ≤ w g) ∧ (cb_ls w p n = 100 ∨ ∃ g, g < n ∧ p g = true ∧ cb_ls w p n = w g) := by
  induction n with
  | zero => exact ⟨Nat.le_refl 100, fun g hg => absurd hg (Nat.not_lt_zero g), Or.inl rfl⟩
  | succ n ih =>
    obtain ⟨h1, h2, h3⟩ := ih
    by_cases hp : p n = true
    · by_cases hw : cb_ls w p n ≤ w n
      · rw [cb_ls_a hp hw]
        refine ⟨h1, fun g hg hpg => ?_, ?_⟩
        · by_cases e : g = n
          · subst e; exact hw
          · exact h2 g (by omega) hpg
        · rcases h3 with h3 | ⟨g, hg, h3⟩
          · exact Or.inl h3
          · exact Or.inr ⟨g, by omega, h3⟩
      · rw [cb_ls_b hp hw]
        refine ⟨by omega, fun g hg hpg => ?_, Or.inr ⟨n, by omega, hp, rfl⟩⟩
        by_cases e : g = n
        · subst e; exact Nat.le_refl _
        · have := h2 g (by omega) hpg
          omega
    · rw [cb_ls_n hp]
      refine ⟨h1, fun g hg hpg => ?_, ?_⟩
      · by_cases e : g = n
        · subst e; exact absurd hpg hp
        · exact h2 g (by omega) hpg
      · rcases h3 with h3 | ⟨g, hg, h3⟩
        · exact Or.inl h3
        · exact Or.inr ⟨g, by omega, h3⟩
theorem cb_ls_c {w w' : Nat → Nat} {p : Nat → Bool} {n : Nat} (e : ∀ g, g < n → w g = w' g) : cb_ls w p n = cb_ls w' p n := by
  induction n with
  | zero => rfl
  | succ n ih =>
    have e1 := ih (fun g hg => e g (by omega))
    show (if p n = true then (if cb_ls w p n ≤ w n then cb_ls w p n else w n) else cb_ls w p n) = (if p n = true then (if cb_ls w' p n ≤ w' n then cb_ls w' p n else w' n) else cb_ls w' p n)
    rw [e1, e n (by omega)]
/-- one more set's number, from the table of the lesser ones -/
def cb_st (L C m : Nat) (B : Nat → Nat → Nat) (F : Nat → Nat) (kb : Bool) (N : Nat → Nat) (S : Nat) : Nat :=
  if S = 0 then 0 else cb_ls (fun g => cb_nw L N (B g) S m) (cb_kd kb F m S) C
def cb_tbl (L C m : Nat) (B : Nat → Nat → Nat) (F : Nat → Nat) (kb : Bool) : Nat → Nat → Nat
  | 0 => fun _ => 0
  | S + 1 => fun s => if s = S then cb_st L C m B F kb (cb_tbl L C m B F kb S) S else cb_tbl L C m B F kb S s
def cb_N (L C m : Nat) (B : Nat → Nat → Nat) (F : Nat → Nat) (kb : Bool) (S : Nat) : Nat := cb_tbl L C m B F kb (S + 1) S
theorem cb_tbl_lt {L C m : Nat} {B : Nat → Nat → Nat} {F : Nat → Nat} {kb : Bool} {n s : Nat} (h : s < n) : cb_tbl L C m B F kb n s = cb_N L C m B F kb s := by
  induction n with
  | zero => exact absurd h (Nat.not_lt_zero s)
  | succ n ih =>
    by_cases e : s = n
    · subst e; rfl
    · have e2 : cb_tbl L C m B F kb (n + 1) s = cb_tbl L C m B F kb n s := if_neg e
      rw [e2, ih (by omega)]
theorem cb_hh_c {L m S k : Nat} {N N' b : Nat → Nat} (h : ∀ s, s < S → N s = N' s) : cb_hh L N b S m k = cb_hh L N' b S m k := by
  unfold cb_hh
  by_cases h1 : b k = 10 * L
  · rw [if_pos h1, if_pos h1]
  · rw [if_neg h1, if_neg h1]
    by_cases h2 : cb_pt b S (b k) m = 0
    · rw [if_pos h2, if_pos h2]
    · rw [if_neg h2, if_neg h2]
      by_cases h3 : cb_pt b S (b k) m = S
      · rw [if_pos h3, if_pos h3]
      · rw [if_neg h3, if_neg h3]
        have h4 := cb_pt_le b S (b k) m
        exact h _ (by omega)
theorem cb_nw_c {L m S : Nat} {N N' b : Nat → Nat} (h : ∀ s, s < S → N s = N' s) : cb_nw L N b S m = cb_nw L N' b S m := by
  unfold cb_nw
  rw [cb_mh_c (fun k _ => cb_hh_c h)]
theorem cb_N_0 {L C m : Nat} {B : Nat → Nat → Nat} {F : Nat → Nat} {kb : Bool} : cb_N L C m B F kb 0 = 0 := rfl
theorem cb_N_s {L C m : Nat} {B : Nat → Nat → Nat} {F : Nat → Nat} {kb : Bool} {S : Nat} (h : 0 < S) : cb_N L C m B F kb S = cb_ls (fun g => cb_nw L (cb_N L C m B F kb) (B g) S m) (cb_kd kb F m S) C := by
  have e : cb_N L C m B F kb S = cb_st L C m B F kb (cb_tbl L C m B F kb S) S := if_pos rfl
  rw [e]
  unfold cb_st
  rw [if_neg (by omega)]
  exact cb_ls_c (fun g _ => cb_nw_c (fun s hs => cb_tbl_lt hs))
section
variable {L C m : Nat} {B : Nat → Nat → Nat} {F : Nat → Nat} {kb : Bool}
theorem cb_N_pop (hm : m ≤ 8) (hF : ∀ k, k < m → F k < C ∧ B (F k) k = 10 * L) : ∀ S, S < 2 ^ m → cb_N L C m B F kb S ≤ cb_cn (fun k => S.testBit k) m := by
  intro S
  induction S using Nat.strongRecOn with
  | ind S ih =>
    intro hS
    by_cases h0 : S = 0
    · subst h0; rw [cb_N_0]; exact Nat.zero_le _
    · obtain ⟨k, hk, hkb⟩ := cb_tex hS h0
      obtain ⟨hg, hBk⟩ := hF k hk
      rw [cb_N_s (by omega)]
      have hkd : cb_kd kb F m S (F k) = true := by
        have h1 : cb_io F S (F k) m = true := cb_io_t.mpr ⟨k, hk, hkb, rfl⟩
        unfold cb_kd
        rw [h1, Bool.or_true]
      refine Nat.le_trans ((cb_ls_sp _ _ C).2.1 (F k) hg hkd) ?_
      have hpos : 0 < cb_cn (fun k => S.testBit k) m := cb_cn_pos (p := fun k => S.testBit k) hk hkb
      have hmh : cb_mh (cb_hh L (cb_N L C m B F kb) (B (F k)) S m) m ≤ cb_cn (fun k => S.testBit k) m - 1 := by
        refine cb_mh_le.mpr (fun j hj => ?_)
        unfold cb_hh
        by_cases h1 : B (F k) j = 10 * L
        · rw [if_pos h1]; exact Nat.zero_le _
        · rw [if_neg h1]
          by_cases h2 : cb_pt (B (F k)) S (B (F k) j) m = 0
          · rw [if_pos h2]; exact Nat.zero_le _
          · rw [if_neg h2]
            have hsub : ∀ i, i < m → (cb_pt (B (F k)) S (B (F k) j) m).testBit i = true → S.testBit i = true := fun i _ z => ((cb_pt_b _ _ _ _ i).mp z).2.1
            have hkn : ¬ (cb_pt (B (F k)) S (B (F k) j) m).testBit k = true := by
              intro z
              have z2 := ((cb_pt_b _ _ _ _ k).mp z).2.2
              exact h1 (by rw [← z2, hBk])
            have hne : ¬ cb_pt (B (F k)) S (B (F k) j) m = S := by
              intro z
              rw [z] at hkn
              exact hkn hkb
            rw [if_neg hne]
            have hle := cb_pt_le (B (F k)) S (B (F k) j) m
            have hlt := cb_cn_lt (p := fun i => (cb_pt (B (F k)) S (B (F k) j) m).testBit i) (q := fun i => S.testBit i) hsub hk hkn hkb
            have := ih (cb_pt (B (F k)) S (B (F k) j) m) (by omega) (by omega)
            omega
      show cb_mh (cb_hh L (cb_N L C m B F kb) (B (F k)) S m) m + 1 ≤ _
      omega
theorem cb_N_le (hm : m ≤ 8) (hF : ∀ k, k < m → F k < C ∧ B (F k) k = 10 * L) {S : Nat} (hS : S < 2 ^ m) : cb_N L C m B F kb S ≤ 8 :=
  Nat.le_trans (cb_N_pop hm hF S hS) (Nat.le_trans (cb_cn_le _ m) hm)
theorem cb_N_pos {S : Nat} (h : 0 < S) : 0 < cb_N L C m B F kb S := by
  rw [cb_N_s h]
  rcases (cb_ls_sp (fun g => cb_nw L (cb_N L C m B F kb) (B g) S m) (cb_kd kb F m S) C).2.2 with e | ⟨g, _, _, e⟩
  · rw [e]; decide
  · rw [e]; exact Nat.succ_pos _
/-- what the reference asks of a guess: each part is within q guesses by the table E -/
def cb_lv (L : Nat) (E b : Nat → Nat) (S m q : Nat) : Prop := ∀ k, k < m → S.testBit k = true → b k = 10 * L ∨ E (cb_pt b S (b k) m) ≤ q
theorem cb_lv_nw {N E b : Nat → Nat} {S q : Nat} (hS : S < 2 ^ m) (hq : q < N S) (hq9 : q < 100) (hE : ∀ s, s < 2 ^ m → (E s ≤ q ↔ N s ≤ q)) : cb_lv L E b S m q ↔ cb_nw L N b S m ≤ q + 1 := by
  have e : cb_nw L N b S m ≤ q + 1 ↔ cb_mh (cb_hh L N b S m) m ≤ q := Nat.add_le_add_iff_right
  rw [e, cb_mh_le]
  constructor
  · intro h k hk
    unfold cb_hh
    by_cases h1 : b k = 10 * L
    · rw [if_pos h1]; exact Nat.zero_le _
    · rw [if_neg h1]
      by_cases h2 : cb_pt b S (b k) m = 0
      · rw [if_pos h2]; exact Nat.zero_le _
      · rw [if_neg h2]
        obtain ⟨j, hj⟩ := Nat.exists_testBit_of_ne_zero h2
        obtain ⟨j1, j2, j3⟩ := (cb_pt_b _ _ _ _ j).mp hj
        rcases h j j1 j2 with z | z
        · rw [j3] at z; exact absurd z h1
        · rw [j3] at z
          have hlt := cb_pt_lt b S (b k) m
          have z2 := (hE _ hlt).mp z
          by_cases h3 : cb_pt b S (b k) m = S
          · rw [h3] at z2; omega
          · rw [if_neg h3]; exact z2
  · intro h k hk hb
    by_cases h1 : b k = 10 * L
    · exact Or.inl h1
    · refine Or.inr ((hE _ (cb_pt_lt b S (b k) m)).mpr ?_)
      have h4 := h k hk
      unfold cb_hh at h4
      rw [if_neg h1] at h4
      have hbit : (cb_pt b S (b k) m).testBit k = true := (cb_pt_b _ _ _ _ k).mpr ⟨hk, hb, rfl⟩
      have h2 : ¬ cb_pt b S (b k) m = 0 := by
        intro z
        rw [z, Nat.zero_testBit] at hbit
        exact absurd hbit (by decide)
      rw [if_neg h2] at h4
      by_cases h3 : cb_pt b S (b k) m = S
      · rw [if_pos h3] at h4; omega
      · rw [if_neg h3] at h4; exact h4
/-- a set can be done in q + 1 guesses: just if the table says so -/
theorem cb_cd_iff {E : Nat → Nat} {S q : Nat} (hS : S < 2 ^ m) (h0 : 0 < S) (hq : q < cb_N L C m B F kb S) (hq9 : q < 90) (hE : ∀ s, s < 2 ^ m → (E s ≤ q ↔ cb_N L C m B F kb s ≤ q)) : (∃ g, g < C ∧ cb_kd kb F m S g = true ∧ cb_lv L E (B g) S m q) ↔ cb_N L C m B F kb S ≤ q + 1 := by
  have hsp := cb_ls_sp (fun g => cb_nw L (cb_N L C m B F kb) (B g) S m) (cb_kd kb F m S) C
  rw [← cb_N_s h0] at hsp
  constructor
  · rintro ⟨g, hg, hk, hl⟩
    exact Nat.le_trans (hsp.2.1 g hg hk) ((cb_lv_nw hS hq (by omega) hE).mp hl)
  · intro h
    rcases hsp.2.2 with e | ⟨g, hg, hk, e⟩
    · omega
    · exact ⟨g, hg, hk, (cb_lv_nw hS hq (by omega) hE).mpr (by rw [← e]; exact h)⟩
end
end
section
/-! the component: answers by its tables -/
section
variable {L D C c : Nat} {fk : Int32}
variable {fD fp fg fs fw : Int32} {aD aT aG aA aN aP aF aW aE aS : Nat → Int32}
theorem xa_59 {post : Int32 → Prop} {g s : Nat} (sm : Nat) (hg : g < C) (hs : s < C) (hC : C ≤ 81) (hD : D ≤ 3) (hL : L ≤ 4)
    (hT : ∀ x, x < C → ∀ d, d < D → aT (3 * x + d) = nI (cb_tm D x d L)) (h : post (((10 * nI sm) + nI (cb_mn D L g s D)) - nI sm)) :
    ∃ n, wX_answerTo_59 post (nI g) (nI s) (nI sm) (nI L) (nI D) (nI C) fk fp fg fs fw aD aT aG aA aN aP aF aW aE aS n 0 0 := by
  refine loop_0 (fun n i t => wX_answerTo_59 post (nI g) (nI s) (nI sm) (nI L) (nI D) (nI C) fk fp fg fs fw aD aT aG aA aN aP aF aW aE aS n t (nI i)) (fun i t => t = nI (cb_mn D L g s i)) D 0 rfl ?_ ?_
  · intro n t ht
    subst ht
    exact br_t (nI_le (Nat.le_refl D) (by omega)) h
  · intro n i t hi ht ih
    subst ht
    have b1 := cb_tm_le D g i L
    have b2 := cb_tm_le D s i L
    have e1 : aT ((3 : Int32) * nI g + nI i).toNatClampNeg = nI (cb_tm D g i L) := by
      rw [pk_cl (x := (3 : Int32) * nI g + nI i) (3 * g + i) (cb_ix 3 g i)]; exact hT g hg i hi
    have e2 : aT ((3 : Int32) * nI s + nI i).toNatClampNeg = nI (cb_tm D s i L) := by
      rw [pk_cl (x := (3 : Int32) * nI s + nI i) (3 * s + i) (cb_ix 3 s i)]; exact hT s hs i hi
    refine br_f (nI_ge hi (by omega)) ⟨pk_in (3 * g + i) 243 (by omega) (cb_ix 3 g i), nm_r e1 ⟨pk_in (3 * s + i) 243 (by omega) (cb_ix 3 s i), nm_r e2 ?_⟩⟩
    refine ek_if (nI_leI (a := cb_tm D s i L) (b := cb_tm D g i L) (by omega) (by omega)) (fun l => ?_) (fun l => ?_)
    · refine nm_r (e' := nI (cb_mn D L g s (i + 1))) ?_ (nm_r (nI_1 i) (ih _ rfl))
      rw [nI_add]
      exact congrArg nI (by rw [cb_mn, if_pos l])
    · refine nm_r (e' := nI (cb_mn D L g s (i + 1))) ?_ (nm_r (nI_1 i) (ih _ rfl))
      rw [nI_add]
      exact congrArg nI (by rw [cb_mn, if_neg l])
theorem xa_5 {post : Int32 → Prop} {g s : Nat} (hg : g < C) (hs : s < C) (hC : C ≤ 81) (hD : D ≤ 3) (hD0 : 0 < D) (hL : L ≤ 4)
    (hF : ∀ x, x < C → ∀ i, i < L → aD (4 * x + i) = nI (cb_dg D x (L - 1 - i)))
    (hT : ∀ x, x < C → ∀ d, d < D → aT (3 * x + d) = nI (cb_tm D x d L)) (h : post (nI (cb_an L D g s))) :
    wpX_answerTo post ((nI L), (nI D), (nI C), fk, fp, fg, fs, fw, aD, aT, aG, aA, aN, aP, aF, aW, aE, aS) (nI g) (nI s) := by
  have hsa : cb_cn (fun j => decide (cb_dg D g (L - 1 - j) = cb_dg D s (L - 1 - j))) L = cb_sa D g s L := cb_cn_rev L (fun i => decide (cb_dg D g i = cb_dg D s i))
  have hb := cb_sa_le D g s L
  refine loop_0 (fun n i t => wX_answerTo_5 post (nI g) (nI s) (nI L) (nI D) (nI C) fk fp fg fs fw aD aT aG aA aN aP aF aW aE aS n t (nI i)) (fun i t => t = nI (cb_cn (fun j => decide (cb_dg D g (L - 1 - j) = cb_dg D s (L - 1 - j))) i)) L 0 rfl ?_ ?_
  · intro n t ht
    subst ht
    refine br_t (nI_le (Nat.le_refl L) (by omega)) (xa_59 _ hg hs hC hD hL hT ?_)
    rw [hsa]
    have e : ((10 : Int32) * nI (cb_sa D g s L) + nI (cb_mn D L g s D)) - nI (cb_sa D g s L) = nI (cb_an L D g s) := by
      have e1 : (10 : Int32) * nI (cb_sa D g s L) + nI (cb_mn D L g s D) = nI (10 * cb_sa D g s L + cb_mn D L g s D) := cb_ix 10 _ _
      rw [e1, pk_sub (by omega)]
      rfl
    rw [e]
    exact h
  · intro n i t hi ht ih
    subst ht
    have b1 := cb_dg_lt (x := g) (i := L - 1 - i) hD0
    have b2 := cb_dg_lt (x := s) (i := L - 1 - i) hD0
    have e1 : aD ((4 : Int32) * nI g + nI i).toNatClampNeg = nI (cb_dg D g (L - 1 - i)) := by
      rw [pk_cl (x := (4 : Int32) * nI g + nI i) (4 * g + i) (cb_ix 4 g i)]; exact hF g hg i hi
    have e2 : aD ((4 : Int32) * nI s + nI i).toNatClampNeg = nI (cb_dg D s (L - 1 - i)) := by
      rw [pk_cl (x := (4 : Int32) * nI s + nI i) (4 * s + i) (cb_ix 4 s i)]; exact hF s hs i hi
    have e3 : (aD ((4 : Int32) * nI g + nI i).toNatClampNeg = aD ((4 : Int32) * nI s + nI i).toNatClampNeg) ↔ cb_dg D g (L - 1 - i) = cb_dg D s (L - 1 - i) := by
      rw [e1, e2]; exact nI_eq (by omega) (by omega)
    refine br_f (nI_ge hi (by omega)) ⟨pk_in (4 * g + i) 324 (by omega) (cb_ix 4 g i), pk_in (4 * s + i) 324 (by omega) (cb_ix 4 s i), ek_if e3 (fun l => ?_) (fun l => ?_)⟩
    · refine nm_r (nI_1 _) (nm_r (nI_1 i) (ih _ ?_))
      exact congrArg nI (cb_cn_t (p := fun j => decide (cb_dg D g (L - 1 - j) = cb_dg D s (L - 1 - j))) (decide_eq_true l)).symm
    · refine nm_r (nI_1 i) (ih _ ?_)
      exact congrArg nI (cb_cn_f (p := fun j => decide (cb_dg D g (L - 1 - j) = cb_dg D s (L - 1 - j))) (fun z => l (of_decide_eq_true z))).symm
end
/-- the component's tables give the answers A -/
def cb_T (L C : Nat) (A : Nat → Nat → Nat) (fD : Int32) (aD aT : Nat → Int32) : Prop :=
  ∀ (fk fp fg fs fw : Int32) (aG aA aN aP aF aW aE aS : Nat → Int32) (post : Int32 → Prop) (g s : Nat), g < C → s < C → post (nI (A g s)) → wpX_answerTo post ((nI L), fD, (nI C), fk, fp, fg, fs, fw, aD, aT, aG, aA, aN, aP, aF, aW, aE, aS) (nI g) (nI s)
def cb_TY (C : Nat) (A : Nat → Nat → Nat) (yT : Nat → Int32) : Prop := ∀ g s, g < C → s < C → yT (81 * g + s) = nI (A g s)
/-- the numbers -/
def cb_I (L C c : Nat) (A : Nat → Nat → Nat) (G R : Nat → Nat) : Prop :=
  (1 ≤ L ∧ L ≤ 4 ∧ 1 ≤ C ∧ C ≤ 81 ∧ c ≤ 8) ∧ (∀ g s, g < C → s < C → A g s ≤ 40) ∧ (∀ g, g < C → A g g = 10 * L) ∧ (∀ i, i < c → G i < C ∧ R i ≤ 44)
def cb_GR (c : Nat) (G R : Nat → Nat) (aG aA : Nat → Int32) : Prop := ∀ i, i < c → aG i = nI (G i) ∧ aA i = nI (R i)
def cb_NX (C c : Nat) (A : Nat → Nat → Nat) (G R : Nat → Nat) (aN : Nat → Int32) : Prop := ∀ x, x < C → aN x = nI (cb_cn (cb_ds A G R x) c)
section
variable {L D C c : Nat} {fk : Int32} {A : Nat → Nat → Nat} {G R : Nat → Nat}
variable {fD fp fg fs fw : Int32} {aD aT aG aA aN aP aF aW aE aS : Nat → Int32}
theorem xa_at (hT : cb_T L C A fD aD aT) {post : Int32 → Prop} {g s : Nat} (hg : g < C) (hs : s < C) (h : post (nI (A g s))) : wpX_answerTo post ((nI L), fD, (nI C), fk, fp, fg, fs, fw, aD, aT, aG, aA, aN, aP, aF, aW, aE, aS) (nI g) (nI s) :=
  hT _ _ _ _ _ _ _ _ _ _ _ _ _ post g s hg hs h
theorem xa_T (hC : C ≤ 81) (hD : D ≤ 3) (hD0 : 0 < D) (hL : L ≤ 4)
    (hF : ∀ x, x < C → ∀ i, i < L → aD (4 * x + i) = nI (cb_dg D x (L - 1 - i)))
    (hT : ∀ x, x < C → ∀ d, d < D → aT (3 * x + d) = nI (cb_tm D x d L)) : cb_T L C (cb_an L D) (nI D) aD aT :=
  fun _ _ _ _ _ _ _ _ _ _ _ _ _ _ _ _ hg hs h => xa_5 hg hs hC hD hD0 hL hF hT h
theorem xb_t {post : Int32 → Prop} {g : Nat} (hC : C ≤ 81) (hg : g < C) (h : post 0) : wpX_badCode post ((nI L), fD, (nI C), fk, fp, fg, fs, fw, aD, aT, aG, aA, aN, aP, aF, aW, aE, aS) (nI g) :=
  br_f (nI_pos (by omega)) (br_t (nI_lt hg (by omega)) h)
theorem xb_f {post : Int32 → Prop} {v : Int32} (hv : v < 0 ∨ nI C ≤ v) (h : post 1) : wpX_badCode post ((nI L), fD, (nI C), fk, fp, fg, fs, fw, aD, aT, aG, aA, aN, aP, aF, aW, aE, aS) v := by
  by_cases h0 : v < 0
  · exact br_t h0 h
  · rcases hv with hv | hv
    · exact absurd hv h0
    · exact br_f h0 (br_f (Int32.not_lt.mpr hv) h)
theorem cb_cv (C : Nat) (hC : C ≤ 81) (v : Int32) : (v < 0 ∨ nI C ≤ v) ∨ ∃ g, g < C ∧ v = nI g := by
  rcases pk_ix v (n := C) (by omega) with h | h | h
  · exact Or.inl (Or.inl h)
  · exact Or.inl (Or.inr h)
  · exact Or.inr h
/-- against: weigh one guess in or out -/
theorem xw_weigh {post : SX → Prop} {k g r : Nat} {b : Int32} (hT : cb_T L C A fD aD aT) (hC : C ≤ 81) (hk : k < 8) (hg : g < C) (eg : aG k = nI g) (er : aA k = nI r) (hr : r < 2 ^ 31)
    (hA : ∀ g s, g < C → s < C → A g s ≤ 40) (h : ∀ t : Nat → Int32, (∀ x, x < C → t x = if A g x = r then aN x else aN x + b) → post ((nI L), fD, (nI C), fk, fp, fg, fs, fw, aD, aT, aG, aA, t, aP, aF, aW, aE, aS)) :
    wpX_weigh post ((nI L), fD, (nI C), fk, fp, fg, fs, fw, aD, aT, aG, aA, aN, aP, aF, aW, aE, aS) (nI k) b := by
  refine loop_0 (fun n i t => wX_weigh_2 post (nI k) b (nI L) fD (nI C) fk fp fg fs fw n (nI i) aD aT aG aA t aP aF aW aE aS) (fun i t => ∀ x, x < C → t x = if x < i then (if A g x = r then aN x else aN x + b) else aN x) C aN ?_ ?_ ?_
  · intro x hx
    rw [if_neg (Nat.not_lt_zero x)]
  · intro n t ht
    exact br_t (nI_le (Nat.le_refl C) (by omega)) (h t (fun x hx => by rw [ht x hx, if_pos hx]))
  · intro n i t hi ht ih
    have ek : (nI k).toNatClampNeg = k := nI_clamp (by omega)
    have ei : (nI i).toNatClampNeg = i := nI_clamp (by omega)
    have hti : t i = aN i := by rw [ht i hi, if_neg (Nat.lt_irrefl i)]
    have hAi := hA g i hg hi
    refine br_f (nI_ge hi (by omega)) ⟨vp_in_nI hk (by omega), ?_⟩
    rw [ek, eg, er]
    refine xa_at hT hg hi ⟨vp_in_nI hk (by omega), ek_if (nI_eq (by omega) hr) (fun l => ?_) (fun l => ?_)⟩
    · refine ⟨vp_in_nI (by omega) (by omega), vp_in_nI (by omega) (by omega), nm_e (nm_r (nI_1 i) (ih _ ?_))⟩
      rw [ei]
      exact cb_up (f := fun x => if A g x = r then aN x else aN x + b) ht (by rw [hti]; exact (if_pos l).symm)
    · refine ⟨vp_in_nI (by omega) (by omega), vp_in_nI (by omega) (by omega), nm_e (nm_r (nI_1 i) (ih _ ?_))⟩
      rw [ei]
      exact cb_up (f := fun x => if A g x = r then aN x else aN x + b) ht (by rw [hti]; exact (if_neg l).symm)
theorem xn_0 (hN : cb_NX C c A G R aN) (hc : c ≤ 8) {x : Nat} (hx : x < C) : aN x = 0 ↔ cb_ok A G R c x = true := by
  have hb := cb_cn_le (cb_ds A G R x) c
  rw [hN x hx, cb_okI]
  exact nI_eq (b := 0) (by omega) (by decide)
theorem xn_0i (hN : cb_NX C c A G R aN) (hc : c ≤ 8) (hC : C ≤ 81) {x : Nat} (hx : x < C) : aN (nI x).toNatClampNeg = 0 ↔ cb_ok A G R c x = true := by
  rw [nI_clamp (by omega)]
  exact xn_0 hN hc hx
theorem xn_1i (hN : cb_NX C c A G R aN) (hc : c ≤ 8) (hC : C ≤ 81) {x : Nat} (hx : x < C) : aN (nI x).toNatClampNeg = 1 ↔ cb_cn (cb_ds A G R x) c = 1 := by
  have hb := cb_cn_le (cb_ds A G R x) c
  rw [nI_clamp (by omega), hN x hx]
  exact nI_eq (b := 1) (by omega) (by decide)
theorem xc_cp (hN : cb_NX C c A G R aN) (hc : c ≤ 8) (hC : C ≤ 81) {post : Int32 → Prop} (h : post (nI (cb_cn (cb_ok A G R c) C))) : wpX_countPossible post ((nI L), fD, (nI C), fk, fp, fg, fs, fw, aD, aT, aG, aA, aN, aP, aF, aW, aE, aS) := by
  refine loop_0 (fun n i t => wX_countPossible_4 post (nI L) fD (nI C) fk fp fg fs fw aD aT aG aA aN aP aF aW aE aS n t (nI i)) (fun i t => t = nI (cb_cn (cb_ok A G R c) i)) C 0 rfl ?_ ?_
  · intro n t ht
    subst ht
    exact br_t (nI_le (Nat.le_refl C) (by omega)) h
  · intro n i t hi ht ih
    subst ht
    refine br_f (nI_ge hi (by omega)) ⟨vp_in_nI (by omega) (by omega), ek_if (xn_0i hN hc hC hi) (fun l => ?_) (fun l => ?_)⟩
    · exact nm_r (nI_1 _) (nm_r (nI_1 i) (ih _ (congrArg nI (cb_cn_t l).symm)))
    · exact nm_r (nI_1 i) (ih _ (congrArg nI (cb_cn_f l).symm))
end
end
section
/-! the component: parts, best guesses, code, useful -/
section
variable {L C c : Nat} {fk : Int32} {A : Nat → Nat → Nat} {G R : Nat → Nat}
variable {fD fp fg fs fw : Int32} {aD aT aG aA aN aP aF aW aE aS : Nat → Int32}
theorem xp_115 {post : SX → Prop} {J : Int32 → Int32 → Int32 → Int32 → Prop} {f : Nat → Nat} {i : Nat} {q : Int32} (z : Int32) (hb : ∀ a, f a ≤ 81) (hJ : J (nI (i + 1)) z (nI (cb_mx f (i + 1))) (nI (cb_sq f (i + 1)))) :
    wX_partBy_115 post J (nI i) (nI (f i)) z (nI L) fD (nI C) fk q (nI (cb_mx f i)) (nI (cb_sq f i)) fw aD aT aG aA aN aP aF aW aE aS := by
  have h1 := hb i
  have h2 := cb_mx_le (f := f) (n := i) (fun a _ => hb a)
  have e : nI (cb_sq f i) + nI (f i) * nI (f i) = nI (cb_sq f (i + 1)) := by rw [pk_mul, nI_add]; rfl
  refine ek_if (nI_leI (a := f i) (b := cb_mx f i) (by omega) (by omega)) (fun l => ?_) (fun l => ?_)
  · have e2 : cb_mx f (i + 1) = cb_mx f i := if_pos l
    rw [e2] at hJ
    exact nm_r e (nm_r (nI_1 i) hJ)
  · have e2 : cb_mx f (i + 1) = f i := if_neg l
    rw [e2] at hJ
    exact nm_r e (nm_r (nI_1 i) hJ)
theorem xp_84 {post : SX → Prop} {f : Nat → Nat} (hf : ∀ a, a < 45 → aP a = nI (f a)) (hb : ∀ a, f a ≤ 81)
    (h : post ((nI L), fD, (nI C), fk, (nI (cb_pc f 45)), (nI (cb_mx f 45)), (nI (cb_sq f 45)), fw, aD, aT, aG, aA, aN, aP, aF, aW, aE, aS)) : ∃ n, wX_partBy_84 post (nI L) fD (nI C) fk fw aD aT aG aA aN aP aF aW aE aS n 0 0 0 0 := by
  refine loop_0 (fun n i (t : Int32 × Int32 × Int32) => wX_partBy_84 post (nI L) fD (nI C) fk fw aD aT aG aA aN aP aF aW aE aS n (nI i) t.1 t.2.1 t.2.2) (fun i t => t = (nI (cb_pc f i), nI (cb_mx f i), nI (cb_sq f i))) 45 (0, 0, 0) rfl ?_ ?_
  · intro n t ht
    subst ht
    exact br_t (nI_le (a := 45) (b := 45) (by omega) (by omega)) h
  · intro n i t hi ht ih
    subst ht
    have h1 := hb i
    have ei : aP (nI i).toNatClampNeg = nI (f i) := by rw [nI_clamp (by omega)]; exact hf i hi
    refine br_f (nI_ge (b := 45) hi (by omega)) ⟨vp_in_nI hi (by omega), nm_r ei ?_⟩
    refine ek_if (nI_leI (a := f i) (b := 0) (by omega) (by omega)) (fun l => ?_) (fun l => ?_)
    · refine xp_115 _ hb (ih (nI (cb_pc f i), nI (cb_mx f (i + 1)), nI (cb_sq f (i + 1))) ?_)
      have e : cb_pc f (i + 1) = cb_pc f i := cb_cn_f (p := fun a => decide (0 < f a)) (fun z => by have := of_decide_eq_true z; omega)
      rw [e]
    · refine xp_115 _ hb (ih (nI (cb_pc f i) + 1, nI (cb_mx f (i + 1)), nI (cb_sq f (i + 1))) ?_)
      have e : cb_pc f (i + 1) = cb_pc f i + 1 := cb_cn_t (p := fun a => decide (0 < f a)) (decide_eq_true (by omega))
      rw [e, nI_1]
theorem xp_23 {post : SX → Prop} {g : Nat} (hT : cb_T L C A fD aD aT) (hN : cb_NX C c A G R aN) (hc : c ≤ 8) (hC : C ≤ 81) (hA : ∀ g s, g < C → s < C → A g s ≤ 40) (hg : g < C) (hz : ∀ a, a < 45 → aP a = 0)
    (h : ∀ t : Nat → Int32, post ((nI L), fD, (nI C), fk, (nI (cb_pc (cb_sz A (cb_ok A G R c) g C) 45)), (nI (cb_mx (cb_sz A (cb_ok A G R c) g C) 45)), (nI (cb_sq (cb_sz A (cb_ok A G R c) g C) 45)), fw, aD, aT, aG, aA, aN, t, aF, aW, aE, aS)) :
    ∃ n, wX_partBy_23 post (nI g) (nI L) fD (nI C) fk fp fg fs fw n 0 aD aT aG aA aN aP aF aW aE aS := by
  refine loop_0 (fun n i t => wX_partBy_23 post (nI g) (nI L) fD (nI C) fk fp fg fs fw n (nI i) aD aT aG aA aN t aF aW aE aS) (fun i t => ∀ a, a < 45 → t a = nI (cb_sz A (cb_ok A G R c) g i a)) C aP (fun a ha => hz a ha) ?_ ?_
  · intro n t ht
    exact br_t (nI_le (Nat.le_refl C) (by omega)) (xp_84 ht (fun a => Nat.le_trans (cb_sz_le _ _ _ _ _) hC) (h t))
  · intro n i t hi ht ih
    have hAi := hA g i hg hi
    refine br_f (nI_ge hi (by omega)) ⟨vp_in_nI (by omega) (by omega), ek_if (xn_0i hN hc hC hi) (fun l => ?_) (fun l => ?_)⟩
    · refine xa_at hT hg hi ⟨vp_in_nI (by omega) (by omega), vp_in_nI (by omega) (by omega), nm_e (nm_r (nI_1 i) (ih _ ?_))⟩
      rw [nI_clamp (n := A g i) (by omega)]
      intro a ha
      rw [cb_sz_s l]
      by_cases e : a = A g i
      · subst e
        rw [pk_us, if_pos rfl, ht _ ha, nI_1]
      · rw [pk_un e, if_neg e, ht a ha, Nat.add_zero]
    · refine nm_r (nI_1 i) (ih _ ?_)
      intro a ha
      rw [cb_sz_n l]
      exact ht a ha
theorem xp_partBy {post : SX → Prop} {g : Nat} (hT : cb_T L C A fD aD aT) (hN : cb_NX C c A G R aN) (hc : c ≤ 8) (hC : C ≤ 81) (hA : ∀ g s, g < C → s < C → A g s ≤ 40) (hg : g < C)
    (h : ∀ t : Nat → Int32, post ((nI L), fD, (nI C), fk, (nI (cb_pc (cb_sz A (cb_ok A G R c) g C) 45)), (nI (cb_mx (cb_sz A (cb_ok A G R c) g C) 45)), (nI (cb_sq (cb_sz A (cb_ok A G R c) g C) 45)), fw, aD, aT, aG, aA, aN, t, aF, aW, aE, aS)) :
    wpX_partBy post ((nI L), fD, (nI C), fk, fp, fg, fs, fw, aD, aT, aG, aA, aN, aP, aF, aW, aE, aS) (nI g) := by
  refine loop_0 (fun n i t => wX_partBy_2 post (nI g) (nI L) fD (nI C) fk fp fg fs fw n (nI i) aD aT aG aA aN t aF aW aE aS) (fun i t => ∀ a, a < 45 → t a = if a < i then 0 else aP a) 45 aP (fun a _ => (if_neg (Nat.not_lt_zero a)).symm) ?_ ?_
  · intro n t ht
    exact br_t (nI_le (a := 45) (b := 45) (by omega) (by omega)) (xp_23 hT hN hc hC hA hg (fun a ha => by rw [ht a ha, if_pos ha]) h)
  · intro n i t hi ht ih
    refine br_f (nI_ge (b := 45) hi (by omega)) ⟨vp_in_nI hi (by omega), nm_e (nm_r (nI_1 i) (ih _ ?_))⟩
    rw [nI_clamp (by omega)]
    exact cb_up (f := fun _ => 0) ht rfl
theorem xg_50 {post : Int32 → SX → Prop} {n i v q : Nat} {b x2 x3 : Int32} (hN : cb_NX C c A G R aN) (hc : c ≤ 8) (hC : C ≤ 81) (hi : i < C) (hq : 2 * v + (if cb_ok A G R c i = true then 0 else 1) = q)
    (h1 : x3 ≤ nI q → wX_bestBy_19 post b n x2 x3 (nI (i + 1)) (nI L) fD (nI C) fk fp fg fs fw aD aT aG aA aN aP aF aW aE aS) (h2 : ¬ x3 ≤ nI q → wX_bestBy_19 post b n (nI i) (nI q) (nI (i + 1)) (nI L) fD (nI C) fk fp fg fs fw aD aT aG aA aN aP aF aW aE aS) :
    wX_bestBy_50 post (wX_bestBy_19 post b n) b x2 x3 (nI i) (nI v) 2 (nI L) fD (nI C) fk fp fg fs fw aD aT aG aA aN aP aF aW aE aS := by
  have e0 : (2 : Int32) * nI v + 0 = nI (2 * v + 0) := cb_ix 2 v 0
  have e1 : (2 : Int32) * nI v + 1 = nI (2 * v + 1) := cb_ix 2 v 1
  refine And.intro (vp_in_nI (by omega) (by omega)) (ek_if (xn_0i hN hc hC hi) (fun l => ?_) (fun l => ?_))
  · rw [if_pos l] at hq
    rw [hq] at e0
    exact nm_r e0 (br_c (fun z => br_t z (nm_r (nI_1 i) (h1 z))) (fun z => br_f z (nm_r (nI_1 i) (h2 z))))
  · rw [if_neg l] at hq
    rw [hq] at e1
    exact nm_r e1 (br_c (fun z => br_t z (nm_r (nI_1 i) (h1 z))) (fun z => br_f z (nm_r (nI_1 i) (h2 z))))
theorem xg_19 {bs : Bool} {post : Int32 → SX → Prop} (hT : cb_T L C A fD aD aT) (hN : cb_NX C c A G R aN) (hc : c ≤ 8) (hC : C ≤ 81) (hC0 : 1 ≤ C) (hA : ∀ g s, g < C → s < C → A g s ≤ 40)
    (h1 : ∀ (fp fg fs : Int32) (aP : Nat → Int32), post (nI (cb_bi (cb_rk A (cb_ok A G R c) C bs) C)) ((nI L), fD, (nI C), fk, fp, fg, fs, fw, aD, aT, aG, aA, aN, aP, aF, aW, aE, aS)) :
    ∃ n, wX_bestBy_19 post (cb_bI bs) n (-3) 100000 0 (nI L) fD (nI C) fk fp fg fs fw aD aT aG aA aN aP aF aW aE aS := by
  refine loop_0 (fun n i (t : Int32 × Int32 × Int32 × Int32 × Int32 × (Nat → Int32)) => wX_bestBy_19 post (cb_bI bs) n t.1 t.2.1 (nI i) (nI L) fD (nI C) fk (t.2.2.1) (t.2.2.2.1) (t.2.2.2.2.1) fw aD aT aG aA aN (t.2.2.2.2.2) aF aW aE aS)
    (fun i t => (i = 0 → t.1 = -3 ∧ t.2.1 = 100000) ∧ (0 < i → t.1 = nI (cb_bi (cb_rk A (cb_ok A G R c) C bs) i) ∧ t.2.1 = nI (cb_rk A (cb_ok A G R c) C bs (cb_bi (cb_rk A (cb_ok A G R c) C bs) i)))) C (-3, 100000, fp, fg, fs, aP) ⟨fun _ => ⟨rfl, rfl⟩, fun z => absurd z (Nat.lt_irrefl 0)⟩ ?_ ?_
  · intro n t ht
    have e := (ht.2 hC0).1
    have h2 := h1 t.2.2.1 t.2.2.2.1 t.2.2.2.2.1 t.2.2.2.2.2
    rw [← e] at h2
    exact br_t (nI_le (Nat.le_refl C) (by omega)) h2
  · intro n i t hi ht ih
    refine br_f (nI_ge hi (by omega)) (xp_partBy hT hN hc hC hA hi (fun t' => ?_))
    have key : ∀ v, v = cb_vl A (cb_ok A G R c) C bs i → wX_bestBy_50 post (wX_bestBy_19 post (cb_bI bs) n) (cb_bI bs) t.1 t.2.1 (nI i) (nI v) 2 (nI L) fD (nI C) fk (nI (cb_pc (cb_sz A (cb_ok A G R c) i C) 45)) (nI (cb_mx (cb_sz A (cb_ok A G R c) i C) 45)) (nI (cb_sq (cb_sz A (cb_ok A G R c) i C) 45)) fw aD aT aG aA aN t' aF aW aE aS := by
      intro v hv
      have b1 := cb_rk_le (A := A) (ok := cb_ok A G R c) hC bs i
      have b2 := cb_rk_le (A := A) (ok := cb_ok A G R c) hC bs (cb_bi (cb_rk A (cb_ok A G R c) C bs) i)
      refine xg_50 (q := cb_rk A (cb_ok A G R c) C bs i) hN hc hC hi (by rw [hv]; rfl) (fun z => ?_) (fun z => ?_)
      · refine ih (t.1, t.2.1, nI (cb_pc (cb_sz A (cb_ok A G R c) i C) 45), nI (cb_mx (cb_sz A (cb_ok A G R c) i C) 45), nI (cb_sq (cb_sz A (cb_ok A G R c) i C) 45), t') ⟨fun e => absurd e (Nat.succ_ne_zero i), fun _ => ?_⟩
        by_cases e : i = 0
        · rw [(ht.1 e).2] at z
          exact absurd z (nI_ge (b := 100000) (by omega) (by omega))
        · obtain ⟨z1, z2⟩ := ht.2 (by omega)
          rw [z2, nI_leI (by omega) (by omega)] at z
          have e3 : cb_bi (cb_rk A (cb_ok A G R c) C bs) (i + 1) = cb_bi (cb_rk A (cb_ok A G R c) C bs) i := if_pos z
          rw [e3]
          exact ⟨z1, z2⟩
      · refine ih (nI i, nI (cb_rk A (cb_ok A G R c) C bs i), nI (cb_pc (cb_sz A (cb_ok A G R c) i C) 45), nI (cb_mx (cb_sz A (cb_ok A G R c) i C) 45), nI (cb_sq (cb_sz A (cb_ok A G R c) i C) 45), t') ⟨fun e => absurd e (Nat.succ_ne_zero i), fun _ => ?_⟩
        by_cases e : i = 0
        · subst e
          rw [cb_bi_1]
          exact ⟨rfl, rfl⟩
        · obtain ⟨z1, z2⟩ := ht.2 (by omega)
          rw [z2, nI_leI (by omega) (by omega)] at z
          have e3 : cb_bi (cb_rk A (cb_ok A G R c) C bs) (i + 1) = i := if_neg z
          rw [e3]
          exact ⟨rfl, rfl⟩
    exact ek_if cb_bIe (fun z => key _ (if_neg z).symm) (fun z => key _ (if_pos (Decidable.not_not.mp z)).symm)
theorem xg_best {bs : Bool} {b : Int32} (hb : b = cb_bI bs) {post : Int32 → SX → Prop} (hT : cb_T L C A fD aD aT) (hN : cb_NX C c A G R aN) (hc : c ≤ 8) (hC : C ≤ 81) (hC0 : 1 ≤ C) (hA : ∀ g s, g < C → s < C → A g s ≤ 40)
    (h0 : cb_cn (cb_ok A G R c) C = 0 → post (-3) ((nI L), fD, (nI C), fk, fp, fg, fs, fw, aD, aT, aG, aA, aN, aP, aF, aW, aE, aS))
    (h1 : ¬ cb_cn (cb_ok A G R c) C = 0 → ∀ (fp fg fs : Int32) (aP : Nat → Int32), post (nI (cb_bi (cb_rk A (cb_ok A G R c) C bs) C)) ((nI L), fD, (nI C), fk, fp, fg, fs, fw, aD, aT, aG, aA, aN, aP, aF, aW, aE, aS)) :
    wpX_bestBy post ((nI L), fD, (nI C), fk, fp, fg, fs, fw, aD, aT, aG, aA, aN, aP, aF, aW, aE, aS) b := by
  subst hb
  have hle := cb_cn_le (cb_ok A G R c) C
  unfold wpX_bestBy
  refine xc_cp hN hc hC ?_
  exact ek_if (nI_eq (b := 0) (by omega) (by omega)) h0 (fun z => xg_19 hT hN hc hC hC0 hA (h1 z))
/-! useful -/
theorem xu_17 {post : Int32 → Prop} {J : Int32 → Int32 → Prop} {x1 : Int32} {k : Nat} (hT : cb_T L C A fD aD aT) (hN : cb_NX C c A G R aN) (hI : cb_I L C c A G R) (hG : cb_GR c G R aG aA) (hk : k < c)
    (h0 : ¬ 0 < cb_us A G R c C k → J x1 (nI (k + 1))) (h1 : 0 < cb_us A G R c C k → J (x1 + 1) (nI (k + 1))) :
    ∃ n, wX_useful_17 post J x1 (nI k) (nI L) fD (nI C) fk fp fg fs fw aD aT aG aA aN aP aF aW aE aS n 0 0 := by
  obtain ⟨⟨hL1, hL4, hC0, hC, hc⟩, hA, hAA, hGR⟩ := hI
  obtain ⟨hGk, hRk⟩ := hGR k hk
  obtain ⟨eG, eR⟩ := hG k hk
  have ek : (nI k).toNatClampNeg = k := nI_clamp (by omega)
  refine loop_0 (fun n i t => wX_useful_17 post J x1 (nI k) (nI L) fD (nI C) fk fp fg fs fw aD aT aG aA aN aP aF aW aE aS n t (nI i)) (fun i t => t = cb_bI (decide (0 < cb_us A G R c i k))) C 0 rfl ?_ ?_
  · intro n t ht
    subst ht
    refine br_t (nI_le (Nat.le_refl C) (by omega)) (ek_if cb_bIe (fun z => ?_) (fun z => ?_))
    · exact nm_r (nI_1 k) (h0 (fun y => z (decide_eq_true y)))
    · exact nm_e (nm_r (nI_1 k) (h1 (of_decide_eq_true (Decidable.not_not.mp z))))
  · intro n i t hi ht ih
    subst ht
    have hAi := hA (G k) i hGk hi
    refine br_f (nI_ge hi (by omega)) ⟨vp_in_nI (by omega) (by omega), ?_⟩
    rw [ek, eG, eR]
    refine xa_at hT hGk hi (ek_if cb_bIe (fun z => ⟨vp_in_nI (by omega) (by omega), ek_if (xn_1i hN hc hC hi) (fun l => ⟨vp_in_nI (by omega) (by omega), ek_if (nI_eq (by omega) (by omega)) (fun y => ?_) (fun y => ?_)⟩) (fun l => ?_)⟩) (fun z => ?_))
    · refine nm_r (nI_1 i) (ih _ ?_)
      have e : cb_us A G R c (i + 1) k = cb_us A G R c i k := cb_cn_f (p := fun x => decide (cb_cn (cb_ds A G R x) c = 1) && cb_ds A G R x k) (by simp [cb_ds, y])
      rw [e]
      exact (cb_bI0 z).symm
    · refine nm_r (nI_1 i) (ih _ ?_)
      have e : cb_us A G R c (i + 1) k = cb_us A G R c i k + 1 := cb_cn_t (p := fun x => decide (cb_cn (cb_ds A G R x) c = 1) && cb_ds A G R x k) (by simp [cb_ds, y]; exact l)
      rw [e]
      exact (cb_bI1 (decide_eq_true (Nat.succ_pos _))).symm
    · refine nm_r (nI_1 i) (ih _ ?_)
      have e : cb_us A G R c (i + 1) k = cb_us A G R c i k := cb_cn_f (p := fun x => decide (cb_cn (cb_ds A G R x) c = 1) && cb_ds A G R x k) (by simp [l])
      rw [e]
      exact (cb_bI0 z).symm
    · refine nm_r (nI_1 i) (ih _ ?_)
      have e : 0 < cb_us A G R c (i + 1) k := Nat.lt_of_lt_of_le (of_decide_eq_true (Decidable.not_not.mp z)) (cb_cn_mono (Nat.le_succ i))
      exact (cb_bI1 (decide_eq_true e)).symm
theorem xu_useful {post : Int32 → Prop} (hT : cb_T L C A fD aD aT) (hN : cb_NX C c A G R aN) (hI : cb_I L C c A G R) (hG : cb_GR c G R aG aA)
    (h : post (nI (cb_cn (fun k => decide (0 < cb_us A G R c C k)) c))) : wpX_useful post ((nI L), fD, (nI C), (nI c), fp, fg, fs, fw, aD, aT, aG, aA, aN, aP, aF, aW, aE, aS) := by
  have hc : c ≤ 8 := hI.1.2.2.2.2
  refine loop_0 (fun n i t => wX_useful_4 post (nI L) fD (nI C) (nI c) fp fg fs fw aD aT aG aA aN aP aF aW aE aS n t (nI i)) (fun i t => t = nI (cb_cn (fun k => decide (0 < cb_us A G R c C k)) i)) c 0 rfl ?_ ?_
  · intro n t ht
    subst ht
    exact br_t (nI_le (Nat.le_refl c) (by omega)) h
  · intro n i t hi ht ih
    subst ht
    refine br_f (nI_ge hi (by omega)) (xu_17 hT hN hI hG hi (fun z => ih _ ?_) (fun z => ih _ ?_))
    · exact congrArg nI (cb_cn_f (p := fun k => decide (0 < cb_us A G R c C k)) (fun y => z (of_decide_eq_true y))).symm
    · rw [nI_1]
      exact congrArg nI (cb_cn_t (p := fun k => decide (0 < cb_us A G R c C k)) (decide_eq_true z)).symm
end
end
section
/-! the component: the few codes, and how many guesses they need -/
section
variable {L C c m : Nat} {fk : Int32} {A : Nat → Nat → Nat} {G R F : Nat → Nat}
variable {fD fp fg fs fw : Int32} {aD aT aG aA aN aP aF aW aE aS : Nat → Int32}
theorem xl_71 {post : SX → Prop} {J : Int32 → (Nat → Int32) → (Nat → Int32) → (Nat → Int32) → (Nat → Int32) → (Nat → Int32) → (Nat → Int32) → (Nat → Int32) → (Nat → Int32) → (Nat → Int32) → (Nat → Int32) → Prop} {i : Nat} (hT : cb_T L C A fD aD aT) (hC : C ≤ 81) (hm : m ≤ 8) (hi : i < C) (hF : ∀ k, k < m → F k < C) (eF : ∀ k, k < m → aF k = nI (F k))
    (hw : ∀ g k, g < i → k < m → aW (8 * g + k) = nI (A g (F k))) (h : ∀ t : Nat → Int32, (∀ g k, g < i + 1 → k < m → t (8 * g + k) = nI (A g (F k))) → J (nI (i + 1)) aD aT aG aA aN aP aF t aE aS) :
    ∃ n, wX_listFew_71 post J (nI i) (nI L) fD (nI C) fk fp fg fs (nI m) n 0 aD aT aG aA aN aP aF aW aE aS := by
  refine loop_0 (fun n j t => wX_listFew_71 post J (nI i) (nI L) fD (nI C) fk fp fg fs (nI m) n (nI j) aD aT aG aA aN aP aF t aE aS) (fun j t => (∀ g k, g < i → k < m → t (8 * g + k) = nI (A g (F k))) ∧ (∀ k, k < j → t (8 * i + k) = nI (A i (F k)))) m aW ⟨hw, fun k hk => absurd hk (Nat.not_lt_zero k)⟩ ?_ ?_
  · intro n t ht
    refine br_t (nI_le (Nat.le_refl m) (by omega)) (nm_r (nI_1 i) (h t (fun g k hg hk => ?_)))
    by_cases e : g = i
    · subst e; exact ht.2 k hk
    · exact ht.1 g k (by omega) hk
  · intro n j t hj ht ih
    refine br_f (nI_ge hj (by omega)) ⟨vp_in_nI (by omega) (by omega), ?_⟩
    rw [nI_clamp (n := j) (by omega), eF j hj]
    refine xa_at hT hi (hF j hj) ⟨pk_in (8 * i + j) 648 (by omega) (cb_ix 8 i j), nm_e (nm_r (nI_1 j) (ih _ ?_))⟩
    have e0 : ((8 : Int32) * nI i + nI j).toNatClampNeg = 8 * i + j := pk_cl (8 * i + j) (cb_ix 8 i j)
    rw [e0]
    constructor
    · intro g k hg hk
      rw [pk_un (by omega)]
      exact ht.1 g k hg hk
    · intro k hk
      by_cases e : k = j
      · subst e; exact pk_us
      · rw [pk_un (by omega)]
        exact ht.2 k (by omega)
theorem xl_61 {post : SX → Prop} (hT : cb_T L C A fD aD aT) (hC : C ≤ 81) (hm : m ≤ 8) (hF : ∀ k, k < m → F k < C) (eF : ∀ k, k < m → aF k = nI (F k))
    (h : ∀ t : Nat → Int32, (∀ g k, g < C → k < m → t (8 * g + k) = nI (A g (F k))) → post ((nI L), fD, (nI C), fk, fp, fg, fs, (nI m), aD, aT, aG, aA, aN, aP, aF, t, aE, aS)) :
    ∃ n, wX_listFew_61 post (nI L) fD (nI C) fk fp fg fs (nI m) n 0 aD aT aG aA aN aP aF aW aE aS := by
  refine loop_0 (fun n i t => wX_listFew_61 post (nI L) fD (nI C) fk fp fg fs (nI m) n (nI i) aD aT aG aA aN aP aF t aE aS) (fun i t => ∀ g k, g < i → k < m → t (8 * g + k) = nI (A g (F k))) C aW (fun g k hg => absurd hg (Nat.not_lt_zero g)) ?_ ?_
  · intro n t ht
    exact br_t (nI_le (Nat.le_refl C) (by omega)) (h t ht)
  · intro n i t hi ht ih
    exact br_f (nI_ge hi (by omega)) (xl_71 hT hC hm hi hF eF ht (fun t' ht' => ih t' ht'))
theorem xl_few {post : SX → Prop} (hT : cb_T L C A fD aD aT) (hN : cb_NX C c A G R aN) (hc : c ≤ 8) (hC : C ≤ 81) (hm : m ≤ 8) (em : cb_cn (cb_ok A G R c) C = m) (hF : ∀ k, F k = cb_kt (cb_ok A G R c) k C)
    (h : ∀ t w : Nat → Int32, (∀ k, k < m → t k = nI (F k)) → (∀ g k, g < C → k < m → w (8 * g + k) = nI (A g (F k))) → post ((nI L), fD, (nI C), fk, fp, fg, fs, (nI m), aD, aT, aG, aA, aN, aP, t, w, aE, aS)) :
    wpX_listFew post ((nI L), fD, (nI C), fk, fp, fg, fs, fw, aD, aT, aG, aA, aN, aP, aF, aW, aE, aS) := by
  have hF2 : ∀ k, k < m → F k < C := by
    intro k hk
    rw [hF k]
    exact cb_kt_lt (by omega)
  refine loop_0 (fun n i (t : Int32 × (Nat → Int32)) => wX_listFew_7 post (nI L) fD (nI C) fk fp fg fs n (nI i) t.1 aD aT aG aA aN aP (t.2) aW aE aS) (fun i t => t.1 = nI (cb_cn (cb_ok A G R c) i) ∧ ∀ k, k < cb_cn (cb_ok A G R c) i → t.2 k = nI (F k)) C (0, aF) ⟨rfl, fun k hk => absurd hk (Nat.not_lt_zero k)⟩ ?_ ?_
  · rintro n ⟨a, b⟩ ⟨ha, hb⟩
    have ha2 : a = nI (cb_cn (cb_ok A G R c) C) := ha
    rw [em] at ha2 hb
    subst ha2
    exact br_t (nI_le (Nat.le_refl C) (by omega)) (xl_61 hT hC hm hF2 hb (fun w hw => h b w hb hw))
  · rintro n i ⟨a, b⟩ hi ⟨ha, hb⟩ ih
    have ha2 : a = nI (cb_cn (cb_ok A G R c) i) := ha
    subst ha2
    have hmo := cb_cn_mono (p := cb_ok A G R c) (a := i) (b := C) (by omega)
    refine br_f (nI_ge hi (by omega)) (ek_if (nI_leI (a := 8) (b := cb_cn (cb_ok A G R c) i) (by omega) (by omega)) (fun l => ?_) (fun l => ⟨vp_in_nI (by omega) (by omega), ek_if (xn_0i hN hc hC hi) (fun l2 => ?_) (fun l2 => ?_)⟩))
    · have e : cb_cn (cb_ok A G R c) i = m := by omega
      rw [e] at hb
      show ∃ n, wX_listFew_61 post (nI L) fD (nI C) fk fp fg fs (nI (cb_cn (cb_ok A G R c) i)) n 0 aD aT aG aA aN aP b aW aE aS
      rw [e]
      exact xl_61 hT hC hm hF2 hb (fun w hw => h b w hb hw)
    · refine ⟨vp_in_nI (by omega) (by omega), nm_e (nm_r (nI_1 _) (nm_r (nI_1 i) (ih (nI (cb_cn (cb_ok A G R c) i + 1), upd b (nI (cb_cn (cb_ok A G R c) i)).toNatClampNeg (nI i)) ⟨?_, ?_⟩)))⟩
      · exact congrArg nI (cb_cn_t l2).symm
      · rw [nI_clamp (by omega), cb_cn_t l2]
        intro k hk
        by_cases e : k = cb_cn (cb_ok A G R c) i
        · show upd b (cb_cn (cb_ok A G R c) i) (nI i) k = nI (F k)
          rw [e, pk_us, hF, cb_kt_eq hi l2 rfl]
        · show upd b (cb_cn (cb_ok A G R c) i) (nI i) k = nI (F k)
          rw [pk_un e]
          exact hb k (by omega)
    · refine nm_r (nI_1 i) (ih (nI (cb_cn (cb_ok A G R c) i), b) ⟨?_, ?_⟩)
      · exact congrArg nI (cb_cn_f l2).symm
      · rw [cb_cn_f l2]
        exact hb
end
/-! one set, one guess -/
section
variable {L C c m g S : Nat} {fk : Int32} {b N : Nat → Nat}
variable {fD fp fg fs fw : Int32} {aD aT aG aA aN aP aF aW aE aS : Nat → Int32}
theorem cb_hh_le (hN : ∀ s, s < S → N s ≤ 100) (k : Nat) : cb_hh L N b S m k ≤ 100 := by
  unfold cb_hh
  by_cases h1 : b k = 10 * L
  · rw [if_pos h1]; omega
  · rw [if_neg h1]
    by_cases h2 : cb_pt b S (b k) m = 0
    · rw [if_pos h2]; omega
    · rw [if_neg h2]
      by_cases h3 : cb_pt b S (b k) m = S
      · rw [if_pos h3]; omega
      · rw [if_neg h3]
        have h4 := cb_pt_le b S (b k) m
        exact hN _ (by omega)
theorem cb_nw_le (hN : ∀ s, s < S → N s ≤ 100) : cb_nw L N b S m ≤ 101 := by
  have h := (cb_mh_le (h := cb_hh L N b S m) (n := m) (q := 100)).mpr (fun k _ => cb_hh_le hN k)
  unfold cb_nw
  omega
theorem xn_121 {post : Int32 → SX → Prop} (hL : L ≤ 4) (hg : g < 81) (hm : m ≤ 8) (hS : S < 256) (hb : ∀ k, k < m → b k ≤ 40) (hW : ∀ k, k < m → aW (8 * g + k) = nI (b k)) (hP : ∀ k, k < m → aS (b k) = nI (cb_pt b S (b k) m))
    (hE : ∀ s, s < S → aE s = nI (N s)) (hN : ∀ s, s < S → N s ≤ 100) (h : post (nI (cb_nw L N b S m)) ((nI L), fD, (nI C), fk, fp, fg, fs, (nI m), aD, aT, aG, aA, aN, aP, aF, aW, aE, aS)) :
    ∃ n, wX_neededWith_121 post (nI S) (nI g) (nI (10 * L)) (nI L) fD (nI C) fk fp fg fs (nI m) aD aT aG aA aN aP aF aW aE aS n 0 0 := by
  refine loop_0 (fun n i t => wX_neededWith_121 post (nI S) (nI g) (nI (10 * L)) (nI L) fD (nI C) fk fp fg fs (nI m) aD aT aG aA aN aP aF aW aE aS n t (nI i)) (fun i t => t = nI (cb_mh (cb_hh L N b S m) i)) m 0 rfl ?_ ?_
  · intro n t ht
    subst ht
    refine br_t (nI_le (Nat.le_refl m) (by omega)) ?_
    rw [nI_1]
    exact h
  · intro n i t hi ht ih
    subst ht
    have hbi := hb i hi
    have hpl := cb_pt_le b S (b i) m
    have e1 : aW ((8 : Int32) * nI g + nI i).toNatClampNeg = nI (b i) := by
      rw [pk_cl (x := (8 : Int32) * nI g + nI i) (8 * g + i) (cb_ix 8 g i)]; exact hW i hi
    have e2 : aS (nI (b i)).toNatClampNeg = nI (cb_pt b S (b i) m) := by
      rw [nI_clamp (by omega)]; exact hP i hi
    have hmh := (cb_mh_le (h := cb_hh L N b S m) (n := i) (q := 100)).mpr (fun k _ => cb_hh_le hN k)
    have key : ∀ v, cb_hh L N b S m i = v → wX_neededWith_186 post (wX_neededWith_121 post (nI S) (nI g) (nI (10 * L)) (nI L) fD (nI C) fk fp fg fs (nI m) aD aT aG aA aN aP aF aW aE aS n) (nI S) (nI g) (nI (10 * L)) (nI (cb_mh (cb_hh L N b S m) i)) (nI i) (nI v) (nI L) fD (nI C) fk fp fg fs (nI m) aD aT aG aA aN aP aF aW aE aS := by
      intro v hv
      have hh := cb_hh_le (L := L) (m := m) (b := b) hN i
      refine ek_if (nI_leI (a := v) (b := cb_mh (cb_hh L N b S m) i) (by omega) (by omega)) (fun l => nm_r (nI_1 i) (ih _ ?_)) (fun l => nm_r (nI_1 i) (ih _ ?_))
      · have e : cb_mh (cb_hh L N b S m) (i + 1) = cb_mh (cb_hh L N b S m) i := if_pos (by rw [hv]; exact l)
        rw [e]
      · have e : cb_mh (cb_hh L N b S m) (i + 1) = cb_hh L N b S m i := if_neg (by rw [hv]; exact l)
        rw [e, hv]
    refine br_f (nI_ge hi (by omega)) ⟨pk_in (8 * g + i) 648 (by omega) (cb_ix 8 g i), nm_r e1 ⟨vp_in_nI (by omega) (by omega), nm_r e2 ?_⟩⟩
    refine ek_if (nI_eq (by omega) (by omega)) (fun h1 => ?_) (fun h1 => ek_if (nI_eq (b := 0) (by omega) (by omega)) (fun h2 => ?_) (fun h2 => ek_if (nI_eq (by omega) (by omega)) (fun h3 => ?_) (fun h3 => ⟨vp_in_nI (by omega) (by omega), ?_⟩)))
    · exact key 0 (if_pos h1)
    · exact key 0 ((if_neg h1).trans (if_pos h2))
    · exact key 100 ((if_neg h1).trans ((if_neg h2).trans (if_pos h3)))
    · rw [nI_clamp (n := cb_pt b S (b i) m) (by omega), hE _ (by omega)]
      exact key _ ((if_neg h1).trans ((if_neg h2).trans (if_neg h3)))
theorem xn_47 {post : Int32 → SX → Prop} (hL : L ≤ 4) (hg : g < 81) (hm : m ≤ 8) (hS : S < 256) (hb : ∀ k, k < m → b k ≤ 40) (hW : ∀ k, k < m → aW (8 * g + k) = nI (b k)) (hP : ∀ k, k < m → aS (b k) = 0)
    (hE : ∀ s, s < S → aE s = nI (N s)) (hN : ∀ s, s < S → N s ≤ 100) (h : ∀ t : Nat → Int32, post (nI (cb_nw L N b S m)) ((nI L), fD, (nI C), fk, fp, fg, fs, (nI m), aD, aT, aG, aA, aN, aP, aF, aW, aE, t)) :
    ∃ n, wX_neededWith_47 post (nI S) (nI g) (nI (10 * L)) (nI L) fD (nI C) fk fp fg fs (nI m) n 0 aD aT aG aA aN aP aF aW aE aS := by
  refine loop_0 (fun n i t => wX_neededWith_47 post (nI S) (nI g) (nI (10 * L)) (nI L) fD (nI C) fk fp fg fs (nI m) n (nI i) aD aT aG aA aN aP aF aW aE t) (fun i t => ∀ k, k < m → t (b k) = nI (cb_pt b S (b k) i)) m aS (fun k hk => hP k hk) ?_ ?_
  · intro n t ht
    exact br_t (nI_le (Nat.le_refl m) (by omega)) (xn_121 hL hg hm hS hb hW ht hE hN (h t))
  · intro n i t hi ht ih
    have hbi := hb i hi
    have e1 : aW ((8 : Int32) * nI g + nI i).toNatClampNeg = nI (b i) := by
      rw [pk_cl (x := (8 : Int32) * nI g + nI i) (8 * g + i) (cb_ix 8 g i)]; exact hW i hi
    have e2 : (nI (b i)).toNatClampNeg = b i := nI_clamp (by omega)
    refine br_f (nI_ge hi (by omega)) ⟨pk_in (8 * g + i) 648 (by omega) (cb_ix 8 g i), nm_r e1 (ek_if (cb_bit1 (by omega) (by omega)) (fun l => ⟨vp_in_nI (by omega) (by omega), vp_in_nI (by omega) (by omega), nm_e (nm_r (nI_1 i) (ih _ ?_))⟩) (fun l => ⟨vp_in_nI (by omega) (by omega), vp_in_nI (by omega) (by omega), nm_e (nm_r (nI_1 i) (ih _ ?_))⟩))⟩
    · rw [e2, ht i hi, cb_bs (by omega)]
      intro k hk
      by_cases e : b k = b i
      · rw [e, pk_us, cb_pt_t ⟨l, rfl⟩]
      · rw [pk_un e, cb_pt_f (fun z => e z.2.symm)]
        exact ht k hk
    · rw [e2]
      intro k hk
      rw [cb_pt_f (fun z => l z.1)]
      by_cases e : b k = b i
      · rw [e, pk_us]
        exact ht i hi
      · rw [pk_un e]
        exact ht k hk
theorem xn_nw {post : Int32 → SX → Prop} (hL : L ≤ 4) (hg : g < 81) (hm : m ≤ 8) (hS : S < 256) (hb : ∀ k, k < m → b k ≤ 40) (hW : ∀ k, k < m → aW (8 * g + k) = nI (b k))
    (hE : ∀ s, s < S → aE s = nI (N s)) (hN : ∀ s, s < S → N s ≤ 100) (h : ∀ t : Nat → Int32, post (nI (cb_nw L N b S m)) ((nI L), fD, (nI C), fk, fp, fg, fs, (nI m), aD, aT, aG, aA, aN, aP, aF, aW, aE, t)) :
    wpX_neededWith post ((nI L), fD, (nI C), fk, fp, fg, fs, (nI m), aD, aT, aG, aA, aN, aP, aF, aW, aE, aS) (nI S) (nI g) := by
  unfold wpX_neededWith
  refine nm_r (e' := nI (10 * L)) (pk_mul 10 L) ?_
  refine loop_0 (fun n i t => wX_neededWith_11 post (nI S) (nI g) (nI (10 * L)) (nI L) fD (nI C) fk fp fg fs (nI m) n (nI i) aD aT aG aA aN aP aF aW aE t) (fun i t => ∀ k, k < i → t (b k) = 0) m aS (fun k hk => absurd hk (Nat.not_lt_zero k)) ?_ ?_
  · intro n t ht
    exact br_t (nI_le (Nat.le_refl m) (by omega)) (xn_47 hL hg hm hS hb hW ht hE hN h)
  · intro n i t hi ht ih
    have hbi := hb i hi
    have e1 : aW ((8 : Int32) * nI g + nI i).toNatClampNeg = nI (b i) := by
      rw [pk_cl (x := (8 : Int32) * nI g + nI i) (8 * g + i) (cb_ix 8 g i)]; exact hW i hi
    refine br_f (nI_ge hi (by omega)) ⟨pk_in (8 * g + i) 648 (by omega) (cb_ix 8 g i), ?_⟩
    rw [e1, nI_clamp (n := b i) (by omega)]
    refine ⟨vp_in_nI (by omega) (by omega), nm_e (nm_r (nI_1 i) (ih _ ?_))⟩
    intro k hk
    by_cases e : b k = b i
    · rw [e]; exact pk_us
    · rw [pk_un e]
      exact ht k (by have : k ≠ i := fun z => e (by rw [z])
                     omega)
end
theorem cb_nb (b : Bool) : narrow .boolean (.int (cb_bI b)) = .int (cb_bI b) := by
  cases b <;> rfl
section
variable {L C c m g S : Nat} {fk : Int32} {A : Nat → Nat → Nat} {G R F : Nat → Nat} {kb : Bool}
variable {fD fp fg fs fw : Int32} {aD aT aG aA aN aP aF aW aE aS : Nat → Int32}
theorem xi_isOf {post : Int32 → Prop} (hC : C ≤ 81) (hg : g < C) (hm : m ≤ 8) (hS : S < 256) (hF : ∀ k, k < m → F k < C) (eF : ∀ k, k < m → aF k = nI (F k)) (h : post (cb_bI (cb_io F S g m))) :
    wpX_isOf post ((nI L), fD, (nI C), fk, fp, fg, fs, (nI m), aD, aT, aG, aA, aN, aP, aF, aW, aE, aS) (nI S) (nI g) := by
  refine loop_0 (fun n i t => wX_isOf_5 post (nI S) (nI g) (nI L) fD (nI C) fk fp fg fs (nI m) aD aT aG aA aN aP aF aW aE aS n t (nI i)) (fun i t => t = cb_bI (cb_io F S g i)) m 0 rfl ?_ ?_
  · intro n t ht
    subst ht
    exact br_t (nI_le (Nat.le_refl m) (by omega)) ⟨cb_nb _, h⟩
  · intro n i t hi ht ih
    subst ht
    have hFi := hF i hi
    have e1 : aF (nI i).toNatClampNeg = nI g ↔ F i = g := by
      rw [nI_clamp (by omega), eF i hi]; exact nI_eq (by omega) (by omega)
    have eio : cb_io F S g (i + 1) = (cb_io F S g i || (S.testBit i && decide (F i = g))) := rfl
    refine br_f (nI_ge hi (by omega)) (ek_if cb_bIe (fun z => ek_if (cb_bit1 (by omega) (by omega)) (fun l => ⟨vp_in_nI (by omega) (by omega), ek_if e1 (fun y => nm_r (nI_1 i) (ih _ ?_)) (fun y => nm_r (nI_1 i) (ih _ ?_))⟩) (fun l => nm_r (nI_1 i) (ih _ ?_))) (fun z => nm_r (nI_1 i) (ih _ ?_)))
    · rw [eio, l, decide_eq_true y, Bool.and_true, Bool.or_true]; rfl
    · rw [eio, l, decide_eq_false y, Bool.and_false, Bool.or_false]; exact (cb_bI0 z).symm
    · rw [eio, cb_nt l, Bool.false_and, Bool.or_false]; exact (cb_bI0 z).symm
    · rw [eio, Decidable.not_not.mp z, Bool.true_or]; rfl
end
end
section
/-! all sets -/
section
variable {L C c m S : Nat} {fk : Int32} {A : Nat → Nat → Nat} {G R F N : Nat → Nat} {kb : Bool}
variable {fD fp fg fs fw : Int32} {aD aT aG aA aN aP aF aW aE aS : Nat → Int32}
theorem xf_25 {post : SX → Prop} {J : Int32 → Int32 → Int32 → Int32 → Int32 → Int32 → Int32 → Int32 → Int32 → (Nat → Int32) → (Nat → Int32) → (Nat → Int32) → (Nat → Int32) → (Nat → Int32) → (Nat → Int32) → (Nat → Int32) → (Nat → Int32) → (Nat → Int32) → (Nat → Int32) → Prop} (hL : L ≤ 4) (hC : C ≤ 81) (hm : m ≤ 8) (hS : S < 256) (hA : ∀ g s, g < C → s < C → A g s ≤ 40) (hF : ∀ k, k < m → F k < C) (eF : ∀ k, k < m → aF k = nI (F k))
    (eW : ∀ g k, g < C → k < m → aW (8 * g + k) = nI (A g (F k))) (hE : ∀ s, s < S → aE s = nI (N s)) (hN : ∀ s, s < S → N s ≤ 100)
    (h : ∀ t : Nat → Int32, J (nI (S + 1)) (nI L) fD (nI C) fk fp fg fs (nI m) aD aT aG aA aN aP aF aW (upd aE S (nI (cb_ls (fun g => cb_nw L N (fun k => A g (F k)) S m) (cb_kd kb F m S) C))) t) :
    ∃ n, wX_findNeeded_25 post J (cb_bI kb) (nI S) n 100 0 (nI L) fD (nI C) fk fp fg fs (nI m) aD aT aG aA aN aP aF aW aE aS := by
  refine loop_0 (fun n i (t : Int32 × (Nat → Int32)) => wX_findNeeded_25 post J (cb_bI kb) (nI S) n t.1 (nI i) (nI L) fD (nI C) fk fp fg fs (nI m) aD aT aG aA aN aP aF aW aE (t.2)) (fun i t => t.1 = nI (cb_ls (fun g => cb_nw L N (fun k => A g (F k)) S m) (cb_kd kb F m S) i)) C (100, aS) rfl ?_ ?_
  · rintro n ⟨a, b⟩ ha
    have ha2 : a = nI (cb_ls (fun g => cb_nw L N (fun k => A g (F k)) S m) (cb_kd kb F m S) C) := ha
    subst ha2
    have eS : (nI S).toNatClampNeg = S := nI_clamp (by omega)
    refine br_t (nI_le (Nat.le_refl C) (by omega)) ⟨vp_in_nI hS (by omega), ?_⟩
    rw [eS]
    exact nm_e (nm_r (nI_1 S) (h b))
  · rintro n i ⟨a, b⟩ hi ha ih
    have ha2 : a = nI (cb_ls (fun g => cb_nw L N (fun k => A g (F k)) S m) (cb_kd kb F m S) i) := ha
    subst ha2
    have hls := (cb_ls_sp (fun g => cb_nw L N (fun k => A g (F k)) S m) (cb_kd kb F m S) i).1
    have hnw := cb_nw_le (L := L) (m := m) (b := fun k => A i (F k)) hN
    have key : cb_kd kb F m S i = true → wX_findNeeded_48 post J (wX_findNeeded_25 post J (cb_bI kb) (nI S) n) (cb_bI kb) (nI S) (nI (cb_ls (fun g => cb_nw L N (fun k => A g (F k)) S m) (cb_kd kb F m S) i)) (nI i) (nI L) fD (nI C) fk fp fg fs (nI m) aD aT aG aA aN aP aF aW aE b := by
      intro hk
      unfold wX_findNeeded_48
      refine xn_nw (b := fun k => A i (F k)) hL (by omega) hm hS (fun k hk => hA i (F k) hi (hF k hk)) (fun k hk => eW i k hi hk) hE hN (fun t' => ?_)
      refine ek_if (nI_leI (a := cb_ls (fun g => cb_nw L N (fun k => A g (F k)) S m) (cb_kd kb F m S) i) (b := cb_nw L N (fun k => A i (F k)) S m) (by omega) (by omega)) (fun l => ?_) (fun l => ?_)
      · exact nm_r (nI_1 i) (ih (nI (cb_ls (fun g => cb_nw L N (fun k => A g (F k)) S m) (cb_kd kb F m S) i), t') (congrArg nI (cb_ls_a (w := fun g => cb_nw L N (fun k => A g (F k)) S m) hk l).symm))
      · exact nm_r (nI_1 i) (ih (nI (cb_nw L N (fun k => A i (F k)) S m), t') (congrArg nI (cb_ls_b (w := fun g => cb_nw L N (fun k => A g (F k)) S m) hk l).symm))
    refine br_f (nI_ge hi (by omega)) (ek_if cb_bIe (fun z => key ?_) (fun z => ?_))
    · unfold cb_kd
      rw [cb_nt z]
      rfl
    · have ekd : cb_kd kb F m S i = cb_io F S i m := by
        unfold cb_kd
        rw [Decidable.not_not.mp z]
        rfl
      refine xi_isOf hC hi hm hS hF eF (ek_if cb_bIe (fun y => ?_) (fun y => key ?_))
      · refine nm_r (nI_1 i) (ih (nI (cb_ls (fun g => cb_nw L N (fun k => A g (F k)) S m) (cb_kd kb F m S) i), b) ?_)
        exact congrArg nI (cb_ls_n (by rw [ekd]; exact y)).symm
      · rw [ekd]
        exact Decidable.not_not.mp y
theorem xf_find {post : SX → Prop} {p : Int32} (hp : p = cb_bI kb) (hL : L ≤ 4) (hC : C ≤ 81) (hm : m ≤ 8) (hA : ∀ g s, g < C → s < C → A g s ≤ 40) (hAA : ∀ g, g < C → A g g = 10 * L) (hF : ∀ k, k < m → F k < C) (eF : ∀ k, k < m → aF k = nI (F k))
    (eW : ∀ g k, g < C → k < m → aW (8 * g + k) = nI (A g (F k)))
    (h : ∀ t w : Nat → Int32, (∀ s, s < 2 ^ m → t s = nI (cb_N L C m (fun g k => A g (F k)) F kb s)) → post ((nI L), fD, (nI C), fk, fp, fg, fs, (nI m), aD, aT, aG, aA, aN, aP, aF, aW, t, w)) :
    wpX_findNeeded post ((nI L), fD, (nI C), fk, fp, fg, fs, (nI m), aD, aT, aG, aA, aN, aP, aF, aW, aE, aS) p := by
  subst hp
  have h256 := cb_p2 hm
  have hpos := Nat.two_pow_pos m
  unfold wpX_findNeeded
  refine nm_e ?_
  refine pk_loop (fun n i (t : (Nat → Int32) × (Nat → Int32)) => wX_findNeeded_9 post (cb_bI kb) n (nI i) (nI L) fD (nI C) fk fp fg fs (nI m) aD aT aG aA aN aP aF aW (t.1) (t.2)) (fun i t => 1 ≤ i ∧ ∀ s, s < i → t.1 s = nI (cb_N L C m (fun g k => A g (F k)) F kb s)) (2 ^ m) 1 (upd aE 0 0, aS) (by omega) ⟨Nat.le_refl 1, ?_⟩ ?_ ?_
  · intro s hs
    have e : s = 0 := by omega
    subst e
    rw [cb_N_0]
    exact pk_us (f := aE) (k := 0) (x := 0)
  · rintro n ⟨t, w⟩ ⟨_, ht⟩
    have e : ((1 : Int32) <<< (nI m &&& 31)) ≤ nI (2 ^ m) ↔ 2 ^ m ≤ 2 ^ m := by rw [cb_1s hm]; exact nI_leI (by omega) (by omega)
    exact cb_sp e (Nat.le_refl _) (h t w ht)
  · rintro n i ⟨t, w⟩ hi ⟨hi1, ht⟩ ih
    have e : ((1 : Int32) <<< (nI m &&& 31)) ≤ nI i ↔ 2 ^ m ≤ i := by rw [cb_1s hm]; exact nI_leI (by omega) (by omega)
    have hF2 : ∀ k, k < m → F k < C ∧ (fun g k => A g (F k)) (F k) k = 10 * L := fun k hk => ⟨hF k hk, hAA (F k) (hF k hk)⟩
    refine cb_sn e (by omega) (xf_25 hL hC hm (by omega) hA hF eF eW ht (fun s hs => Nat.le_trans (cb_N_le hm hF2 (by omega)) (by omega)) (fun w' => ih (_, w') ⟨by omega, ?_⟩))
    intro s hs
    by_cases es : s = i
    · subst es
      rw [cb_N_s hi1]
      exact pk_us
    · show upd t i _ s = _
      rw [pk_un es]
      exact ht s (by omega)
/-- the few codes: the k-th possible one -/
def cb_F (A : Nat → Nat → Nat) (G R : Nat → Nat) (c C k : Nat) : Nat := cb_kt (cb_ok A G R c) k C
def cb_M (A : Nat → Nat → Nat) (G R : Nat → Nat) (c C : Nat) : Nat := cb_cn (cb_ok A G R c) C
/-- how many guesses a set of them needs -/
def cb_Q (L C c : Nat) (A : Nat → Nat → Nat) (G R : Nat → Nat) (kb : Bool) (S : Nat) : Nat :=
  cb_N L C (cb_M A G R c C) (fun g k => A g (cb_F A G R c C k)) (cb_F A G R c C) kb S
theorem cb_F_lt {k : Nat} (h : k < cb_M A G R c C) : cb_F A G R c C k < C := cb_kt_lt h
theorem cb_Q_le (hI : cb_I L C c A G R) (hM : cb_M A G R c C ≤ 8) {S : Nat} (hS : S < 2 ^ cb_M A G R c C) : cb_Q L C c A G R kb S ≤ 8 :=
  cb_N_le hM (fun _ hk => ⟨cb_F_lt hk, hI.2.2.1 _ (cb_F_lt hk)⟩) hS
theorem cb_Q_pos {S : Nat} (h : 0 < S) : 0 < cb_Q L C c A G R kb S := cb_N_pos h
theorem xf_needBy {post : Int32 → SX → Prop} {p : Int32} (hp : p = cb_bI kb) (hT : cb_T L C A fD aD aT) (hN : cb_NX C c A G R aN) (hI : cb_I L C c A G R)
    (h : cb_M A G R c C ≤ 8 → ∀ t w e s : Nat → Int32, (∀ g k, g < C → k < cb_M A G R c C → w (8 * g + k) = nI (A g (cb_F A G R c C k))) → (∀ s, s < 2 ^ cb_M A G R c C → e s = nI (cb_Q L C c A G R kb s)) →
      post (nI (cb_Q L C c A G R kb (2 ^ cb_M A G R c C - 1))) ((nI L), fD, (nI C), fk, fp, fg, fs, (nI (cb_M A G R c C)), aD, aT, aG, aA, aN, aP, t, w, e, s))
    (hb : ¬ cb_M A G R c C ≤ 8 → post (-4) ((nI L), fD, (nI C), fk, fp, fg, fs, fw, aD, aT, aG, aA, aN, aP, aF, aW, aE, aS)) : wpX_needBy post ((nI L), fD, (nI C), fk, fp, fg, fs, fw, aD, aT, aG, aA, aN, aP, aF, aW, aE, aS) p := by
  obtain ⟨⟨hL1, hL4, hC0, hC, hc⟩, hA, hAA, hGR⟩ := hI
  have hle : cb_M A G R c C ≤ C := cb_cn_le _ C
  unfold wpX_needBy
  refine xc_cp hN hc hC ?_
  refine ek_if (nI_leI (a := cb_M A G R c C) (b := 8) (by omega) (by omega)) (fun hm => ?_) hb
  have h256 := cb_p2 hm
  have hpos := Nat.two_pow_pos (cb_M A G R c C)
  refine xl_few hT hN hc hC hm rfl (fun _ => rfl) (fun t w ht hw => ?_)
  refine xf_find hp hL4 hC hm hA hAA (fun k hk => cb_F_lt hk) ht hw (fun e s he => ?_)
  have e1 : ((1 : Int32) <<< (nI (cb_M A G R c C) &&& 31)) - 1 = nI (2 ^ cb_M A G R c C - 1) := cb_1s1 hm
  have e2 : e (((1 : Int32) <<< (nI (cb_M A G R c C) &&& 31)) - 1).toNatClampNeg = nI (cb_Q L C c A G R kb (2 ^ cb_M A G R c C - 1)) := by
    rw [e1, nI_clamp (by omega)]
    exact he _ (by omega)
  refine And.intro (pk_in (2 ^ cb_M A G R c C - 1) 256 (by omega) e1) ?_
  have h3 := h hm t w e s hw he
  rw [← e2] at h3
  exact h3
/-- the first guess that needs no more -/
theorem xf_23 {post : Int32 → SX → Prop} {q g0 : Nat} (hL : L ≤ 4) (hC : C ≤ 81) (hm : m ≤ 8) (hA : ∀ g s, g < C → s < C → A g s ≤ 40) (hF : ∀ k, k < m → F k < C)
    (eW : ∀ g k, g < C → k < m → aW (8 * g + k) = nI (A g (F k))) (hE : ∀ s, s < 2 ^ m → aE s = nI (N s)) (hN : ∀ s, s < 2 ^ m → N s ≤ 100) (hq : q ≤ 100) (hg0 : g0 < C)
    (h0 : cb_nw L N (fun k => A g0 (F k)) (2 ^ m - 1) m = q) (h1 : ∀ g, g < g0 → ¬ cb_nw L N (fun k => A g (F k)) (2 ^ m - 1) m = q)
    (h : ∀ t : Nat → Int32, post (nI g0) ((nI L), fD, (nI C), fk, fp, fg, fs, (nI m), aD, aT, aG, aA, aN, aP, aF, aW, aE, t)) :
    ∃ n, wX_first_23 post (nI q) n 0 (nI L) fD (nI C) fk fp fg fs (nI m) aD aT aG aA aN aP aF aW aE aS := by
  have h256 := cb_p2 hm
  have hpos := Nat.two_pow_pos m
  have hE2 : ∀ s, s < 2 ^ m - 1 → aE s = nI (N s) := fun s hs => hE s (by omega)
  have hN2 : ∀ s, s < 2 ^ m - 1 → N s ≤ 100 := fun s hs => hN s (by omega)
  have e1 : ((1 : Int32) <<< (nI m &&& 31)) - 1 = nI (2 ^ m - 1) := cb_1s1 hm
  refine loop_0 (fun n i (t : Nat → Int32) => wX_first_23 post (nI q) n (nI i) (nI L) fD (nI C) fk fp fg fs (nI m) aD aT aG aA aN aP aF aW aE t) (fun _ _ => True) g0 aS trivial ?_ ?_
  · intro n t _
    refine br_f (nI_ge hg0 (by omega)) ?_
    rw [e1]
    refine xn_nw (b := fun k => A g0 (F k)) hL (by omega) hm (by omega) (fun k hk => hA g0 (F k) hg0 (hF k hk)) (fun k hk => eW g0 k hg0 hk) hE2 hN2 (fun t' => ?_)
    rw [h0]
    exact br_t rfl (h t')
  · intro n i t hi _ ih
    have hnw := cb_nw_le (L := L) (m := m) (b := fun k => A i (F k)) hN2
    refine br_f (nI_ge (by omega) (by omega)) ?_
    rw [e1]
    refine xn_nw (b := fun k => A i (F k)) hL (by omega) hm (by omega) (fun k hk => hA i (F k) (by omega) (hF k hk)) (fun k hk => eW i k (by omega) hk) hE2 hN2 (fun t' => ?_)
    exact br_f (fun z => h1 i hi ((nI_eq (by omega) (by omega)).mp z)) (nm_r (nI_1 i) (ih t' trivial))
end
end
section
/-! the component's constructor -/
theorem cb_cl (M : Nat) (hM : 1 ≤ M) (hM2 : M < 100) (p m : Int32) (em : m = nI M) : ∃ l, 1 ≤ l ∧ l ≤ M ∧ ∀ P : Int32 → Prop, P (nI l) → ((1 ≤ p → ((p ≤ m → P p) ∧ (¬ p ≤ m → P m))) ∧ (¬ 1 ≤ p → P 1)) := by
  subst em
  by_cases h1 : (1 : Int32) ≤ p
  · have h0 : ¬ p < 0 := by
      rw [Int32.le_iff_toInt_le] at h1
      rw [Int32.lt_iff_toInt_lt]
      have e1 : (1 : Int32).toInt = 1 := by decide
      have e0 : (0 : Int32).toInt = 0 := by decide
      omega
    obtain ⟨j, hj, rfl⟩ := nI_of h0
    have hj1 : 1 ≤ j := (nI_leI (a := 1) (by omega) hj).mp h1
    by_cases h2 : j ≤ M
    · exact ⟨j, hj1, h2, fun P h => br_t h1 (br_t (nI_le h2 (by omega)) h)⟩
    · exact ⟨M, hM, Nat.le_refl M, fun P h => br_t h1 (br_f (nI_ge (by omega) hj) h)⟩
  · exact ⟨1, Nat.le_refl 1, hM, fun P h => br_f h1 h⟩
def cb_x6 (L t : Nat) : Int32 := if t < L then nI (L - 1 - t) else -1
section
variable {L D C x : Nat} {fk : Int32} {x3 : Int32}
variable {fD fp fg fs fw : Int32} {aD aT aG aA aN aP aF aW aE aS : Nat → Int32}
theorem cx_256 {post : SX → Prop} {J : Int32 → (Nat → Int32) → (Nat → Int32) → (Nat → Int32) → (Nat → Int32) → (Nat → Int32) → (Nat → Int32) → (Nat → Int32) → (Nat → Int32) → (Nat → Int32) → (Nat → Int32) → Prop} {J' : Int32 → Int32 → (Nat → Int32) → (Nat → Int32) → (Nat → Int32) → (Nat → Int32) → (Nat → Int32) → (Nat → Int32) → (Nat → Int32) → (Nat → Int32) → (Nat → Int32) → (Nat → Int32) → Prop} {j d : Nat} {r : Int32} (hx : x < 81) (hj : j < 4) (hd : d < 3)
    (h : J' r (nI j + (-1)) (upd aD (4 * x + j) (nI d)) (upd aT (3 * x + d) (aT (3 * x + d) + 1)) aG aA aN aP aF aW aE aS) :
    wX_init_256 post J J' x3 (nI x) (nI j) (nI d) r (nI L) (nI D) (nI C) fk fp fg fs fw aD aT aG aA aN aP aF aW aE aS := by
  have e1 : ((4 : Int32) * nI x + nI j).toNatClampNeg = 4 * x + j := pk_cl (4 * x + j) (cb_ix 4 x j)
  have e2 : ((3 : Int32) * nI x + nI d).toNatClampNeg = 3 * x + d := pk_cl (3 * x + d) (cb_ix 3 x d)
  unfold wX_init_256
  rw [e1, e2]
  exact ⟨pk_in (4 * x + j) 324 (by omega) (cb_ix 4 x j), nm_e ⟨pk_in (3 * x + d) 243 (by omega) (cb_ix 3 x d), pk_in (3 * x + d) 243 (by omega) (cb_ix 3 x d), nm_e (nm_e h)⟩⟩
theorem cx_d {post : SX → Prop} {J : Int32 → (Nat → Int32) → (Nat → Int32) → (Nat → Int32) → (Nat → Int32) → (Nat → Int32) → (Nat → Int32) → (Nat → Int32) → (Nat → Int32) → (Nat → Int32) → (Nat → Int32) → Prop} {J' : Int32 → Int32 → (Nat → Int32) → (Nat → Int32) → (Nat → Int32) → (Nat → Int32) → (Nat → Int32) → (Nat → Int32) → (Nat → Int32) → (Nat → Int32) → (Nat → Int32) → (Nat → Int32) → Prop} {r : Nat} {x4 x6 : Int32} (hr : r < 81) (hD1 : 1 ≤ D) (hD3 : D ≤ 3) (h1 : D = 1 → r = 0)
    (h : wX_init_256 post J J' x3 x4 x6 (nI (r % D)) (nI (r / D)) (nI L) (nI D) (nI C) fk fp fg fs fw aD aT aG aA aN aP aF aW aE aS) :
    ((nI D = 1 → wX_init_223 post J J' x3 x4 (nI r) x6 0 (nI L) (nI D) (nI C) fk fp fg fs fw aD aT aG aA aN aP aF aW aE aS) ∧ (¬ nI D = 1 → ((nI D = 2 → (¬ (2 : Int32) = 0 ∧ wX_init_223 post J J' x3 x4 (nI r) x6 (nI r - nI r / 2 * 2) (nI L) (nI D) (nI C) fk fp fg fs fw aD aT aG aA aN aP aF aW aE aS)) ∧ (¬ nI D = 2 → (¬ (3 : Int32) = 0 ∧ wX_init_223 post J J' x3 x4 (nI r) x6 (nI r - nI r / 3 * 3) (nI L) (nI D) (nI C) fk fp fg fs fw aD aT aG aA aN aP aF aW aE aS))))) := by
  have hD : D = 1 ∨ D = 2 ∨ D = 3 := by omega
  rcases hD with e | e | e
  · subst e
    have er := h1 rfl
    subst er
    exact br_t rfl (br_t rfl h)
  · subst e
    have e1 : nI r - nI r / (2 : Int32) * 2 = nI (r % 2) := pk_rem (d := 2) (by omega) (by omega) (by omega)
    have e2 : nI r / (2 : Int32) = nI (r / 2) := pk_div (d := 2) (by omega) (by omega) (by omega)
    rw [← e1, ← e2] at h
    exact br_f (by decide) (br_t rfl ⟨by decide, br_f (by decide) (br_t rfl ⟨by decide, h⟩)⟩)
  · subst e
    have e1 : nI r - nI r / (3 : Int32) * 3 = nI (r % 3) := pk_rem (d := 3) (by omega) (by omega) (by omega)
    have e2 : nI r / (3 : Int32) = nI (r / 3) := pk_div (d := 3) (by omega) (by omega) (by omega)
    rw [← e1, ← e2] at h
    exact br_f (by decide) (br_f (by decide) ⟨by decide, br_f (by decide) (br_f (by decide) ⟨by decide, h⟩)⟩)
/-- the tables for the codes below x -/
def cb_K (L D x : Nat) (aD aT : Nat → Int32) : Prop := (∀ y, y < x → ∀ i, i < L → aD (4 * y + i) = nI (cb_dg D y (L - 1 - i))) ∧ (∀ y, y < x → ∀ d, d < D → aT (3 * y + d) = nI (cb_tm D y d L))
theorem cx_187 {post : SX → Prop} {J : Int32 → (Nat → Int32) → (Nat → Int32) → (Nat → Int32) → (Nat → Int32) → (Nat → Int32) → (Nat → Int32) → (Nat → Int32) → (Nat → Int32) → (Nat → Int32) → (Nat → Int32) → Prop} {b6 : Int32} (h6 : b6 = cb_x6 L 0) (hL1 : 1 ≤ L) (hL : L ≤ 4) (hD1 : 1 ≤ D) (hD3 : D ≤ 3) (hC : C = D ^ L) (hx : x < C) (hK : cb_K L D x aD aT) (hz : ∀ j, 3 * x ≤ j → aT j = 0)
    (h : ∀ tD tT : Nat → Int32, cb_K L D (x + 1) tD tT → (∀ j, 3 * (x + 1) ≤ j → tT j = 0) → J (nI (x + 1)) tD tT aG aA aN aP aF aW aE aS) :
    ∃ n, wX_init_187 post J x3 (nI x) (nI L) (nI D) (nI C) fk fp fg fs fw n (nI x) b6 aD aT aG aA aN aP aF aW aE aS := by
  subst h6
  have hC81 := cb_C81 hL1 hL hD1 hD3
  rw [← hC] at hC81
  have ex : nI x = nI (x / D ^ 0) := by rw [Nat.pow_zero, Nat.div_one]
  have g : ∃ n, wX_init_187 post J x3 (nI x) (nI L) (nI D) (nI C) fk fp fg fs fw n (nI (x / D ^ 0)) (cb_x6 L 0) aD aT aG aA aN aP aF aW aE aS := by
    refine loop_0 (fun n i (t : (Nat → Int32) × (Nat → Int32)) => wX_init_187 post J x3 (nI x) (nI L) (nI D) (nI C) fk fp fg fs fw n (nI (x / D ^ i)) (cb_x6 L i) (t.1) (t.2) aG aA aN aP aF aW aE aS)
      (fun i t => cb_K L D x t.1 t.2 ∧ (∀ j, 3 * (x + 1) ≤ j → t.2 j = 0) ∧ (∀ j, L - i ≤ j → j < L → t.1 (4 * x + j) = nI (cb_dg D x (L - 1 - j))) ∧ (∀ d, d < 3 → t.2 (3 * x + d) = nI (cb_tm D x d i))) L (aD, aT) ⟨hK, fun j hj => hz j (by omega), fun j h1 h2 => absurd h1 (by omega), fun d _ => hz _ (by omega)⟩ ?_ ?_
    · rintro n ⟨tD, tT⟩ ⟨k, z, p, q⟩
      have e : cb_x6 L L = -1 := if_neg (Nat.lt_irrefl L)
      refine br_t (by rw [e]; decide) (nm_r (nI_1 x) (h tD tT ⟨fun y hy i hi => ?_, fun y hy d hd => ?_⟩ z))
      · by_cases e : y = x
        · subst e; exact p i (by omega) hi
        · exact k.1 y (by omega) i hi
      · by_cases e : y = x
        · subst e; exact q d (by omega)
        · exact k.2 y (by omega) d hd
    · rintro n i ⟨tD, tT⟩ hi ⟨k, z, p, q⟩ ih
      have e : cb_x6 L i = nI (L - 1 - i) := if_pos hi
      have q : ∀ d, d < 3 → tT (3 * x + d) = nI (cb_tm D x d i) := q
      have hdg := cb_dg_lt (D := D) (x := x) (i := i) (by omega)
      have hle : x / D ^ i ≤ x := Nat.div_le_self _ _
      have hr1 : D = 1 → x / D ^ i = 0 := by
        intro e1
        subst e1
        rw [Nat.one_pow] at hC
        have : x = 0 := by omega
        subst this
        exact Nat.zero_div _
      show wX_init_187 post J x3 (nI x) (nI L) (nI D) (nI C) fk fp fg fs fw (n + 1) (nI (x / D ^ i)) (cb_x6 L i) tD tT aG aA aN aP aF aW aE aS
      rw [e]
      refine br_f (nI_pos (by omega)) (cx_d (by omega) hD1 hD3 hr1 ?_)
      refine cx_256 (d := cb_dg D x i) (by omega) (by omega) (by omega) ?_
      have e6 : nI (L - 1 - i) + (-1) = cb_x6 L (i + 1) := by
        unfold cb_x6
        by_cases l : i + 1 < L
        · rw [if_pos l]
          have e7 : L - 1 - i = (L - 1 - (i + 1)) + 1 := by omega
          rw [e7, pk_m1]
        · rw [if_neg l]
          have e7 : L - 1 - i = 0 := by omega
          rw [e7]
          decide
      have er : x / D ^ i / D = x / D ^ (i + 1) := by rw [Nat.div_div_eq_div_mul, Nat.pow_succ]
      rw [e6, er]
      refine ih (_, _) ⟨⟨fun y hy j hj => ?_, fun y hy d hd => ?_⟩, fun j hj => ?_, fun j h1 h2 => ?_, fun d hd => ?_⟩
      · show upd tD _ _ _ = _
        rw [pk_un (by omega)]
        exact k.1 y hy j hj
      · show upd tT _ _ _ = _
        rw [pk_un (by omega)]
        exact k.2 y hy d hd
      · show upd tT _ _ _ = _
        rw [pk_un (by omega)]
        exact z j hj
      · show upd tD _ _ _ = _
        by_cases ej : j = L - 1 - i
        · have e8 : L - 1 - j = i := by omega
          rw [e8, ej]
          exact pk_us
        · rw [pk_un (by omega)]
          exact p j (by omega) h2
      · show upd tT _ _ _ = _
        rw [cb_tm_s]
        by_cases ed : d = cb_dg D x i
        · rw [if_pos ed, ed, pk_us, q _ (by omega), nI_1]
        · rw [if_neg ed, pk_un (by omega), Nat.add_zero]
          exact q d hd
  rw [← ex] at g
  exact g
theorem cx_169 {post : SX → Prop} (hL1 : 1 ≤ L) (hL : L ≤ 4) (hD1 : 1 ≤ D) (hD3 : D ≤ 3) (hC : C = D ^ L) (hz : ∀ j, aT j = 0)
    (h : ∀ tD tT : Nat → Int32, cb_K L D C tD tT → post ((nI L), (nI D), (nI C), fk, fp, fg, fs, fw, tD, tT, aG, aA, aN, aP, aF, aW, aE, aS)) :
    ∃ n, wX_init_169 post (nI C) (nI L) (nI D) (nI C) fk fp fg fs fw n 0 aD aT aG aA aN aP aF aW aE aS := by
  have hC81 := cb_C81 hL1 hL hD1 hD3
  rw [← hC] at hC81
  refine loop_0 (fun n i (t : (Nat → Int32) × (Nat → Int32)) => wX_init_169 post (nI C) (nI L) (nI D) (nI C) fk fp fg fs fw n (nI i) (t.1) (t.2) aG aA aN aP aF aW aE aS) (fun i t => cb_K L D i t.1 t.2 ∧ (∀ j, 3 * i ≤ j → t.2 j = 0)) C (aD, aT) ⟨⟨fun y hy => absurd hy (Nat.not_lt_zero y), fun y hy => absurd hy (Nat.not_lt_zero y)⟩, fun j _ => hz j⟩ ?_ ?_
  · rintro n ⟨tD, tT⟩ ⟨k, _⟩
    exact br_t (nI_le (Nat.le_refl C) (by omega)) (h tD tT k)
  · rintro n i ⟨tD, tT⟩ hi ⟨k, z⟩ ih
    have e : nI L - 1 = cb_x6 L 0 := by
      have e1 : cb_x6 L 0 = nI (L - 1 - 0) := if_pos hL1
      rw [e1]
      exact pk_sub (b := 1) hL1
    exact br_f (nI_ge hi (by omega)) (nm_r e (cx_187 rfl hL1 hL hD1 hD3 hC hi k z (fun tD' tT' k' z' => ih (tD', tT') ⟨k', z'⟩)))
theorem cx_139 {post : SX → Prop} {z : Int32} (hL1 : 1 ≤ L) (hL : L ≤ 4) (hD1 : 1 ≤ D) (hD3 : D ≤ 3) (hC : C = D ^ L) (hz : ∀ j, aT j = 0)
    (h : ∀ tD tT : Nat → Int32, cb_K L D C tD tT → post ((nI L), (nI D), (nI C), fk, fp, fg, fs, fw, tD, tT, aG, aA, aN, aP, aF, aW, aE, aS)) :
    ∃ n, wX_init_139 post (nI L) (nI D) z fk fp fg fs fw aD aT aG aA aN aP aF aW aE aS n 1 0 := by
  refine loop_0 (fun n i t => wX_init_139 post (nI L) (nI D) z fk fp fg fs fw aD aT aG aA aN aP aF aW aE aS n t (nI i)) (fun i t => t = nI (D ^ i)) L 1 rfl ?_ ?_
  · intro n t ht
    subst ht
    rw [← hC]
    exact br_t (nI_le (Nat.le_refl L) (by omega)) (cx_169 hL1 hL hD1 hD3 hC hz h)
  · intro n i t hi ht ih
    subst ht
    refine br_f (nI_ge hi (by omega)) (nm_r (e' := nI (D ^ (i + 1))) ?_ (nm_r (nI_1 i) (ih _ rfl)))
    rw [pk_mul, Nat.pow_succ]
end
end
section
/-! the reference -/
section
variable {L C c : Nat} {A : Nat → Nat → Nat} {G R : Nat → Nat}
variable {yD yw : Int32} {yG yA yF yE yS yT : Nat → Int32}
theorem ya_at (hT : cb_TY C A yT) (hC : C ≤ 81) {k : Int32} {post : Int32 → Prop} {g s : Nat} (hg : g < C) (hs : s < C) (h : post (nI (A g s))) : wpY_answerTo post ((nI L), yD, (nI C), k, yw, yG, yA, yF, yE, yS, yT) (nI g) (nI s) := by
  have e : yT ((81 : Int32) * nI g + nI s).toNatClampNeg = nI (A g s) := by
    rw [pk_cl (x := (81 : Int32) * nI g + nI s) (81 * g + s) (cb_ix 81 g s)]; exact hT g s hg hs
  unfold wpY_answerTo
  refine And.intro (pk_in (81 * g + s) 6561 (by omega) (cb_ix 81 g s)) ?_
  rw [e]
  exact h
theorem yb_t {post : Int32 → Prop} {k : Int32} {g : Nat} (hC : C ≤ 81) (hg : g < C) (h : post 1) : wpY_isCode post ((nI L), yD, (nI C), k, yw, yG, yA, yF, yE, yS, yT) (nI g) :=
  br_f (nI_pos (by omega)) (br_f (nI_ge hg (by omega)) h)
theorem yb_f {post : Int32 → Prop} {k : Int32} {v : Int32} (hv : v < 0 ∨ nI C ≤ v) (h : post 0) : wpY_isCode post ((nI L), yD, (nI C), k, yw, yG, yA, yF, yE, yS, yT) v := by
  by_cases h0 : v < 0
  · exact br_t h0 h
  · rcases hv with hv | hv
    · exact absurd hv h0
    · exact br_f h0 (br_t hv h)
theorem ya_agrees (hT : cb_TY C A yT) (hI : cb_I L C c A G R) (hG : cb_GR c G R yG yA) {post : Int32 → Prop} {x : Nat} {w : Int32} {sk : Nat → Bool} (hx : x < C) (hw : ∀ i, i < c → (nI i = w ↔ sk i = true))
    (h1 : cb_cn (fun i => cb_ds A G R x i && !sk i) c = 0 → post 1) (h0 : ¬ cb_cn (fun i => cb_ds A G R x i && !sk i) c = 0 → post 0) : wpY_agrees post ((nI L), yD, (nI C), (nI c), yw, yG, yA, yF, yE, yS, yT) (nI x) w := by
  obtain ⟨⟨hL1, hL4, hC0, hC, hc⟩, hA, hAA, hGR⟩ := hI
  refine loop_0 (fun n i (_ : Unit) => wY_agrees_2 post (nI x) w (nI L) yD (nI C) (nI c) yw yG yA yF yE yS yT n (nI i)) (fun i _ => cb_cn (fun i => cb_ds A G R x i && !sk i) i = 0) c () rfl ?_ ?_
  · intro n t ht
    exact br_t (nI_le (Nat.le_refl c) (by omega)) (h1 ht)
  · intro n i t hi ht ih
    obtain ⟨hGi, hRi⟩ := hGR i hi
    obtain ⟨eG, eR⟩ := hG i hi
    have hAi := hA (G i) x hGi hx
    have ei : (nI i).toNatClampNeg = i := nI_clamp (by omega)
    refine br_f (nI_ge hi (by omega)) (ek_if (hw i hi) (fun l => ?_) (fun l => ⟨vp_in_nI (by omega) (by omega), ?_⟩))
    · refine nm_r (nI_1 i) (ih () ?_)
      exact (cb_cn_f (p := fun i => cb_ds A G R x i && !sk i) (by simp [l])).trans ht
    · rw [ei, eG, eR]
      refine ya_at hT hC hGi hx ⟨vp_in_nI (by omega) (by omega), ek_if (nI_eq (by omega) (by omega)) (fun y => ?_) (fun y => ?_)⟩
      · refine nm_r (nI_1 i) (ih () ?_)
        exact (cb_cn_f (p := fun i => cb_ds A G R x i && !sk i) (by simp [cb_ds, y])).trans ht
      · refine h0 (fun z => ?_)
        have h2 := cb_cn_pos (p := fun i => cb_ds A G R x i && !sk i) hi (by simp [cb_ds, y, l])
        omega
theorem ya_ok (hT : cb_TY C A yT) (hI : cb_I L C c A G R) (hG : cb_GR c G R yG yA) {post : Int32 → Prop} {x : Nat} (hx : x < C)
    (h1 : cb_ok A G R c x = true → post 1) (h0 : ¬ cb_ok A G R c x = true → post 0) : wpY_agrees post ((nI L), yD, (nI C), (nI c), yw, yG, yA, yF, yE, yS, yT) (nI x) (-1) := by
  have hc : c ≤ 8 := hI.1.2.2.2.2
  have e : cb_cn (fun i => cb_ds A G R x i && !(fun _ => false) i) c = cb_cn (cb_ds A G R x) c := cb_cn_congr (fun i _ => by simp)
  refine ya_agrees (sk := fun _ => false) hT hI hG hx (fun i hi => ⟨fun z => absurd z (cb_neg i (by omega)), fun z => absurd z (by simp)⟩) (fun z => h1 ?_) (fun z => h0 ?_)
  · rw [cb_okI, ← e]; exact z
  · rw [cb_okI, ← e]; exact z
theorem ya_ow (hT : cb_TY C A yT) (hI : cb_I L C c A G R) (hG : cb_GR c G R yG yA) {post : Int32 → Prop} {x k : Nat} (hx : x < C) (hk : k < c)
    (h1 : cb_ow A G R c k x = true → post 1) (h0 : ¬ cb_ow A G R c k x = true → post 0) : wpY_agrees post ((nI L), yD, (nI C), (nI c), yw, yG, yA, yF, yE, yS, yT) (nI x) (nI k) := by
  have hc : c ≤ 8 := hI.1.2.2.2.2
  refine ya_agrees (sk := fun i => decide (i = k)) hT hI hG hx (fun i hi => ?_) (fun z => h1 (cb_owI.mpr z)) (fun z => h0 (fun y => z (cb_owI.mp y)))
  rw [nI_eq (by omega) (by omega), decide_eq_true_eq]
theorem yc_gen (hC : C ≤ 81) {post : Int32 → Prop} {w : Int32} {ok : Nat → Bool} (hag : ∀ (post : Int32 → Prop) (x : Nat), x < C → (ok x = true → post 1) → (¬ ok x = true → post 0) → wpY_agrees post ((nI L), yD, (nI C), (nI c), yw, yG, yA, yF, yE, yS, yT) (nI x) w)
    (h : post (nI (cb_cn ok C))) : wpY_countPossible post ((nI L), yD, (nI C), (nI c), yw, yG, yA, yF, yE, yS, yT) w := by
  refine loop_0 (fun n i t => wY_countPossible_4 post w (nI L) yD (nI C) (nI c) yw yG yA yF yE yS yT n t (nI i)) (fun i t => t = nI (cb_cn ok i)) C 0 rfl ?_ ?_
  · intro n t ht
    subst ht
    exact br_t (nI_le (Nat.le_refl C) (by omega)) h
  · intro n i t hi ht ih
    subst ht
    refine br_f (nI_ge hi (by omega)) (hag _ i hi (fun l => br_f (by decide) ?_) (fun l => br_t rfl ?_))
    · exact nm_r (nI_1 _) (nm_r (nI_1 i) (ih _ (congrArg nI (cb_cn_t l).symm)))
    · exact nm_r (nI_1 i) (ih _ (congrArg nI (cb_cn_f l).symm))
theorem yc_cp (hT : cb_TY C A yT) (hI : cb_I L C c A G R) (hG : cb_GR c G R yG yA) {post : Int32 → Prop} (h : post (nI (cb_cn (cb_ok A G R c) C))) : wpY_countPossible post ((nI L), yD, (nI C), (nI c), yw, yG, yA, yF, yE, yS, yT) (-1) :=
  yc_gen hI.1.2.2.2.1 (fun _ _ hx h1 h0 => ya_ok hT hI hG hx h1 h0) h
theorem yc_cw (hT : cb_TY C A yT) (hI : cb_I L C c A G R) (hG : cb_GR c G R yG yA) {k : Nat} (hk : k < c) {post : Int32 → Prop} (h : post (nI (cb_cn (cb_ow A G R c k) C))) : wpY_countPossible post ((nI L), yD, (nI C), (nI c), yw, yG, yA, yF, yE, yS, yT) (nI k) :=
  yc_gen hI.1.2.2.2.1 (fun _ _ hx h1 h0 => ya_ow hT hI hG hx hk h1 h0) h
/-! useful -/
theorem yu_useful (hT : cb_TY C A yT) (hI : cb_I L C c A G R) (hG : cb_GR c G R yG yA) {post : Int32 → Prop} (h : post (nI (cb_cn (fun k => decide (0 < cb_us A G R c C k)) c))) : wpY_useful post ((nI L), yD, (nI C), (nI c), yw, yG, yA, yF, yE, yS, yT) := by
  have hc : c ≤ 8 := hI.1.2.2.2.2
  have hC : C ≤ 81 := hI.1.2.2.2.1
  have h2 := cb_cn_le (cb_ok A G R c) C
  unfold wpY_useful
  refine yc_cp hT hI hG ?_
  refine loop_0 (fun n i t => wY_useful_10 post (nI (cb_cn (cb_ok A G R c) C)) (nI L) yD (nI C) (nI c) yw yG yA yF yE yS yT n t (nI i)) (fun i t => t = nI (cb_cn (fun k => decide (0 < cb_us A G R c C k)) i)) c 0 rfl ?_ ?_
  · intro n t ht
    subst ht
    exact br_t (nI_le (Nat.le_refl c) (by omega)) h
  · intro n i t hi ht ih
    subst ht
    have h3 := cb_cn_le (cb_ow A G R c i) C
    have h4 := cb_us_iff (A := A) (G := G) (R := R) (C := C) hi
    refine br_f (nI_ge hi (by omega)) (yc_cw hT hI hG hi (ek_if (nI_leI (by omega) (by omega)) (fun l => ?_) (fun l => ?_)))
    · refine nm_r (nI_1 i) (ih _ ?_)
      refine congrArg nI (cb_cn_f (p := fun k => decide (0 < cb_us A G R c C k)) (fun y => ?_)).symm
      have := h4.mpr (of_decide_eq_true y)
      omega
    · refine nm_r (nI_1 _) (nm_r (nI_1 i) (ih _ ?_))
      exact congrArg nI (cb_cn_t (p := fun k => decide (0 < cb_us A G R c C k)) (decide_eq_true (h4.mp (by omega)))).symm
end
end
section
/-! the reference: parts and best guesses -/
section
variable {L C c : Nat} {A : Nat → Nat → Nat} {G R : Nat → Nat}
variable {yD yw : Int32} {yG yA yF yE yS yT : Nat → Int32}
theorem yp_23 {post : SY → Prop} {g : Nat} (hT : cb_TY C A yT) (hI : cb_I L C c A G R) (hG : cb_GR c G R yG yA) (hg : g < C) (hz : ∀ a, a < 60 → yS a = 0)
    (h : ∀ t : Nat → Int32, (∀ a, a < 60 → t a = nI (cb_sz A (cb_ok A G R c) g C a)) → post ((nI L), yD, (nI C), (nI c), yw, yG, yA, yF, yE, t, yT)) : ∃ n, wY_part_23 post (nI g) (nI L) yD (nI C) (nI c) yw n 0 yG yA yF yE yS yT := by
  have hC : C ≤ 81 := hI.1.2.2.2.1
  refine loop_0 (fun n i t => wY_part_23 post (nI g) (nI L) yD (nI C) (nI c) yw n (nI i) yG yA yF yE t yT) (fun i t => ∀ a, a < 60 → t a = nI (cb_sz A (cb_ok A G R c) g i a)) C yS (fun a ha => hz a ha) ?_ ?_
  · intro n t ht
    exact br_t (nI_le (Nat.le_refl C) (by omega)) (h t ht)
  · intro n i t hi ht ih
    have hAi := hI.2.1 g i hg hi
    refine br_f (nI_ge hi (by omega)) (ya_ok hT hI hG hi (fun l => br_f (by decide) ?_) (fun l => br_t rfl ?_))
    · refine ya_at hT hC hg hi ⟨vp_in_nI (by omega) (by omega), vp_in_nI (by omega) (by omega), nm_e (nm_r (nI_1 i) (ih _ ?_))⟩
      rw [nI_clamp (n := A g i) (by omega)]
      intro a ha
      rw [cb_sz_s l]
      by_cases e : a = A g i
      · subst e
        rw [pk_us, if_pos rfl, ht _ ha, nI_1]
      · rw [pk_un e, if_neg e, ht a ha, Nat.add_zero]
    · refine nm_r (nI_1 i) (ih _ ?_)
      intro a ha
      rw [cb_sz_n l]
      exact ht a ha
theorem yp_part {post : SY → Prop} {g : Nat} (hT : cb_TY C A yT) (hI : cb_I L C c A G R) (hG : cb_GR c G R yG yA) (hg : g < C)
    (h : ∀ t : Nat → Int32, (∀ a, a < 60 → t a = nI (cb_sz A (cb_ok A G R c) g C a)) → post ((nI L), yD, (nI C), (nI c), yw, yG, yA, yF, yE, t, yT)) : wpY_part post ((nI L), yD, (nI C), (nI c), yw, yG, yA, yF, yE, yS, yT) (nI g) := by
  refine loop_0 (fun n i t => wY_part_2 post (nI g) (nI L) yD (nI C) (nI c) yw n (nI i) yG yA yF yE t yT) (fun i t => ∀ a, a < 60 → t a = if a < i then 0 else yS a) 60 yS (fun a _ => (if_neg (Nat.not_lt_zero a)).symm) ?_ ?_
  · intro n t ht
    exact br_t (nI_le (a := 60) (b := 60) (by omega) (by omega)) (yp_23 hT hI hG hg (fun a ha => by rw [ht a ha, if_pos ha]) h)
  · intro n i t hi ht ih
    refine br_f (nI_ge (b := 60) hi (by omega)) ⟨vp_in_nI hi (by omega), nm_e (nm_r (nI_1 i) (ih _ ?_))⟩
    rw [nI_clamp (by omega)]
    exact cb_up (f := fun _ => 0) ht rfl
theorem yp_19 {post : Int32 → SY → Prop} {f : Nat → Nat} (hf : ∀ a, a < 60 → yS a = nI (f a)) (hb : ∀ a, f a ≤ 81) (h : post (nI (cb_pc f 60)) ((nI L), yD, (nI C), (nI c), yw, yG, yA, yF, yE, yS, yT)) : ∃ n, wY_parts_19 post (nI L) yD (nI C) (nI c) yw yG yA yF yE yS yT n 0 0 := by
  refine loop_0 (fun n i t => wY_parts_19 post (nI L) yD (nI C) (nI c) yw yG yA yF yE yS yT n t (nI i)) (fun i t => t = nI (cb_pc f i)) 60 0 rfl ?_ ?_
  · intro n t ht
    subst ht
    exact br_t (nI_le (a := 60) (b := 60) (by omega) (by omega)) h
  · intro n i t hi ht ih
    subst ht
    have h1 := hb i
    have e1 : yS (nI i).toNatClampNeg ≤ 0 ↔ f i ≤ 0 := by
      rw [nI_clamp (by omega), hf i hi]; exact nI_leI (b := 0) (by omega) (by omega)
    refine br_f (nI_ge (b := 60) hi (by omega)) ⟨vp_in_nI hi (by omega), ek_if e1 (fun l => ?_) (fun l => ?_)⟩
    · exact nm_r (nI_1 i) (ih _ (congrArg nI (cb_cn_f (p := fun a => decide (0 < f a)) (fun z => by have := of_decide_eq_true z; omega)).symm))
    · exact nm_r (nI_1 _) (nm_r (nI_1 i) (ih _ (congrArg nI (cb_cn_t (p := fun a => decide (0 < f a)) (decide_eq_true (by omega))).symm)))
theorem yp_w9 {post : Int32 → SY → Prop} {f : Nat → Nat} (hf : ∀ a, a < 60 → yS a = nI (f a)) (hb : ∀ a, f a ≤ 81) (h : post (nI (cb_mx f 60)) ((nI L), yD, (nI C), (nI c), yw, yG, yA, yF, yE, yS, yT)) : ∃ n, wY_worstOf_9 post (nI L) yD (nI C) (nI c) yw yG yA yF yE yS yT n 0 0 := by
  refine loop_0 (fun n i t => wY_worstOf_9 post (nI L) yD (nI C) (nI c) yw yG yA yF yE yS yT n t (nI i)) (fun i t => t = nI (cb_mx f i)) 60 0 rfl ?_ ?_
  · intro n t ht
    subst ht
    exact br_t (nI_le (a := 60) (b := 60) (by omega) (by omega)) h
  · intro n i t hi ht ih
    subst ht
    have h1 := hb i
    have h2 := cb_mx_le (f := f) (n := i) (fun a _ => hb a)
    have e0 : yS (nI i).toNatClampNeg = nI (f i) := by rw [nI_clamp (by omega), hf i hi]
    have e1 : yS (nI i).toNatClampNeg ≤ nI (cb_mx f i) ↔ f i ≤ cb_mx f i := by
      rw [e0]; exact nI_leI (by omega) (by omega)
    refine br_f (nI_ge (b := 60) hi (by omega)) ⟨vp_in_nI hi (by omega), ek_if e1 (fun l => ?_) (fun l => ⟨vp_in_nI hi (by omega), ?_⟩)⟩
    · have e2 : cb_mx f (i + 1) = cb_mx f i := if_pos l
      exact nm_r (nI_1 i) (ih _ (congrArg nI e2.symm))
    · have e2 : cb_mx f (i + 1) = f i := if_neg l
      exact nm_r e0 (nm_r (nI_1 i) (ih _ (congrArg nI e2.symm)))
theorem yp_g9 {post : Int32 → SY → Prop} {f : Nat → Nat} (hf : ∀ a, a < 60 → yS a = nI (f a)) (h : post (nI (cb_sq f 60)) ((nI L), yD, (nI C), (nI c), yw, yG, yA, yF, yE, yS, yT)) : ∃ n, wY_weightOf_9 post (nI L) yD (nI C) (nI c) yw yG yA yF yE yS yT n 0 0 := by
  refine loop_0 (fun n i t => wY_weightOf_9 post (nI L) yD (nI C) (nI c) yw yG yA yF yE yS yT n t (nI i)) (fun i t => t = nI (cb_sq f i)) 60 0 rfl ?_ ?_
  · intro n t ht
    subst ht
    exact br_t (nI_le (a := 60) (b := 60) (by omega) (by omega)) h
  · intro n i t hi ht ih
    subst ht
    have e0 : yS (nI i).toNatClampNeg = nI (f i) := by rw [nI_clamp (by omega), hf i hi]
    have e1 : nI (cb_sq f i) + yS (nI i).toNatClampNeg * yS (nI i).toNatClampNeg = nI (cb_sq f (i + 1)) := by
      rw [e0, pk_mul, nI_add]; rfl
    exact br_f (nI_ge (b := 60) hi (by omega)) ⟨vp_in_nI hi (by omega), vp_in_nI hi (by omega), nm_r e1 (nm_r (nI_1 i) (ih _ rfl))⟩
theorem cb_sz_45 (hI : cb_I L C c A G R) {g : Nat} (hg : g < C) {ok : Nat → Bool} : ∀ a, 45 ≤ a → cb_sz A ok g C a = 0 :=
  fun a ha => cb_sz_z (fun x hx z => by have := hI.2.1 g x hg hx; omega)
theorem yp_parts {post : Int32 → SY → Prop} {g : Nat} (hT : cb_TY C A yT) (hI : cb_I L C c A G R) (hG : cb_GR c G R yG yA) (hg : g < C)
    (h : ∀ t : Nat → Int32, post (nI (cb_pc (cb_sz A (cb_ok A G R c) g C) 45)) ((nI L), yD, (nI C), (nI c), yw, yG, yA, yF, yE, t, yT)) : wpY_parts post ((nI L), yD, (nI C), (nI c), yw, yG, yA, yF, yE, yS, yT) (nI g) := by
  have hC : C ≤ 81 := hI.1.2.2.2.1
  unfold wpY_parts
  refine yb_t hC hg (br_f (by decide) ?_)
  refine yp_part hT hI hG hg (fun t ht => ?_)
  refine yp_19 ht (fun a => Nat.le_trans (cb_sz_le _ _ _ _ _) hC) ?_
  have e : cb_pc (cb_sz A (cb_ok A G R c) g C) 60 = cb_pc (cb_sz A (cb_ok A G R c) g C) 45 := cb_pc_up (n := 45) (cb_sz_45 hI hg) 15
  rw [e]
  exact h t
theorem yp_worst {post : Int32 → SY → Prop} {g : Nat} (hT : cb_TY C A yT) (hI : cb_I L C c A G R) (hG : cb_GR c G R yG yA) (hg : g < C)
    (h : ∀ t : Nat → Int32, post (nI (cb_mx (cb_sz A (cb_ok A G R c) g C) 45)) ((nI L), yD, (nI C), (nI c), yw, yG, yA, yF, yE, t, yT)) : wpY_worstOf post ((nI L), yD, (nI C), (nI c), yw, yG, yA, yF, yE, yS, yT) (nI g) := by
  have hC : C ≤ 81 := hI.1.2.2.2.1
  unfold wpY_worstOf
  refine yp_part hT hI hG hg (fun t ht => ?_)
  refine yp_w9 ht (fun a => Nat.le_trans (cb_sz_le _ _ _ _ _) hC) ?_
  have e : cb_mx (cb_sz A (cb_ok A G R c) g C) 60 = cb_mx (cb_sz A (cb_ok A G R c) g C) 45 := cb_mx_up (n := 45) (cb_sz_45 hI hg) 15
  rw [e]
  exact h t
theorem yp_weight {post : Int32 → SY → Prop} {g : Nat} (hT : cb_TY C A yT) (hI : cb_I L C c A G R) (hG : cb_GR c G R yG yA) (hg : g < C)
    (h : ∀ t : Nat → Int32, post (nI (cb_sq (cb_sz A (cb_ok A G R c) g C) 45)) ((nI L), yD, (nI C), (nI c), yw, yG, yA, yF, yE, t, yT)) : wpY_weightOf post ((nI L), yD, (nI C), (nI c), yw, yG, yA, yF, yE, yS, yT) (nI g) := by
  unfold wpY_weightOf
  refine yp_part hT hI hG hg (fun t ht => ?_)
  refine yp_g9 ht ?_
  have e : cb_sq (cb_sz A (cb_ok A G R c) g C) 60 = cb_sq (cb_sz A (cb_ok A G R c) g C) 45 := cb_sq_up (n := 45) (cb_sz_45 hI hg) 15
  rw [e]
  exact h t
theorem yg_47 {post : Int32 → SY → Prop} {n i v q : Nat} {b x2 x3 : Int32} (hT : cb_TY C A yT) (hI : cb_I L C c A G R) (hG : cb_GR c G R yG yA) (hi : i < C) (hq : 2 * v + (if cb_ok A G R c i = true then 0 else 1) = q)
    (h1 : x2 < 0 → wY_best_18 post b n (nI i) (nI q) (nI (i + 1)) (nI L) yD (nI C) (nI c) yw yG yA yF yE yS yT) (h2 : ¬ x2 < 0 → x3 ≤ nI q → wY_best_18 post b n x2 x3 (nI (i + 1)) (nI L) yD (nI C) (nI c) yw yG yA yF yE yS yT) (h3 : ¬ x2 < 0 → ¬ x3 ≤ nI q → wY_best_18 post b n (nI i) (nI q) (nI (i + 1)) (nI L) yD (nI C) (nI c) yw yG yA yF yE yS yT) :
    wY_best_47 post (wY_best_18 post b n) b x2 x3 (nI i) (nI v) 2 (nI L) yD (nI C) (nI c) yw yG yA yF yE yS yT := by
  have e0 : (2 : Int32) * nI v + 0 = nI (2 * v + 0) := cb_ix 2 v 0
  have e1 : (2 : Int32) * nI v + 1 = nI (2 * v + 1) := cb_ix 2 v 1
  unfold wY_best_47
  refine ya_ok hT hI hG hi (fun l => br_f (by decide) ?_) (fun l => br_t rfl ?_)
  · rw [if_pos l] at hq
    rw [hq] at e0
    exact nm_r e0 (br_c (fun z => nm_r (nI_1 i) (h1 z)) (fun z => br_c (fun y => nm_r (nI_1 i) (h2 z y)) (fun y => nm_r (nI_1 i) (h3 z y))))
  · rw [if_neg l] at hq
    rw [hq] at e1
    exact nm_r e1 (br_c (fun z => nm_r (nI_1 i) (h1 z)) (fun z => br_c (fun y => nm_r (nI_1 i) (h2 z y)) (fun y => nm_r (nI_1 i) (h3 z y))))
theorem yg_18 {bs : Bool} {b : Int32} (hb : b = 0 ↔ bs = true) {post : Int32 → SY → Prop} (hT : cb_TY C A yT) (hI : cb_I L C c A G R) (hG : cb_GR c G R yG yA)
    (h : ∀ t : Nat → Int32, post (nI (cb_bi (cb_rk A (cb_ok A G R c) C bs) C)) ((nI L), yD, (nI C), (nI c), yw, yG, yA, yF, yE, t, yT)) : ∃ n, wY_best_18 post b n (-1) 0 0 (nI L) yD (nI C) (nI c) yw yG yA yF yE yS yT := by
  have hC : C ≤ 81 := hI.1.2.2.2.1
  have hC0 : 1 ≤ C := hI.1.2.2.1
  refine loop_0 (fun n i (t : Int32 × Int32 × (Nat → Int32)) => wY_best_18 post b n t.1 t.2.1 (nI i) (nI L) yD (nI C) (nI c) yw yG yA yF yE (t.2.2) yT) (fun i t => (i = 0 → t.1 = -1) ∧ (0 < i → t.1 = nI (cb_bi (cb_rk A (cb_ok A G R c) C bs) i) ∧ t.2.1 = nI (cb_rk A (cb_ok A G R c) C bs (cb_bi (cb_rk A (cb_ok A G R c) C bs) i)) ∧ cb_bi (cb_rk A (cb_ok A G R c) C bs) i < C)) C (-1, 0, yS) ⟨fun _ => rfl, fun z => absurd z (Nat.lt_irrefl 0)⟩ ?_ ?_
  · intro n t ht
    have e := (ht.2 hC0).1
    have h2 := h t.2.2
    rw [← e] at h2
    exact br_t (nI_le (Nat.le_refl C) (by omega)) h2
  · intro n i t hi ht ih
    have key : ∀ (t' : Nat → Int32) (v : Nat), v = cb_vl A (cb_ok A G R c) C bs i → wY_best_47 post (wY_best_18 post b n) b t.1 t.2.1 (nI i) (nI v) 2 (nI L) yD (nI C) (nI c) yw yG yA yF yE t' yT := by
      intro t' v hv
      have b1 := cb_rk_le (A := A) (ok := (cb_ok A G R c)) hC bs i
      have b2 := cb_rk_le (A := A) (ok := (cb_ok A G R c)) hC bs (cb_bi (cb_rk A (cb_ok A G R c) C bs) i)
      refine yg_47 (q := cb_rk A (cb_ok A G R c) C bs i) hT hI hG hi (by rw [hv]; rfl) (fun z => ?_) (fun z y => ?_) (fun z y => ?_)
      · refine ih (nI i, nI (cb_rk A (cb_ok A G R c) C bs i), t') ⟨fun e => absurd e (Nat.succ_ne_zero i), fun _ => ?_⟩
        by_cases e : i = 0
        · subst e
          rw [cb_bi_1]
          exact ⟨rfl, rfl, hC0⟩
        · obtain ⟨z1, z2, z3⟩ := ht.2 (by omega)
          rw [z1] at z
          exact absurd z (nI_pos (by omega))
      · refine ih (t.1, t.2.1, t') ⟨fun e => absurd e (Nat.succ_ne_zero i), fun _ => ?_⟩
        by_cases e : i = 0
        · rw [ht.1 e] at z
          exact absurd (by decide) z
        · obtain ⟨z1, z2, z3⟩ := ht.2 (by omega)
          rw [z2, nI_leI (by omega) (by omega)] at y
          have e3 : cb_bi (cb_rk A (cb_ok A G R c) C bs) (i + 1) = cb_bi (cb_rk A (cb_ok A G R c) C bs) i := if_pos y
          rw [e3]
          exact ⟨z1, z2, z3⟩
      · refine ih (nI i, nI (cb_rk A (cb_ok A G R c) C bs i), t') ⟨fun e => absurd e (Nat.succ_ne_zero i), fun _ => ?_⟩
        by_cases e : i = 0
        · subst e
          rw [cb_bi_1]
          exact ⟨rfl, rfl, hC0⟩
        · obtain ⟨z1, z2, z3⟩ := ht.2 (by omega)
          rw [z2, nI_leI (by omega) (by omega)] at y
          have e3 : cb_bi (cb_rk A (cb_ok A G R c) C bs) (i + 1) = i := if_neg y
          rw [e3]
          exact ⟨rfl, rfl, hi⟩
    refine br_f (nI_ge hi (by omega)) (ek_if hb (fun z => ?_) (fun z => ?_))
    · exact yp_weight hT hI hG hi (fun t' => key t' _ (if_pos z).symm)
    · exact yp_worst hT hI hG hi (fun t' => key t' _ (if_neg z).symm)
theorem yg_best {bs : Bool} {b : Int32} (hb : b = 0 ↔ bs = true) {post : Int32 → SY → Prop} (hT : cb_TY C A yT) (hI : cb_I L C c A G R) (hG : cb_GR c G R yG yA)
    (h0 : cb_cn (cb_ok A G R c) C = 0 → post (-3) ((nI L), yD, (nI C), (nI c), yw, yG, yA, yF, yE, yS, yT)) (h : ¬ cb_cn (cb_ok A G R c) C = 0 → ∀ t : Nat → Int32, post (nI (cb_bi (cb_rk A (cb_ok A G R c) C bs) C)) ((nI L), yD, (nI C), (nI c), yw, yG, yA, yF, yE, t, yT)) : wpY_best post ((nI L), yD, (nI C), (nI c), yw, yG, yA, yF, yE, yS, yT) b := by
  have hC : C ≤ 81 := hI.1.2.2.2.1
  have hle := cb_cn_le (cb_ok A G R c) C
  unfold wpY_best
  refine yc_cp hT hI hG ?_
  exact ek_if (nI_eq (b := 0) (by omega) (by omega)) h0 (fun z => yg_18 hb hT hI hG (h z))
end
/-! code: both sides step by step -/
theorem cb_vm (v w : Int32) : v - w + (-1) = v - (w + 1) := by grind
theorem cb_v0 (v w : Int32) : v - w = 0 ↔ w = v := ⟨fun h => by grind, fun h => by grind⟩
section
variable {L C c : Nat} {A : Nat → Nat → Nat} {G R : Nat → Nat}
variable {fD fp fg fs fw : Int32} {aD aT aG aA aN aP aF aW aE aS : Nat → Int32}
variable {yD yw : Int32} {yG yA yF yE yS yT : Nat → Int32}
theorem cb_code (hN : cb_NX C c A G R aN) (hT : cb_TY C A yT) (hI : cb_I L C c A G R) (hG : cb_GR c G R yG yA) (v : Int32) : ∀ d x n, x + d = C → ∃ r : Int32, (∀ post : Int32 → Prop, post r → wX_code_4 post v (nI L) fD (nI C) (nI c) fp fg fs fw aD aT aG aA aN aP aF aW aE aS (d + 1) (nI n) (nI x)) ∧ (∀ post : Int32 → Prop, post r → wY_code_4 post (nI L) yD (nI C) (nI c) yw yG yA yF yE yS yT (d + 1) (v - nI n) (nI x)) := by
  have hC : C ≤ 81 := hI.1.2.2.2.1
  have hc : c ≤ 8 := hI.1.2.2.2.2
  intro d
  induction d with
  | zero =>
    intro x n hx
    have h : nI C ≤ nI x := nI_le (by omega) (by omega)
    exact ⟨-3, fun post hp => br_t h hp, fun post hp => br_t h hp⟩
  | succ d ih =>
    intro x n hx
    have hxC : x < C := by omega
    have hge : ¬ nI C ≤ nI x := nI_ge hxC (by omega)
    have e0 := xn_0i hN hc hC hxC
    by_cases o : cb_ok A G R c x = true
    · by_cases e : nI n = v
      · exact ⟨nI x, fun post hp => br_f hge ⟨vp_in_nI (by omega) (by omega), cb_sp e0 o (br_t e hp)⟩, fun post hp => br_f hge (ya_ok hT hI hG hxC (fun _ => br_f (by decide) (cb_sp (cb_v0 v (nI n)) e hp)) (fun z => absurd o z))⟩
      · obtain ⟨r, hX, hY⟩ := ih (x + 1) (n + 1) (by omega)
        refine ⟨r, fun post hp => br_f hge ⟨vp_in_nI (by omega) (by omega), cb_sp e0 o (br_f e (nm_r (nI_1 n) (nm_r (nI_1 x) (hX post hp))))⟩, fun post hp => br_f hge (ya_ok hT hI hG hxC (fun _ => br_f (by decide) (cb_sn (cb_v0 v (nI n)) e (nm_r (e' := v - nI (n + 1)) ?_ (nm_r (nI_1 x) (hY post hp))))) (fun z => absurd o z))⟩
        rw [cb_vm, nI_1]
    · obtain ⟨r, hX, hY⟩ := ih (x + 1) n (by omega)
      exact ⟨r, fun post hp => br_f hge ⟨vp_in_nI (by omega) (by omega), cb_sn e0 o (nm_r (nI_1 x) (hX post hp))⟩, fun post hp => br_f hge (ya_ok hT hI hG hxC (fun z => absurd z o) (fun _ => br_t rfl (nm_r (nI_1 x) (hY post hp))))⟩
end
end
section
/-! the reference: how many guesses a set needs -/
section
variable {L C c m g S q : Nat} {k : Int32} {A : Nat → Nat → Nat} {F E : Nat → Nat} {kb : Bool}
variable {yD yw : Int32} {yG yA yF yE yS yT : Nat → Int32}
theorem ys_partOf {T a : Nat} {post : Int32 → Prop} (hTY : cb_TY C A yT) (hC : C ≤ 81) (hm : m ≤ 8) (hA : ∀ g s, g < C → s < C → A g s ≤ 40) (hF : ∀ k, k < m → F k < C) (eF : ∀ k, k < m → yF k = nI (F k)) (hg : g < C) (hS : T < 256) (ha : a ≤ 40)
    (h : post (nI (cb_pt (fun k => A g (F k)) T a m))) : wpY_partOf post ((nI L), yD, (nI C), k, (nI m), yG, yA, yF, yE, yS, yT) (nI T) (nI g) (nI a) := by
  refine loop_0 (fun n i t => wY_partOf_6 post (nI T) (nI g) (nI a) (nI L) yD (nI C) k (nI m) yG yA yF yE yS yT n t (nI i)) (fun i t => t = nI (cb_pt (fun k => A g (F k)) T a i)) m 0 rfl ?_ ?_
  · intro n t ht
    subst ht
    exact br_t (nI_le (Nat.le_refl m) (by omega)) h
  · intro n i t hi ht ih
    subst ht
    have hFi := hF i hi
    have hAi := hA g (F i) hg hFi
    have e1 : yF (nI i).toNatClampNeg = nI (F i) := by rw [nI_clamp (by omega)]; exact eF i hi
    refine br_f (nI_ge hi (by omega)) (ek_if (cb_bit1 (by omega) (by omega)) (fun l => ⟨vp_in_nI (by omega) (by omega), ?_⟩) (fun l => ?_))
    · rw [e1]
      refine ya_at hTY hC hg hFi (ek_if (nI_eq (by omega) (by omega)) (fun y => br_f (by decide) ?_) (fun y => br_t rfl ?_))
      · exact nm_r (cb_bs (by omega)) (nm_r (nI_1 i) (ih _ (congrArg nI (cb_pt_t (b := fun k => A g (F k)) ⟨l, y⟩).symm)))
      · exact nm_r (nI_1 i) (ih _ (congrArg nI (cb_pt_f (b := fun k => A g (F k)) (fun z => y z.2)).symm))
    · exact br_t rfl (nm_r (nI_1 i) (ih _ (congrArg nI (cb_pt_f (b := fun k => A g (F k)) (fun z => l z.1)).symm)))
/-- what is left of S: whole parts, and the parts that went are within q -/
def cb_rs (L : Nat) (E b : Nat → Nat) (S m q T : Nat) : Prop :=
  (∀ k, T.testBit k = true → S.testBit k = true) ∧ (∀ k j, T.testBit k = true → j < m → S.testBit j = true → b j = b k → T.testBit j = true) ∧ (∀ k, k < m → S.testBit k = true → ¬ T.testBit k = true → b k = 10 * L ∨ E (cb_pt b S (b k) m) ≤ q)
theorem cb_rs_pt {b : Nat → Nat} {T i : Nat} (h : cb_rs L E b S m q T) (hi : T.testBit i = true) : cb_pt b T (b i) m = cb_pt b S (b i) m := by
  apply Nat.eq_of_testBit_eq
  intro j
  apply Bool.eq_iff_iff.mpr
  rw [cb_pt_b, cb_pt_b]
  exact ⟨fun z => ⟨z.1, h.1 j z.2.1, z.2.2⟩, fun z => ⟨z.1, h.2.1 i j hi z.1 z.2.1 z.2.2, z.2.2⟩⟩
theorem cb_rs_df {b : Nat → Nat} {T i : Nat} (hm : m ≤ 8) (hT : T < 2 ^ m) (h : cb_rs L E b S m q T) (hi : T.testBit i = true) (hok : b i = 10 * L ∨ E (cb_pt b S (b i) m) ≤ q) :
    cb_rs L E b S m q (cb_df T (cb_pt b T (b i) m)) ∧ cb_df T (cb_pt b T (b i) m) < T ∧ cb_df T (cb_pt b T (b i) m) < 2 ^ m := by
  have hle := cb_dfle T (cb_pt b T (b i) m)
  have him : i < m := cb_tlt hT hi
  have hbit : ∀ k, (cb_df T (cb_pt b T (b i) m)).testBit k = true ↔ (T.testBit k = true ∧ ¬ b k = b i) := by
    intro k
    constructor
    · intro z
      have hk : k < m := cb_tlt (Nat.lt_of_le_of_lt hle hT) z
      rw [cb_dfb (by omega), Bool.and_eq_true, Bool.not_eq_true'] at z
      refine ⟨z.1, fun y => ?_⟩
      have z2 := (cb_pt_b b T (b i) m k).mpr ⟨hk, z.1, y⟩
      rw [z.2] at z2
      exact absurd z2 (by decide)
    · intro z
      have hk : k < m := cb_tlt hT z.1
      rw [cb_dfb (by omega), Bool.and_eq_true, Bool.not_eq_true']
      refine ⟨z.1, ?_⟩
      by_cases y : (cb_pt b T (b i) m).testBit k = true
      · exact absurd ((cb_pt_b b T (b i) m k).mp y).2.2 z.2
      · exact cb_nt y
  refine ⟨⟨fun k z => h.1 k ((hbit k).mp z).1, fun k j z hj hs e => ?_, fun k hk hs z => ?_⟩, ?_, Nat.lt_of_le_of_lt hle hT⟩
  · have z2 := (hbit k).mp z
    exact (hbit j).mpr ⟨h.2.1 k j z2.1 hj hs e, fun y => z2.2 (by rw [← e, y])⟩
  · by_cases hTk : T.testBit k = true
    · have e : b k = b i := Classical.byContradiction (fun y => z ((hbit k).mpr ⟨hTk, y⟩))
      rw [e]
      exact hok
    · exact h.2.2 k hk hs hTk
  · rcases Nat.lt_or_eq_of_le hle with y | y
    · exact y
    · have z2 := (hbit i).mp (by rw [y]; exact hi)
      exact absurd rfl z2.2
theorem ys_leaves {post : Int32 → Prop} (hTY : cb_TY C A yT) (hL : L ≤ 4) (hC : C ≤ 81) (hm : m ≤ 8) (hA : ∀ g s, g < C → s < C → A g s ≤ 40) (hF : ∀ k, k < m → F k < C) (eF : ∀ k, k < m → yF k = nI (F k)) (hg : g < C) (hS : S < 2 ^ m)
    (hE : ∀ s, s < 2 ^ m → yE s = nI (E s)) (hE2 : ∀ s, s < 2 ^ m → E s ≤ 100) (hq : q ≤ 100)
    (h1 : cb_lv L E (fun k => A g (F k)) S m q → post 1) (h0 : ¬ cb_lv L E (fun k => A g (F k)) S m q → post 0) : wpY_leaves post ((nI L), yD, (nI C), k, (nI m), yG, yA, yF, yE, yS, yT) (nI S) (nI g) (nI q) := by
  have h256 := cb_p2 hm
  refine loop_m (fun n T => wY_leaves_3 post (nI g) (nI q) (nI L) yD (nI C) k (nI m) yG yA yF yE yS yT n (nI T)) (fun T => T < 2 ^ m ∧ cb_rs L E (fun k => A g (F k)) S m q T) (fun T => T) ?_ S ⟨hS, fun _ z => z, fun _ _ _ _ z _ => z, fun _ _ z y => absurd z y⟩
  rintro n T ⟨hT, hr⟩ ih
  refine ek_if (nI_eq (a := T) (b := 0) (by omega) (by omega)) (fun z => h1 (fun k hk hs => hr.2.2 k hk hs (by rw [z, Nat.zero_testBit]; decide))) (fun z => ?_)
  obtain ⟨i, hi, hlt⟩ := pk_least (fun i => T.testBit i = true) (Nat.exists_testBit_of_ne_zero z)
  have him : i < m := cb_tlt hT hi
  have hFi := hF i him
  have hAi := hA g (F i) hg hFi
  have hpl := cb_pt_lt (fun k => A g (F k)) T (A g (F i)) m
  have hpe : cb_pt (fun k => A g (F k)) T (A g (F i)) m = cb_pt (fun k => A g (F k)) S (A g (F i)) m := cb_rs_pt (b := fun k => A g (F k)) hr hi
  have e1 : yF (nI i).toNatClampNeg = nI (F i) := by rw [nI_clamp (by omega)]; exact eF i him
  have eL : nI (A g (F i)) = (10 : Int32) * nI L ↔ A g (F i) = 10 * L := by
    have e : (10 : Int32) * nI L = nI (10 * L) := pk_mul 10 L
    rw [e]
    exact nI_eq (by omega) (by omega)
  have eE : yE (nI (cb_pt (fun k => A g (F k)) T (A g (F i)) m)).toNatClampNeg ≤ nI q ↔ E (cb_pt (fun k => A g (F k)) T (A g (F i)) m) ≤ q := by
    have := hE2 _ hpl
    rw [nI_clamp (by omega), hE _ hpl]
    exact nI_leI (by omega) (by omega)
  have key : (A g (F i) = 10 * L ∨ E (cb_pt (fun k => A g (F k)) T (A g (F i)) m) ≤ q) → wY_leaves_3 post (nI g) (nI q) (nI L) yD (nI C) k (nI m) yG yA yF yE yS yT n (nI (cb_df T (cb_pt (fun k => A g (F k)) T (A g (F i)) m))) := by
    intro hok
    rw [hpe] at hok
    obtain ⟨r1, r2, r3⟩ := cb_rs_df (b := fun k => A g (F k)) hm hT hr hi hok
    exact ih _ ⟨r3, r1⟩ r2
  refine loop_0 (fun n' j (_ : Unit) => wY_leaves_11 post (wY_leaves_3 post (nI g) (nI q) (nI L) yD (nI C) k (nI m) yG yA yF yE yS yT n) (nI g) (nI q) (nI T) (nI L) yD (nI C) k (nI m) yG yA yF yE yS yT n' (nI j)) (fun _ _ => True) i () trivial ?_ ?_
  · intro n' _ _
    refine cb_sn (cb_bit0 (by omega) (by omega)) (fun y => y hi) ⟨vp_in_nI (by omega) (by omega), ?_⟩
    rw [e1]
    refine ya_at hTY hC hg hFi ?_
    refine ys_partOf hTY hC hm hA hF eF hg (by omega) hAi ?_
    refine ek_if eL (fun y => nm_r (cb_dfI _ _) (key (Or.inl y))) (fun y => ⟨vp_in_nI (by omega) (by omega), ek_if eE (fun w => nm_r (cb_dfI _ _) (key (Or.inr w))) (fun w => h0 (fun v => ?_))⟩)
    rcases v i him (hr.1 i hi) with u | u
    · exact y u
    · rw [hpe] at w
      exact w u
  · intro n' j _ hj _ ih'
    exact cb_sp (cb_bit0 (by omega) (by omega)) (hlt j hj) (nm_r (nI_1 j) (ih' () trivial))
theorem ys_isIn {post : Int32 → Prop} (hC : C ≤ 81) (hm : m ≤ 8) (hF : ∀ k, k < m → F k < C) (eF : ∀ k, k < m → yF k = nI (F k)) (hg : g < C) (hS : S < 256)
    (h1 : cb_io F S g m = true → post 1) (h0 : ¬ cb_io F S g m = true → post 0) : wpY_isIn post ((nI L), yD, (nI C), k, (nI m), yG, yA, yF, yE, yS, yT) (nI S) (nI g) := by
  refine loop_0 (fun n i (_ : Unit) => wY_isIn_2 post (nI S) (nI g) (nI L) yD (nI C) k (nI m) yG yA yF yE yS yT n (nI i)) (fun i _ => ¬ cb_io F S g i = true) m () (fun z => absurd (show false = true from z) (by decide)) ?_ ?_
  · intro n _ ht
    exact br_t (nI_le (Nat.le_refl m) (by omega)) (h0 ht)
  · intro n i _ hi ht ih
    have hFi := hF i hi
    have e1 : yF (nI i).toNatClampNeg = nI g ↔ F i = g := by
      rw [nI_clamp (by omega), eF i hi]; exact nI_eq (by omega) (by omega)
    have hno : ¬ (S.testBit i = true ∧ F i = g) → ¬ cb_io F S g (i + 1) = true := by
      intro z y
      obtain ⟨k, hk, a, b⟩ := cb_io_t.mp y
      by_cases e : k = i
      · subst e; exact z ⟨a, b⟩
      · exact ht (cb_io_t.mpr ⟨k, by omega, a, b⟩)
    refine br_f (nI_ge hi (by omega)) (ek_if (cb_bit1 (by omega) (by omega)) (fun l => ⟨vp_in_nI (by omega) (by omega), ek_if e1 (fun y => h1 (cb_io_t.mpr ⟨i, hi, l, y⟩)) (fun y => ?_)⟩) (fun l => ?_))
    · exact nm_r (nI_1 i) (ih () (hno (fun z => y z.2)))
    · exact nm_r (nI_1 i) (ih () (hno (fun z => l z.1)))
theorem ys_can {post : Int32 → Prop} (hTY : cb_TY C A yT) (hL : L ≤ 4) (hC : C ≤ 81) (hm : m ≤ 8) (hA : ∀ g s, g < C → s < C → A g s ≤ 40) (hF : ∀ k, k < m → F k < C) (eF : ∀ k, k < m → yF k = nI (F k)) (hS : S < 2 ^ m)
    (hE : ∀ s, s < 2 ^ m → yE s = nI (E s)) (hE2 : ∀ s, s < 2 ^ m → E s ≤ 100) (hq : q ≤ 100)
    (h1 : (∃ g, g < C ∧ cb_kd kb F m S g = true ∧ cb_lv L E (fun k => A g (F k)) S m q) → post 1) (h0 : ¬ (∃ g, g < C ∧ cb_kd kb F m S g = true ∧ cb_lv L E (fun k => A g (F k)) S m q) → post 0) :
    wpY_canBeDone post ((nI L), yD, (nI C), k, (nI m), yG, yA, yF, yE, yS, yT) (nI S) (nI (q + 1)) (cb_bI kb) := by
  have h256 := cb_p2 hm
  have eq1 : nI (q + 1) - 1 = nI q := nI_pred q
  refine loop_0 (fun n i (_ : Unit) => wY_canBeDone_3 post (nI S) (nI (q + 1)) (cb_bI kb) (nI L) yD (nI C) k (nI m) yG yA yF yE yS yT n (nI i)) (fun i _ => ∀ g, g < i → ¬ (cb_kd kb F m S g = true ∧ cb_lv L E (fun k => A g (F k)) S m q)) C () (fun g hg => absurd hg (Nat.not_lt_zero g)) ?_ ?_
  · intro n _ ht
    exact br_t (nI_le (Nat.le_refl C) (by omega)) (h0 (fun ⟨g, hg, z⟩ => ht g hg z))
  · intro n i _ hi ht ih
    have hs : ¬ (cb_kd kb F m S i = true ∧ cb_lv L E (fun k => A i (F k)) S m q) → ∀ g, g < i + 1 → ¬ (cb_kd kb F m S g = true ∧ cb_lv L E (fun k => A g (F k)) S m q) := by
      intro z g hg
      by_cases e : g = i
      · subst e; exact z
      · exact ht g (by omega)
    have key : cb_kd kb F m S i = true → wY_canBeDone_26 post (wY_canBeDone_3 post (nI S) (nI (q + 1)) (cb_bI kb) (nI L) yD (nI C) k (nI m) yG yA yF yE yS yT n) (nI S) (nI (q + 1)) (cb_bI kb) (nI i) (nI L) yD (nI C) k (nI m) yG yA yF yE yS yT := by
      intro hk
      unfold wY_canBeDone_26
      rw [eq1]
      refine ys_leaves hTY hL hC hm hA hF eF hi hS hE hE2 hq (fun y => br_f (by decide) (h1 ⟨i, hi, hk, y⟩)) (fun y => br_t rfl (nm_r (nI_1 i) (ih () (hs (fun z => y z.2)))))
    refine br_f (nI_ge hi (by omega)) (ek_if cb_bIe (fun z => key ?_) (fun z => ?_))
    · unfold cb_kd
      rw [cb_nt z]
      rfl
    · have ekd : cb_kd kb F m S i = cb_io F S i m := by
        unfold cb_kd
        rw [Decidable.not_not.mp z]
        rfl
      refine ys_isIn hC hm hF eF hi (by omega) (fun y => br_f (by decide) (key (by rw [ekd]; exact y))) (fun y => br_t rfl ?_)
      exact nm_r (nI_1 i) (ih () (hs (fun z => y (by rw [← ekd]; exact z.1))))
end
/-- the reference's table behind round r -/
def cb_E (N : Nat → Nat) (r s : Nat) : Nat := if N s ≤ r then N s else 100
theorem cb_E_le {N : Nat → Nat} {r s : Nat} (h : N s ≤ 8) : cb_E N r s ≤ 100 := by
  unfold cb_E
  by_cases e : N s ≤ r
  · rw [if_pos e]; omega
  · rw [if_neg e]; omega
theorem cb_E_iff {N : Nat → Nat} {r q s : Nat} (hq : q ≤ r) (h9 : q < 100) : cb_E N r s ≤ q ↔ N s ≤ q := by
  unfold cb_E
  by_cases e : N s ≤ r
  · rw [if_pos e]
  · rw [if_neg e]; omega
end
section
/-! the reference: its rounds -/
section
variable {L C c m q : Nat} {k : Int32} {A : Nat → Nat → Nat} {F : Nat → Nat} {kb : Bool}
variable {yD yw : Int32} {yG yA yF yE yS yT : Nat → Int32}
theorem ys_122 {post : Int32 → SY → Prop} {J : Int32 → (Nat → Int32) → (Nat → Int32) → (Nat → Int32) → (Nat → Int32) → (Nat → Int32) → (Nat → Int32) → Prop} (hTY : cb_TY C A yT) (hL : L ≤ 4) (hC : C ≤ 81) (hm : m ≤ 8) (hA : ∀ g s, g < C → s < C → A g s ≤ 40) (hAA : ∀ g, g < C → A g g = 10 * L) (hF : ∀ k, k < m → F k < C) (eF : ∀ k, k < m → yF k = nI (F k))
    (hE : ∀ s, s < 2 ^ m → yE s = nI (cb_E (cb_N L C m (fun g k => A g (F k)) F kb) q s)) (hq : q < 9)
    (h : ∀ t : Nat → Int32, (∀ s, s < 2 ^ m → t s = nI (cb_E (cb_N L C m (fun g k => A g (F k)) F kb) (q + 1) s)) → J (nI (q + 1 + 1)) yG yA yF t yS yT) :
    ∃ n, wY_solve_122 post J (cb_bI kb) (nI (2 ^ m - 1)) (nI (q + 1)) (nI L) yD (nI C) k (nI m) n 1 yG yA yF yE yS yT := by
  have h256 := cb_p2 hm
  have hpos := Nat.two_pow_pos m
  have hF2 : ∀ k, k < m → F k < C ∧ (fun g k => A g (F k)) (F k) k = 10 * L := fun k hk => ⟨hF k hk, hAA (F k) (hF k hk)⟩
  have hN8 : ∀ s, s < 2 ^ m → (cb_N L C m (fun g k => A g (F k)) F kb) s ≤ 8 := fun s hs => cb_N_le hm hF2 hs
  refine pk_loop (fun n i t => wY_solve_122 post J (cb_bI kb) (nI (2 ^ m - 1)) (nI (q + 1)) (nI L) yD (nI C) k (nI m) n (nI i) yG yA yF t yS yT) (fun i t => 1 ≤ i ∧ ∀ s, s < 2 ^ m → t s = if s < i then nI (cb_E (cb_N L C m (fun g k => A g (F k)) F kb) (q + 1) s) else nI (cb_E (cb_N L C m (fun g k => A g (F k)) F kb) q s)) (2 ^ m) 1 yE (by omega) ⟨Nat.le_refl 1, ?_⟩ ?_ ?_
  · intro s hs
    by_cases e : s < 1
    · have e0 : s = 0 := by omega
      subst e0
      rw [if_pos e, hE 0 hs]
      rfl
    · rw [if_neg e]
      exact hE s hs
  · rintro n t ⟨_, ht⟩
    refine br_t (nI_lt (by omega) (by omega)) (nm_r (nI_1 (q + 1)) (h t (fun s hs => ?_)))
    rw [ht s hs, if_pos hs]
  · rintro n i t hi ⟨hi1, ht⟩ ih
    have hNi := hN8 i hi
    have ei : (nI i).toNatClampNeg = i := nI_clamp (by omega)
    have hti : t i = nI (cb_E (cb_N L C m (fun g k => A g (F k)) F kb) q i) := by rw [ht i hi, if_neg (Nat.lt_irrefl i)]
    have hEi := cb_E_le (r := q) hNi
    have e100 : t (nI i).toNatClampNeg = 100 ↔ ¬ (cb_N L C m (fun g k => A g (F k)) F kb) i ≤ q := by
      rw [ei, hti]
      have e : nI (cb_E (cb_N L C m (fun g k => A g (F k)) F kb) q i) = 100 ↔ cb_E (cb_N L C m (fun g k => A g (F k)) F kb) q i = 100 := nI_eq (b := 100) (by omega) (by omega)
      rw [e]
      unfold cb_E
      by_cases y : (cb_N L C m (fun g k => A g (F k)) F kb) i ≤ q
      · rw [if_pos y]; exact ⟨fun z => by omega, fun z => absurd y z⟩
      · rw [if_neg y]; exact ⟨fun _ => y, fun _ => rfl⟩
    have keep : cb_E (cb_N L C m (fun g k => A g (F k)) F kb) (q + 1) i = cb_E (cb_N L C m (fun g k => A g (F k)) F kb) q i → wY_solve_156 post J (wY_solve_122 post J (cb_bI kb) (nI (2 ^ m - 1)) (nI (q + 1)) (nI L) yD (nI C) k (nI m) n) (cb_bI kb) (nI (2 ^ m - 1)) (nI (q + 1)) (nI i) (nI L) yD (nI C) k (nI m) yG yA yF t yS yT := by
      intro e
      refine br_t rfl ⟨vp_in_nI (by omega) (by omega), vp_in_nI (by omega) (by omega), nm_e (nm_r (nI_1 i) (ih _ ⟨by omega, ?_⟩))⟩
      rw [ei]
      exact cb_up (f := fun s => nI (cb_E (cb_N L C m (fun g k => A g (F k)) F kb) (q + 1) s)) (h := fun s => nI (cb_E (cb_N L C m (fun g k => A g (F k)) F kb) q s)) ht (by rw [hti, e])
    refine br_f (nI_nlt (by omega) (by omega)) ⟨vp_in_nI (by omega) (by omega), ek_if e100 (fun y => ?_) (fun y => ?_)⟩
    · have hmix : ∀ s, s < 2 ^ m → ((if s < i then cb_E (cb_N L C m (fun g k => A g (F k)) F kb) (q + 1) s else cb_E (cb_N L C m (fun g k => A g (F k)) F kb) q s) ≤ q ↔ (cb_N L C m (fun g k => A g (F k)) F kb) s ≤ q) := by
        intro s hs
        by_cases e : s < i
        · rw [if_pos e]; exact cb_E_iff (by omega) (by omega)
        · rw [if_neg e]; exact cb_E_iff (by omega) (by omega)
      have hcd := cb_cd_iff (E := fun s => if s < i then cb_E (cb_N L C m (fun g k => A g (F k)) F kb) (q + 1) s else cb_E (cb_N L C m (fun g k => A g (F k)) F kb) q s) hi hi1 (by omega) (by omega) hmix
      refine ys_can (E := fun s => if s < i then cb_E (cb_N L C m (fun g k => A g (F k)) F kb) (q + 1) s else cb_E (cb_N L C m (fun g k => A g (F k)) F kb) q s) hTY hL hC hm hA hF eF hi ?_ ?_ (by omega) (fun z => br_f (by decide) ?_) (fun z => br_t rfl (keep ?_))
      · intro s hs
        rw [ht s hs]
        by_cases e : s < i
        · rw [if_pos e, if_pos e]
        · rw [if_neg e, if_neg e]
      · intro s hs
        have h8 := hN8 s hs
        show (if s < i then cb_E (cb_N L C m (fun g k => A g (F k)) F kb) (q + 1) s else cb_E (cb_N L C m (fun g k => A g (F k)) F kb) q s) ≤ 100
        by_cases e : s < i
        · rw [if_pos e]; exact cb_E_le h8
        · rw [if_neg e]; exact cb_E_le h8
      · have z2 := hcd.mp z
        refine br_f (by decide) ⟨vp_in_nI (by omega) (by omega), nm_e (nm_r (nI_1 i) (ih _ ⟨by omega, ?_⟩))⟩
        rw [ei]
        refine cb_up (f := fun s => nI (cb_E (cb_N L C m (fun g k => A g (F k)) F kb) (q + 1) s)) (h := fun s => nI (cb_E (cb_N L C m (fun g k => A g (F k)) F kb) q s)) ht ?_
        show nI (q + 1) = nI (cb_E (cb_N L C m (fun g k => A g (F k)) F kb) (q + 1) i)
        have e : cb_E (cb_N L C m (fun g k => A g (F k)) F kb) (q + 1) i = (cb_N L C m (fun g k => A g (F k)) F kb) i := if_pos z2
        rw [e]
        exact congrArg nI (by omega)
      · have z2 : ¬ (cb_N L C m (fun g k => A g (F k)) F kb) i ≤ q + 1 := fun w => z (hcd.mpr w)
        have e1 : cb_E (cb_N L C m (fun g k => A g (F k)) F kb) (q + 1) i = 100 := if_neg z2
        have e2 : cb_E (cb_N L C m (fun g k => A g (F k)) F kb) q i = 100 := if_neg y
        rw [e1, e2]
    · have y2 : (cb_N L C m (fun g k => A g (F k)) F kb) i ≤ q := Decidable.not_not.mp y
      refine keep ?_
      have e1 : cb_E (cb_N L C m (fun g k => A g (F k)) F kb) (q + 1) i = (cb_N L C m (fun g k => A g (F k)) F kb) i := if_pos (by omega)
      have e2 : cb_E (cb_N L C m (fun g k => A g (F k)) F kb) q i = (cb_N L C m (fun g k => A g (F k)) F kb) i := if_pos y2
      rw [e1, e2]
theorem ys_101 {post : Int32 → SY → Prop} (hTY : cb_TY C A yT) (hL : L ≤ 4) (hC : C ≤ 81) (hm : m ≤ 8) (hA : ∀ g s, g < C → s < C → A g s ≤ 40) (hAA : ∀ g, g < C → A g g = 10 * L) (hF : ∀ k, k < m → F k < C) (eF : ∀ k, k < m → yF k = nI (F k))
    (hE : ∀ s, s < 2 ^ m → yE s = nI (cb_E (cb_N L C m (fun g k => A g (F k)) F kb) 0 s))
    (h : ∀ t : Nat → Int32, (∀ s, s < 2 ^ m → t s = nI (cb_E (cb_N L C m (fun g k => A g (F k)) F kb) ((cb_N L C m (fun g k => A g (F k)) F kb) (2 ^ m - 1)) s)) → post (nI ((cb_N L C m (fun g k => A g (F k)) F kb) (2 ^ m - 1))) ((nI L), yD, (nI C), k, (nI m), yG, yA, yF, t, yS, yT)) :
    ∃ n, wY_solve_101 post (cb_bI kb) (nI (2 ^ m - 1)) (nI L) yD (nI C) k (nI m) n 1 yG yA yF yE yS yT := by
  have h256 := cb_p2 hm
  have hpos := Nat.two_pow_pos m
  have hF2 : ∀ k, k < m → F k < C ∧ (fun g k => A g (F k)) (F k) k = 10 * L := fun k hk => ⟨hF k hk, hAA (F k) (hF k hk)⟩
  have hNw : (cb_N L C m (fun g k => A g (F k)) F kb) (2 ^ m - 1) ≤ 8 := cb_N_le hm hF2 (by omega)
  have ew : (nI (2 ^ m - 1)).toNatClampNeg = 2 ^ m - 1 := nI_clamp (by omega)
  refine loop_0 (fun n i t => wY_solve_101 post (cb_bI kb) (nI (2 ^ m - 1)) (nI L) yD (nI C) k (nI m) n (nI (i + 1)) yG yA yF t yS yT) (fun i t => ∀ s, s < 2 ^ m → t s = nI (cb_E (cb_N L C m (fun g k => A g (F k)) F kb) i s)) ((cb_N L C m (fun g k => A g (F k)) F kb) (2 ^ m - 1)) yE hE ?_ ?_
  · intro n t ht
    have e1 : t (nI (2 ^ m - 1)).toNatClampNeg = nI ((cb_N L C m (fun g k => A g (F k)) F kb) (2 ^ m - 1)) := by
      rw [ew, ht _ (by omega)]
      exact congrArg nI (if_pos (Nat.le_refl _))
    have hne : ¬ t (nI (2 ^ m - 1)).toNatClampNeg = 100 := by
      rw [e1]
      intro z
      have := (nI_eq (b := 100) (by omega) (by omega)).mp z
      omega
    have h2 := h t ht
    rw [← e1] at h2
    exact br_f (nI_ge (b := 10) (by omega) (by omega)) ⟨vp_in_nI (by omega) (by omega), br_f hne ⟨vp_in_nI (by omega) (by omega), h2⟩⟩
  · intro n i t hi ht ih
    have e1 : t (nI (2 ^ m - 1)).toNatClampNeg = 100 := by
      rw [ew, ht _ (by omega)]
      exact congrArg nI (if_neg (by omega))
    exact br_f (nI_ge (b := 10) (by omega) (by omega)) ⟨vp_in_nI (by omega) (by omega), br_t e1 (ys_122 hTY hL hC hm hA hAA hF eF ht (by omega) (fun t' ht' => ih t' ht'))⟩
theorem ys_60 {post : Int32 → SY → Prop} (hTY : cb_TY C A yT) (hL : L ≤ 4) (hC : C ≤ 81) (hm : m ≤ 8) (hA : ∀ g s, g < C → s < C → A g s ≤ 40) (hAA : ∀ g, g < C → A g g = 10 * L) (hF : ∀ k, k < m → F k < C) (eF : ∀ k, k < m → yF k = nI (F k))
    (h : ∀ t : Nat → Int32, (∀ s, s < 2 ^ m → t s = nI (cb_E (cb_N L C m (fun g k => A g (F k)) F kb) ((cb_N L C m (fun g k => A g (F k)) F kb) (2 ^ m - 1)) s)) → post (nI ((cb_N L C m (fun g k => A g (F k)) F kb) (2 ^ m - 1))) ((nI L), yD, (nI C), k, (nI m), yG, yA, yF, t, yS, yT)) :
    ∃ n, wY_solve_60 post (cb_bI kb) (nI L) yD (nI C) k (nI m) n 0 yG yA yF yE yS yT := by
  have h256 := cb_p2 hm
  refine loop_0 (fun n i t => wY_solve_60 post (cb_bI kb) (nI L) yD (nI C) k (nI m) n (nI i) yG yA yF t yS yT) (fun i t => ∀ s, s < 256 → t s = if s < i then (if s = 0 then 0 else 100) else yE s) 256 yE (fun s _ => (if_neg (Nat.not_lt_zero s)).symm) ?_ ?_
  · intro n t ht
    refine br_t (nI_le (a := 256) (b := 256) (by omega) (by omega)) (nm_r (cb_1s1 hm) (ys_101 hTY hL hC hm hA hAA hF eF (fun s hs => ?_) h))
    rw [ht s (by omega), if_pos (by omega)]
    by_cases e : s = 0
    · subst e
      rfl
    · rw [if_neg e]
      have h1 : 0 < (cb_N L C m (fun g k => A g (F k)) F kb) s := cb_N_pos (by omega)
      have e2 : cb_E (cb_N L C m (fun g k => A g (F k)) F kb) 0 s = 100 := if_neg (by omega)
      rw [e2]
      rfl
  · intro n i t hi ht ih
    have ei : (nI i).toNatClampNeg = i := nI_clamp (by omega)
    refine br_f (nI_ge (b := 256) hi (by omega)) (ek_if (nI_eq (a := i) (b := 0) (by omega) (by omega)) (fun z => ⟨vp_in_nI hi (by omega), nm_e (nm_r (nI_1 i) (ih _ ?_))⟩) (fun z => ⟨vp_in_nI hi (by omega), nm_e (nm_r (nI_1 i) (ih _ ?_))⟩))
    · rw [ei]
      exact cb_up (f := fun s => if s = 0 then 0 else 100) ht (if_pos z).symm
    · rw [ei]
      exact cb_up (f := fun s => if s = 0 then 0 else 100) ht (if_neg z).symm
end
section
variable {L C c : Nat} {A : Nat → Nat → Nat} {G R : Nat → Nat} {kb : Bool}
variable {yD yw : Int32} {yG yA yF yE yS yT : Nat → Int32}
theorem ys_solve {post : Int32 → SY → Prop} {p : Int32} (hp : p = cb_bI kb) (hTY : cb_TY C A yT) (hI : cb_I L C c A G R) (hG : cb_GR c G R yG yA)
    (h : cb_M A G R c C ≤ 8 → ∀ f t : Nat → Int32, (∀ k, k < cb_M A G R c C → f k = nI (cb_F A G R c C k)) → (∀ s, s < 2 ^ cb_M A G R c C → t s = nI (cb_E (cb_Q L C c A G R kb) (cb_Q L C c A G R kb (2 ^ cb_M A G R c C - 1)) s)) →
      post (nI (cb_Q L C c A G R kb (2 ^ cb_M A G R c C - 1))) ((nI L), yD, (nI C), (nI c), (nI (cb_M A G R c C)), yG, yA, f, t, yS, yT))
    (hb : ¬ cb_M A G R c C ≤ 8 → post (-4) ((nI L), yD, (nI C), (nI c), (nI (cb_M A G R c C)), yG, yA, yF, yE, yS, yT)) : wpY_solve post ((nI L), yD, (nI C), (nI c), yw, yG, yA, yF, yE, yS, yT) p := by
  subst hp
  have hL4 : L ≤ 4 := hI.1.2.1
  have hC : C ≤ 81 := hI.1.2.2.2.1
  have hle : cb_M A G R c C ≤ C := cb_cn_le _ C
  unfold wpY_solve
  refine yc_cp hTY hI hG ?_
  refine ek_if (nI_leI (a := cb_M A G R c C) (b := 8) (by omega) (by omega)) (fun hm => ?_) hb
  refine loop_0 (fun n i (t : Int32 × (Nat → Int32)) => wY_solve_25 post (cb_bI kb) (nI L) yD (nI C) (nI c) (nI (cb_M A G R c C)) n t.1 (nI i) yG yA (t.2) yE yS yT) (fun i t => t.1 = nI (cb_cn (cb_ok A G R c) i) ∧ ∀ k, k < cb_cn (cb_ok A G R c) i → t.2 k = nI (cb_F A G R c C k)) C (0, yF) ⟨rfl, fun k hk => absurd hk (Nat.not_lt_zero k)⟩ ?_ ?_
  · rintro n ⟨a, b⟩ ⟨ha, hb⟩
    exact br_t (nI_le (Nat.le_refl C) (by omega)) (ys_60 hTY hL4 hC hm hI.2.1 hI.2.2.1 (fun k hk => cb_F_lt hk) hb (fun t ht => h hm b t hb ht))
  · rintro n i ⟨a, b⟩ hi ⟨ha, hb⟩ ih
    have ha2 : a = nI (cb_cn (cb_ok A G R c) i) := ha
    subst ha2
    refine br_f (nI_ge hi (by omega)) (ya_ok hTY hI hG hi (fun l => br_f (by decide) ?_) (fun l => br_t rfl ?_))
    · have hmo := cb_cn_mono (p := (cb_ok A G R c)) (a := i + 1) (b := C) (by omega)
      rw [cb_cn_t l] at hmo
      have hmo2 : cb_cn (cb_ok A G R c) i + 1 ≤ cb_M A G R c C := hmo
      refine ⟨vp_in_nI (by omega) (by omega), nm_e (nm_r (nI_1 _) (nm_r (nI_1 i) (ih (nI (cb_cn (cb_ok A G R c) i + 1), upd b (nI (cb_cn (cb_ok A G R c) i)).toNatClampNeg (nI i)) ⟨?_, ?_⟩)))⟩
      · exact congrArg nI (cb_cn_t l).symm
      · rw [nI_clamp (by omega), cb_cn_t l]
        intro k hk
        show upd b (cb_cn (cb_ok A G R c) i) (nI i) k = nI (cb_F A G R c C k)
        by_cases e : k = cb_cn (cb_ok A G R c) i
        · rw [e, pk_us]
          exact congrArg nI (cb_kt_eq hi l rfl).symm
        · rw [pk_un e]
          exact hb k (by omega)
    · refine nm_r (nI_1 i) (ih (nI (cb_cn (cb_ok A G R c) i), b) ⟨?_, ?_⟩)
      · exact congrArg nI (cb_cn_f l).symm
      · rw [cb_cn_f l]
        exact hb
/-- the reference's first guess -/
theorem yf_24 {m g0 q : Nat} {F E : Nat → Nat} {post : Int32 → SY → Prop} (hTY : cb_TY C A yT) (hL : L ≤ 4) (hC : C ≤ 81) (hm : m ≤ 8) (hA : ∀ g s, g < C → s < C → A g s ≤ 40) (hF : ∀ k, k < m → F k < C) (eF : ∀ k, k < m → yF k = nI (F k))
    (hE : ∀ s, s < 2 ^ m → yE s = nI (E s)) (hE2 : ∀ s, s < 2 ^ m → E s ≤ 100) (hq : q ≤ 90) (hg0 : g0 < C)
    (h0 : cb_lv L E (fun k => A g0 (F k)) (2 ^ m - 1) m q) (h1 : ∀ g, g < g0 → ¬ cb_lv L E (fun k => A g (F k)) (2 ^ m - 1) m q)
    (h : post (nI g0) ((nI L), yD, (nI C), (nI c), (nI m), yG, yA, yF, yE, yS, yT)) : ∃ n, wY_first_24 post (nI (q + 1)) (nI L) yD (nI C) (nI c) (nI m) yG yA yF yE yS yT n 0 := by
  have hpos := Nat.two_pow_pos m
  have eq1 : nI (q + 1) - 1 = nI q := nI_pred q
  have e1 : ((1 : Int32) <<< (nI m &&& 31)) - 1 = nI (2 ^ m - 1) := cb_1s1 hm
  refine loop_0 (fun n i (_ : Unit) => wY_first_24 post (nI (q + 1)) (nI L) yD (nI C) (nI c) (nI m) yG yA yF yE yS yT n (nI i)) (fun _ _ => True) g0 () trivial ?_ ?_
  · intro n _ _
    show wY_first_24 post (nI (q + 1)) (nI L) yD (nI C) (nI c) (nI m) yG yA yF yE yS yT (n + 1) (nI g0)
    rw [wY_first_24, eq1, e1]
    exact ys_leaves hTY hL hC hm hA hF eF hg0 (by omega) hE hE2 (by omega) (fun _ => br_f (by decide) h) (fun z => absurd h0 z)
  · intro n i _ hi _ ih
    show wY_first_24 post (nI (q + 1)) (nI L) yD (nI C) (nI c) (nI m) yG yA yF yE yS yT (n + 1) (nI i)
    rw [wY_first_24, eq1, e1]
    exact ys_leaves hTY hL hC hm hA hF eF (by omega) (by omega) hE hE2 (by omega) (fun z => absurd z (h1 i hi)) (fun _ => br_t rfl (nm_r (nI_1 i) (ih () trivial)))
end
end
section
/-! the reference's constructor -/
section
variable {L D C : Nat} {k z : Int32}
variable {yD yw : Int32} {yG yA yF yE yS yT : Nat → Int32}
theorem yd_digit {post : Int32 → Prop} {x i : Nat} (hD1 : 1 ≤ D) (hD3 : D ≤ 3) (hx : x < 81) (hi : i ≤ 4) (h : post (nI (cb_dg D x i))) : wpY_digitOf post ((nI L), (nI D), z, k, yw, yG, yA, yF, yE, yS, yT) (nI x) (nI i) := by
  have hD0 : ¬ nI D = 0 := nI_ne0 (by omega) (by omega)
  have ex : nI x = nI (x / D ^ 0) := by rw [Nat.pow_zero, Nat.div_one]
  refine loop_0 (fun n j t => wY_digitOf_5 post (nI i) (nI L) (nI D) z k yw yG yA yF yE yS yT n t (nI j)) (fun j t => t = nI (x / D ^ j)) i (nI x) ex ?_ ?_
  · intro n t ht
    subst ht
    have hle : x / D ^ i ≤ x := Nat.div_le_self _ _
    refine br_t (nI_le (Nat.le_refl i) (by omega)) ⟨hD0, ?_⟩
    rw [pk_rem (by omega) (by omega) (by omega)]
    exact h
  · intro n j t hj ht ih
    subst ht
    have hle : x / D ^ j ≤ x := Nat.div_le_self _ _
    refine br_f (nI_ge hj (by omega)) ⟨hD0, nm_r (e' := nI (x / D ^ (j + 1))) ?_ (nm_r (nI_1 j) (ih _ rfl))⟩
    rw [pk_div (by omega) (by omega) (by omega), Nat.div_div_eq_div_mul, Nat.pow_succ]
theorem yd_times {post : Int32 → Prop} {x d : Nat} (hL : L ≤ 4) (hD1 : 1 ≤ D) (hD3 : D ≤ 3) (hx : x < 81) (hd : d < 3) (h : post (nI (cb_tm D x d L))) : wpY_times post ((nI L), (nI D), z, k, yw, yG, yA, yF, yE, yS, yT) (nI x) (nI d) := by
  refine loop_0 (fun n j t => wY_times_5 post (nI x) (nI d) (nI L) (nI D) z k yw yG yA yF yE yS yT n t (nI j)) (fun j t => t = nI (cb_tm D x d j)) L 0 rfl ?_ ?_
  · intro n t ht
    subst ht
    exact br_t (nI_le (Nat.le_refl L) (by omega)) h
  · intro n j t hj ht ih
    subst ht
    have hdg := cb_dg_lt (D := D) (x := x) (i := j) (by omega)
    refine br_f (nI_ge hj (by omega)) (yd_digit hD1 hD3 hx (by omega) (ek_if (nI_eq (by omega) (by omega)) (fun l => ?_) (fun l => ?_)))
    · refine nm_r (nI_1 _) (nm_r (nI_1 j) (ih _ ?_))
      rw [cb_tm_s, if_pos l.symm]
    · refine nm_r (nI_1 j) (ih _ ?_)
      rw [cb_tm_s, if_neg (fun y => l y.symm)]
      rfl
theorem yd_51 {post : Int32 → Prop} {g s : Nat} (sm : Nat) (hL : L ≤ 4) (hD1 : 1 ≤ D) (hD3 : D ≤ 3) (hg : g < 81) (hs : s < 81) (h : post (((10 * nI sm) + nI (cb_mn D L g s D)) - nI sm)) :
    ∃ n, wY_compare_51 post (nI g) (nI s) (nI sm) (nI L) (nI D) z k yw yG yA yF yE yS yT n 0 0 := by
  refine loop_0 (fun n i t => wY_compare_51 post (nI g) (nI s) (nI sm) (nI L) (nI D) z k yw yG yA yF yE yS yT n t (nI i)) (fun i t => t = nI (cb_mn D L g s i)) D 0 rfl ?_ ?_
  · intro n t ht
    subst ht
    exact br_t (nI_le (Nat.le_refl D) (by omega)) h
  · intro n i t hi ht ih
    subst ht
    have b1 := cb_tm_le D g i L
    have b2 := cb_tm_le D s i L
    refine br_f (nI_ge hi (by omega)) (yd_times hL hD1 hD3 hg (by omega) (yd_times hL hD1 hD3 hs (by omega) ?_))
    refine ek_if (nI_leI (a := cb_tm D s i L) (b := cb_tm D g i L) (by omega) (by omega)) (fun l => ?_) (fun l => ?_)
    · refine nm_r (e' := nI (cb_mn D L g s (i + 1))) ?_ (nm_r (nI_1 i) (ih _ rfl))
      rw [nI_add]
      exact congrArg nI (by rw [cb_mn, if_pos l])
    · refine nm_r (e' := nI (cb_mn D L g s (i + 1))) ?_ (nm_r (nI_1 i) (ih _ rfl))
      rw [nI_add]
      exact congrArg nI (by rw [cb_mn, if_neg l])
theorem yd_compare {post : Int32 → Prop} {g s : Nat} (hL : L ≤ 4) (hD1 : 1 ≤ D) (hD3 : D ≤ 3) (hg : g < 81) (hs : s < 81) (h : post (nI (cb_an L D g s))) : wpY_compare post ((nI L), (nI D), z, k, yw, yG, yA, yF, yE, yS, yT) (nI g) (nI s) := by
  have hb := cb_sa_le D g s L
  refine loop_0 (fun n i t => wY_compare_5 post (nI g) (nI s) (nI L) (nI D) z k yw yG yA yF yE yS yT n t (nI i)) (fun i t => t = nI (cb_sa D g s i)) L 0 rfl ?_ ?_
  · intro n t ht
    subst ht
    refine br_t (nI_le (Nat.le_refl L) (by omega)) (yd_51 _ hL hD1 hD3 hg hs ?_)
    have e : ((10 : Int32) * nI (cb_sa D g s L) + nI (cb_mn D L g s D)) - nI (cb_sa D g s L) = nI (cb_an L D g s) := by
      have e1 : (10 : Int32) * nI (cb_sa D g s L) + nI (cb_mn D L g s D) = nI (10 * cb_sa D g s L + cb_mn D L g s D) := cb_ix 10 _ _
      rw [e1, pk_sub (by omega)]
      rfl
    rw [e]
    exact h
  · intro n i t hi ht ih
    subst ht
    have b1 := cb_dg_lt (D := D) (x := g) (i := i) (by omega)
    have b2 := cb_dg_lt (D := D) (x := s) (i := i) (by omega)
    refine br_f (nI_ge hi (by omega)) (yd_digit hD1 hD3 hg (by omega) (yd_digit hD1 hD3 hs (by omega) (ek_if (nI_eq (by omega) (by omega)) (fun l => ?_) (fun l => ?_))))
    · refine nm_r (nI_1 _) (nm_r (nI_1 i) (ih _ ?_))
      exact congrArg nI (cb_cn_t (p := fun i => decide (cb_dg D g i = cb_dg D s i)) (decide_eq_true l)).symm
    · refine nm_r (nI_1 i) (ih _ ?_)
      exact congrArg nI (cb_cn_f (p := fun i => decide (cb_dg D g i = cb_dg D s i)) (fun y => l (of_decide_eq_true y))).symm
theorem yi_135 {post : SY → Prop} (hL1 : 1 ≤ L) (hL : L ≤ 4) (hD1 : 1 ≤ D) (hD3 : D ≤ 3) (hC : C = D ^ L)
    (h : ∀ t : Nat → Int32, cb_TY C (cb_an L D) t → post ((nI L), (nI D), (nI C), k, yw, yG, yA, yF, yE, yS, t)) : ∃ n, wY_init_135 post (nI L) (nI D) (nI C) k yw n 0 yG yA yF yE yS yT := by
  have hC81 := cb_C81 hL1 hL hD1 hD3
  rw [← hC] at hC81
  have hCC : C * C ≤ 81 * 81 := Nat.mul_le_mul hC81.2 hC81.2
  have hC0 : ¬ nI C = 0 := nI_ne0 (by omega) (by omega)
  refine loop_0 (fun n i t => wY_init_135 post (nI L) (nI D) (nI C) k yw n (nI i) yG yA yF yE yS t) (fun i t => ∀ g s, g < C → s < C → g * C + s < i → t (81 * g + s) = nI (cb_an L D g s)) (C * C) yT (fun g s _ _ z => absurd z (Nat.not_lt_zero _)) ?_ ?_
  · intro n t ht
    have e : nI C * nI C ≤ nI (C * C) := by
      rw [pk_mul]; exact nI_le (Nat.le_refl _) (by omega)
    refine br_t e (h t (fun g s hg hs => ht g s hg hs ?_))
    have h1 : (g + 1) * C ≤ C * C := Nat.mul_le_mul_right C hg
    rw [Nat.add_mul, Nat.one_mul] at h1
    omega
  · intro n i t hi ht ih
    have e : ¬ nI C * nI C ≤ nI i := by
      rw [pk_mul]; exact nI_ge hi (by omega)
    have e1 : nI i / nI C = nI (i / C) := pk_div (by omega) (by omega) (by omega)
    have e2 : nI i - nI i / nI C * nI C = nI (i % C) := pk_rem (by omega) (by omega) (by omega)
    have h1 : i / C < C := Nat.div_lt_of_lt_mul hi
    have h2 : i % C < C := Nat.mod_lt _ (by omega)
    have h3 := Nat.div_add_mod' i C
    have e3 : nI (i / C) * 81 + nI (i % C) = nI (i / C * 81 + i % C) := by
      have e4 : nI (i / C) * 81 = nI (i / C * 81) := pk_mul (i / C) 81
      rw [e4, nI_add]
    have e5 : (nI (i / C) * 81 + nI (i % C)).toNatClampNeg = i / C * 81 + i % C := pk_cl _ e3
    refine br_f e ⟨hC0, hC0, hC0, hC0, ?_⟩
    rw [e2, e1]
    refine yd_compare hL hD1 hD3 (by omega) (by omega) ⟨pk_in (i / C * 81 + i % C) 6561 (by omega) e3, nm_e (nm_r (nI_1 i) (ih _ ?_))⟩
    rw [e5]
    intro g s hg hs hlt
    by_cases q : 81 * g + s = i / C * 81 + i % C
    · have q1 : g = i / C := by omega
      have q2 : s = i % C := by omega
      rw [q, pk_us, q1, q2]
    · rw [pk_un q]
      refine ht g s hg hs ?_
      have q3 : ¬ g * C + s = i := by
        intro y
        have y1 : i / C = g := by
          rw [← y, Nat.add_comm, Nat.add_mul_div_right _ _ (by omega), Nat.div_eq_of_lt hs, Nat.zero_add]
        have y2 : i % C = s := by
          rw [← y, Nat.add_comm, Nat.add_mul_mod_self_right, Nat.mod_eq_of_lt hs]
        exact q (by rw [y1, y2, Nat.mul_comm])
      omega
theorem yi_105 {post : SY → Prop} (hL1 : 1 ≤ L) (hL : L ≤ 4) (hD1 : 1 ≤ D) (hD3 : D ≤ 3) (hC : C = D ^ L)
    (h : ∀ t : Nat → Int32, cb_TY C (cb_an L D) t → post ((nI L), (nI D), (nI C), k, yw, yG, yA, yF, yE, yS, t)) : ∃ n, wY_init_105 post (nI L) (nI D) z k yw yG yA yF yE yS yT n 1 0 := by
  refine loop_0 (fun n i t => wY_init_105 post (nI L) (nI D) z k yw yG yA yF yE yS yT n t (nI i)) (fun i t => t = nI (D ^ i)) L 1 rfl ?_ ?_
  · intro n t ht
    subst ht
    rw [← hC]
    exact br_t (nI_le (Nat.le_refl L) (by omega)) (yi_135 hL1 hL hD1 hD3 hC h)
  · intro n i t hi ht ih
    subst ht
    refine br_f (nI_ge hi (by omega)) (nm_r (e' := nI (D ^ (i + 1))) ?_ (nm_r (nI_1 i) (ih _ rfl)))
    rw [pk_mul, Nat.pow_succ]
end
end
section
/-! the relation -/
def cb_RX (L C c : Nat) (A : Nat → Nat → Nat) (G R : Nat → Nat) (u : SX) : Prop := match u with
  | (fL, fD, fC, fk, _, _, _, _, aD, aT, aG, aA, aN, _, _, _, _, _) => fL = nI L ∧ fC = nI C ∧ fk = nI c ∧ cb_T L C A fD aD aT ∧ cb_GR c G R aG aA ∧ cb_NX C c A G R aN
def cb_RY (L C c : Nat) (A : Nat → Nat → Nat) (G R : Nat → Nat) (v : SY) : Prop := match v with
  | (yL, _, yC, yk, _, yG, yA, _, _, _, yT) => yL = nI L ∧ yC = nI C ∧ yk = nI c ∧ cb_TY C A yT ∧ cb_GR c G R yG yA
/-- the relation at the head of a turn: the same numbers, answers, recorded guesses; against counts what disagrees -/
def i_Rel (k : Nat) (u : SX) (v : SY) : Prop := ∃ (L C c : Nat) (A : Nat → Nat → Nat) (G R : Nat → Nat), cb_I L C c A G R ∧ cb_RX L C c A G R u ∧ cb_RY L C c A G R v
theorem i_up {k : Nat} {u : SX} {v : SY} (h : i_Rel k u v) : i_Rel (k + 4) u v := h
theorem cb_el {k : Nat} {u : SX} {v : SY} {P : SX → SY → Prop} (h : ∀ (L C c : Nat) (A : Nat → Nat → Nat) (G R : Nat → Nat) (fD fp fg fs fw : Int32) (aD aT aG aA aN aP aF aW aE aS : Nat → Int32) (yD yw : Int32) (yG yA yF yE yS yT : Nat → Int32), cb_I L C c A G R → cb_T L C A fD aD aT → cb_GR c G R aG aA → cb_NX C c A G R aN → cb_TY C A yT → cb_GR c G R yG yA → P ((nI L), fD, (nI C), (nI c), fp, fg, fs, fw, aD, aT, aG, aA, aN, aP, aF, aW, aE, aS) ((nI L), yD, (nI C), (nI c), yw, yG, yA, yF, yE, yS, yT)) (I : i_Rel k u v) : P u v := by
  obtain ⟨L, C, c, A, G, R, hI, hX, hY⟩ := I
  obtain ⟨fL, fD, fC, fk, fp, fg, fs, fw, aD, aT, aG, aA, aN, aP, aF, aW, aE, aS⟩ := u
  obtain ⟨yL, yD, yC, yk, yw, yG, yA, yF, yE, yS, yT⟩ := v
  obtain ⟨e1, e2, e3, hT, hG, hN⟩ := hX
  obtain ⟨e4, e5, e6, hTY, hGY⟩ := hY
  subst e1 e2 e3 e4 e5 e6
  exact h L C c A G R fD fp fg fs fw aD aT aG aA aN aP aF aW aE aS yD yw yG yA yF yE yS yT hI hT hG hN hTY hGY
section
variable {L C c : Nat} {A : Nat → Nat → Nat} {G R : Nat → Nat}
variable {fD fp fg fs fw : Int32} {aD aT aG aA aN aP aF aW aE aS : Nat → Int32}
variable {yD yw : Int32} {yG yA yF yE yS yT : Nat → Int32}
theorem cb_mk {k : Nat} (hI : cb_I L C c A G R) (hT : cb_T L C A fD aD aT) (hG : cb_GR c G R aG aA) (hN : cb_NX C c A G R aN) (hTY : cb_TY C A yT) (hGY : cb_GR c G R yG yA) : i_Rel k ((nI L), fD, (nI C), (nI c), fp, fg, fs, fw, aD, aT, aG, aA, aN, aP, aF, aW, aE, aS) ((nI L), yD, (nI C), (nI c), yw, yG, yA, yF, yE, yS, yT) :=
  ⟨L, C, c, A, G, R, hI, ⟨rfl, rfl, rfl, hT, hG, hN⟩, ⟨rfl, rfl, rfl, hTY, hGY⟩⟩
end
/-! one more guess, one guess less -/
def cb_pl (G : Nat → Nat) (c g : Nat) : Nat → Nat := fun i => if i = c then g else G i
theorem cb_pl_n {G : Nat → Nat} {c g i : Nat} (h : ¬ i = c) : cb_pl G c g i = G i := if_neg h
theorem cb_pl_c {G : Nat → Nat} {c g : Nat} : cb_pl G c g c = g := if_pos rfl
theorem cb_pl_cn {A : Nat → Nat → Nat} {G R : Nat → Nat} {c g r x : Nat} : cb_cn (cb_ds A (cb_pl G c g) (cb_pl R c r) x) c = cb_cn (cb_ds A G R x) c :=
  cb_cn_congr (fun i hi => by unfold cb_ds; rw [cb_pl_n (by omega), cb_pl_n (by omega)])
theorem cb_pl_I {L C c : Nat} {A : Nat → Nat → Nat} {G R : Nat → Nat} {g r : Nat} (hI : cb_I L C c A G R) (hc : c < 8) (hg : g < C) (hr : r ≤ 44) : cb_I L C (c + 1) A (cb_pl G c g) (cb_pl R c r) := by
  obtain ⟨⟨h1, h2, h3, h4, h5⟩, h6, h7, h8⟩ := hI
  refine ⟨⟨h1, h2, h3, h4, by omega⟩, h6, h7, fun i hi => ?_⟩
  by_cases e : i = c
  · subst e; rw [cb_pl_c, cb_pl_c]; exact ⟨hg, hr⟩
  · rw [cb_pl_n e, cb_pl_n e]; exact h8 i (by omega)
theorem cb_pl_GR {c : Nat} {G R : Nat → Nat} {g r : Nat} {aG aA : Nat → Int32} (h : cb_GR c G R aG aA) : cb_GR (c + 1) (cb_pl G c g) (cb_pl R c r) (upd aG c (nI g)) (upd aA c (nI r)) := by
  intro i hi
  by_cases e : i = c
  · subst e; rw [cb_pl_c, cb_pl_c, pk_us, pk_us]; exact ⟨rfl, rfl⟩
  · rw [cb_pl_n e, cb_pl_n e, pk_un e, pk_un e]; exact h i (by omega)
theorem cb_pl_NX {C c : Nat} {A : Nat → Nat → Nat} {G R : Nat → Nat} {g r : Nat} {aN t : Nat → Int32} (h : cb_NX C c A G R aN) (ht : ∀ x, x < C → t x = if A g x = r then aN x else aN x + 1) : cb_NX C (c + 1) A (cb_pl G c g) (cb_pl R c r) t := by
  intro x hx
  rw [ht x hx, h x hx]
  by_cases e : A g x = r
  · rw [if_pos e, cb_cn_f (by unfold cb_ds; rw [cb_pl_c, cb_pl_c]; simp [e]), cb_pl_cn]
  · rw [if_neg e, cb_cn_t (by unfold cb_ds; rw [cb_pl_c, cb_pl_c]; simp [e]), cb_pl_cn, nI_1]
theorem cb_mi_I {L C c : Nat} {A : Nat → Nat → Nat} {G R : Nat → Nat} (hI : cb_I L C (c + 1) A G R) : cb_I L C c A G R := by
  obtain ⟨⟨h1, h2, h3, h4, h5⟩, h6, h7, h8⟩ := hI
  exact ⟨⟨h1, h2, h3, h4, by omega⟩, h6, h7, fun i hi => h8 i (by omega)⟩
theorem cb_mi_GR {c : Nat} {G R : Nat → Nat} {aG aA : Nat → Int32} (h : cb_GR (c + 1) G R aG aA) : cb_GR c G R aG aA := fun i hi => h i (by omega)
theorem cb_mi_NX {C c : Nat} {A : Nat → Nat → Nat} {G R : Nat → Nat} {aN t : Nat → Int32} (h : cb_NX C (c + 1) A G R aN) (ht : ∀ x, x < C → t x = if A (G c) x = R c then aN x else aN x + (-1)) : cb_NX C c A G R t := by
  intro x hx
  rw [ht x hx, h x hx]
  by_cases e : A (G c) x = R c
  · rw [if_pos e, cb_cn_f (by unfold cb_ds; simp [e])]
  · rw [if_neg e, cb_cn_t (by unfold cb_ds; simp [e]), pk_m1]
/-! the first guess, for both -/
theorem cb_first {L C c : Nat} {A : Nat → Nat → Nat} {G R : Nat → Nat} (hI : cb_I L C c A G R) (hM : cb_M A G R c C ≤ 8) {q : Nat} (hq : cb_Q L C c A G R false (2 ^ cb_M A G R c C - 1) = q + 1) :
    ∃ g0, g0 < C ∧ cb_nw L (cb_Q L C c A G R false) (fun k => A g0 (cb_F A G R c C k)) (2 ^ cb_M A G R c C - 1) (cb_M A G R c C) = q + 1 ∧
      (∀ g, g < g0 → ¬ cb_nw L (cb_Q L C c A G R false) (fun k => A g (cb_F A G R c C k)) (2 ^ cb_M A G R c C - 1) (cb_M A G R c C) = q + 1) ∧
      cb_lv L (cb_E (cb_Q L C c A G R false) (q + 1)) (fun k => A g0 (cb_F A G R c C k)) (2 ^ cb_M A G R c C - 1) (cb_M A G R c C) q ∧
      (∀ g, g < g0 → ¬ cb_lv L (cb_E (cb_Q L C c A G R false) (q + 1)) (fun k => A g (cb_F A G R c C k)) (2 ^ cb_M A G R c C - 1) (cb_M A G R c C) q) := by
  have hpos := Nat.two_pow_pos (cb_M A G R c C)
  have hS : 2 ^ cb_M A G R c C - 1 < 2 ^ cb_M A G R c C := by omega
  have h8 := cb_Q_le (kb := false) hI hM hS
  have hS0 : 0 < 2 ^ cb_M A G R c C - 1 := by
    rcases Nat.eq_zero_or_pos (2 ^ cb_M A G R c C - 1) with e | e
    · rw [e] at hq
      have e2 : cb_Q L C c A G R false 0 = 0 := rfl
      omega
    · exact e
  have hsp := cb_ls_sp (fun g => cb_nw L (cb_Q L C c A G R false) (fun k => A g (cb_F A G R c C k)) (2 ^ cb_M A G R c C - 1) (cb_M A G R c C)) (cb_kd false (cb_F A G R c C) (cb_M A G R c C) (2 ^ cb_M A G R c C - 1)) C
  have hNs : cb_Q L C c A G R false (2 ^ cb_M A G R c C - 1) = cb_ls (fun g => cb_nw L (cb_Q L C c A G R false) (fun k => A g (cb_F A G R c C k)) (2 ^ cb_M A G R c C - 1) (cb_M A G R c C)) (cb_kd false (cb_F A G R c C) (cb_M A G R c C) (2 ^ cb_M A G R c C - 1)) C := cb_N_s hS0
  rw [← hNs, hq] at hsp
  obtain ⟨_, hle, hex⟩ := hsp
  have hex2 : ∃ g, g < C ∧ cb_nw L (cb_Q L C c A G R false) (fun k => A g (cb_F A G R c C k)) (2 ^ cb_M A G R c C - 1) (cb_M A G R c C) = q + 1 := by
    rcases hex with e | ⟨g, hg, _, e⟩
    · omega
    · exact ⟨g, hg, e.symm⟩
  obtain ⟨g0, ⟨hg0, e0⟩, hlt⟩ := pk_least _ hex2
  have hlv : ∀ g, g < C → (cb_lv L (cb_E (cb_Q L C c A G R false) (q + 1)) (fun k => A g (cb_F A G R c C k)) (2 ^ cb_M A G R c C - 1) (cb_M A G R c C) q ↔ cb_nw L (cb_Q L C c A G R false) (fun k => A g (cb_F A G R c C k)) (2 ^ cb_M A G R c C - 1) (cb_M A G R c C) ≤ q + 1) :=
    fun g _ => cb_lv_nw hS (by omega) (by omega) (fun s _ => cb_E_iff (by omega) (by omega))
  refine ⟨g0, hg0, e0, fun g hg z => hlt g hg ⟨by omega, z⟩, (hlv g0 hg0).mpr (by omega), fun g hg z => ?_⟩
  have z1 := (hlv g (by omega)).mp z
  have z2 := hle g (by omega) rfl
  have z3 : cb_nw L (cb_Q L C c A G R false) (fun k => A g (cb_F A G R c C k)) (2 ^ cb_M A G R c C - 1) (cb_M A G R c C) = q + 1 := Nat.le_antisymm z1 z2
  exact hlt g hg ⟨by omega, z3⟩
end
section
/-! what is owed -/
theorem i_vc_codes {k : Nat} {u : SX} {v : SY} (I : i_Rel k u v) (hk : k + 4 ≤ 2050) : wpX_codes (fun r => wpY_codes (fun r' => r' = r ∧ i_Rel (k + 4) u v) v) u := by
  refine cb_el (P := fun u v => wpX_codes (fun r => wpY_codes (fun r' => r' = r ∧ i_Rel (k + 4) u v) v) u) ?_ I
  intro L C c A G R fD fp fg fs fw aD aT aG aA aN aP aF aW aE aS yD yw yG yA yF yE yS yT hI hT hG hN hTY hGY
  exact And.intro rfl (cb_mk hI hT hG hN hTY hGY)
theorem i_vc_told {k : Nat} {u : SX} {v : SY} (I : i_Rel k u v) (hk : k + 4 ≤ 2050) : wpX_told (fun r => wpY_told (fun r' => r' = r ∧ i_Rel (k + 4) u v) v) u := by
  refine cb_el (P := fun u v => wpX_told (fun r => wpY_told (fun r' => r' = r ∧ i_Rel (k + 4) u v) v) u) ?_ I
  intro L C c A G R fD fp fg fs fw aD aT aG aA aN aP aF aW aE aS yD yw yG yA yF yE yS yT hI hT hG hN hTY hGY
  exact And.intro rfl (cb_mk hI hT hG hN hTY hGY)
theorem i_vc_possible {k : Nat} {u : SX} {v : SY} (I : i_Rel k u v) (hk : k + 4 ≤ 2050) : wpX_possible (fun r => wpY_possible (fun r' => r' = r ∧ i_Rel (k + 4) u v) v) u := by
  refine cb_el (P := fun u v => wpX_possible (fun r => wpY_possible (fun r' => r' = r ∧ i_Rel (k + 4) u v) v) u) ?_ I
  intro L C c A G R fD fp fg fs fw aD aT aG aA aN aP aF aW aE aS yD yw yG yA yF yE yS yT hI hT hG hN hTY hGY
  unfold wpX_possible
  refine xc_cp hN hI.1.2.2.2.2 hI.1.2.2.2.1 ?_
  unfold wpY_possible
  refine yc_cp hTY hI hGY ?_
  exact ⟨rfl, cb_mk hI hT hG hN hTY hGY⟩
theorem i_vc_answer {k : Nat} {u : SX} {v : SY} (I : i_Rel k u v) (hk : k + 4 ≤ 2050) (v1 : Int32) (v2 : Int32) : wpX_answer (fun r => wpY_answer (fun r' => r' = r ∧ i_Rel (k + 4) u v) v v1 v2) u v1 v2 := by
  refine cb_el (P := fun u v => wpX_answer (fun r => wpY_answer (fun r' => r' = r ∧ i_Rel (k + 4) u v) v v1 v2) u v1 v2) ?_ I
  intro L C c A G R fD fp fg fs fw aD aT aG aA aN aP aF aW aE aS yD yw yG yA yF yE yS yT hI hT hG hN hTY hGY
  have hC : C ≤ 81 := hI.1.2.2.2.1
  unfold wpX_answer
  rcases cb_cv C hC v1 with h | ⟨g, hg, rfl⟩
  · refine xb_f h (br_f (by decide) ?_)
    unfold wpY_answer
    exact yb_f h (br_t rfl ⟨rfl, cb_mk hI hT hG hN hTY hGY⟩)
  · refine xb_t hC hg (br_t rfl ?_)
    rcases cb_cv C hC v2 with h | ⟨s, hs, rfl⟩
    · refine xb_f h (br_f (by decide) ?_)
      unfold wpY_answer
      exact yb_t hC hg (br_f (by decide) (yb_f h (br_t rfl ⟨rfl, cb_mk hI hT hG hN hTY hGY⟩)))
    · refine xb_t hC hs (br_t rfl ?_)
      refine xa_at hT hg hs ?_
      unfold wpY_answer
      refine yb_t hC hg (br_f (by decide) (yb_t hC hs (br_f (by decide) ?_)))
      refine ya_at hTY hC hg hs ?_
      exact ⟨rfl, cb_mk hI hT hG hN hTY hGY⟩
theorem i_vc_canBe {k : Nat} {u : SX} {v : SY} (I : i_Rel k u v) (hk : k + 4 ≤ 2050) (v1 : Int32) : wpX_canBe (fun r => wpY_canBe (fun r' => r' = r ∧ i_Rel (k + 4) u v) v v1) u v1 := by
  refine cb_el (P := fun u v => wpX_canBe (fun r => wpY_canBe (fun r' => r' = r ∧ i_Rel (k + 4) u v) v v1) u v1) ?_ I
  intro L C c A G R fD fp fg fs fw aD aT aG aA aN aP aF aW aE aS yD yw yG yA yF yE yS yT hI hT hG hN hTY hGY
  have hC : C ≤ 81 := hI.1.2.2.2.1
  unfold wpX_canBe
  rcases cb_cv C hC v1 with h | ⟨g, hg, rfl⟩
  · refine xb_f h (br_f (by decide) ?_)
    unfold wpY_canBe
    exact yb_f h (br_t rfl ⟨rfl, cb_mk hI hT hG hN hTY hGY⟩)
  · refine xb_t hC hg (br_t rfl ⟨vp_in_nI (by omega) (by omega), ek_if (xn_0i hN hI.1.2.2.2.2 hC hg) (fun l => ?_) (fun l => ?_)⟩)
    · unfold wpY_canBe
      refine yb_t hC hg (br_f (by decide) ?_)
      exact ya_ok hTY hI hGY hg (fun _ => br_f (by decide) ⟨rfl, cb_mk hI hT hG hN hTY hGY⟩) (fun z => absurd l z)
    · unfold wpY_canBe
      refine yb_t hC hg (br_f (by decide) ?_)
      exact ya_ok hTY hI hGY hg (fun z => absurd z l) (fun _ => br_t rfl ⟨rfl, cb_mk hI hT hG hN hTY hGY⟩)
theorem i_vc_code {k : Nat} {u : SX} {v : SY} (I : i_Rel k u v) (hk : k + 4 ≤ 2050) (v1 : Int32) : wpX_code (fun r => wpY_code (fun r' => r' = r ∧ i_Rel (k + 4) u v) v v1) u v1 := by
  refine cb_el (P := fun u v => wpX_code (fun r => wpY_code (fun r' => r' = r ∧ i_Rel (k + 4) u v) v v1) u v1) ?_ I
  intro L C c A G R fD fp fg fs fw aD aT aG aA aN aP aF aW aE aS yD yw yG yA yF yE yS yT hI hT hG hN hTY hGY
  obtain ⟨r, hX, hY⟩ := cb_code (fD := fD) (fp := fp) (fg := fg) (fs := fs) (fw := fw) (aD := aD) (aT := aT) (aG := aG) (aA := aA) (aP := aP) (aF := aF) (aW := aW) (aE := aE) (aS := aS) (yD := yD) (yw := yw) (yF := yF) (yE := yE) (yS := yS) hN hTY hI hGY v1 C 0 0 (Nat.zero_add C)
  have e : v1 - nI 0 = v1 := by rw [nI_0, Int32.sub_zero]
  rw [e] at hY
  unfold wpX_code
  refine ⟨C + 1, hX _ ?_⟩
  unfold wpY_code
  refine ⟨C + 1, hY _ ?_⟩
  exact ⟨rfl, cb_mk hI hT hG hN hTY hGY⟩
theorem i_vc_useful {k : Nat} {u : SX} {v : SY} (I : i_Rel k u v) (hk : k + 4 ≤ 2050) : wpX_useful (fun r => wpY_useful (fun r' => r' = r ∧ i_Rel (k + 4) u v) v) u := by
  refine cb_el (P := fun u v => wpX_useful (fun r => wpY_useful (fun r' => r' = r ∧ i_Rel (k + 4) u v) v) u) ?_ I
  intro L C c A G R fD fp fg fs fw aD aT aG aA aN aP aF aW aE aS yD yw yG yA yF yE yS yT hI hT hG hN hTY hGY
  refine xu_useful hT hN hI hG ?_
  refine yu_useful hTY hI hGY ?_
  exact ⟨rfl, cb_mk hI hT hG hN hTY hGY⟩
theorem i_vc_forget {k : Nat} {u : SX} {v : SY} (I : i_Rel k u v) (hk : k + 4 ≤ 2050) : wpX_forget (fun r u' => wpY_forget (fun r' v' => r' = r ∧ i_Rel (k + 4) u' v') v) u := by
  refine cb_el (P := fun u v => wpX_forget (fun r u' => wpY_forget (fun r' v' => r' = r ∧ i_Rel (k + 4) u' v') v) u) ?_ I
  intro L C c A G R fD fp fg fs fw aD aT aG aA aN aP aF aW aE aS yD yw yG yA yF yE yS yT hI hT hG hN hTY hGY
  have hC : C ≤ 81 := hI.1.2.2.2.1
  have hc : c ≤ 8 := hI.1.2.2.2.2
  unfold wpX_forget
  rcases Nat.eq_zero_or_pos c with e | e
  · subst e
    refine br_t rfl ?_
    unfold wpY_forget
    exact br_t rfl ⟨rfl, cb_mk hI hT hG hN hTY hGY⟩
  · obtain ⟨d, rfl⟩ : ∃ d, c = d + 1 := ⟨c - 1, by omega⟩
    have hne : ¬ nI (d + 1) = 0 := nI_ne0 (by omega) (by omega)
    have hI2 := cb_mi_I hI
    obtain ⟨hGd, hRd⟩ := hI.2.2.2 d (by omega)
    obtain ⟨eG, eR⟩ := hG d (by omega)
    refine br_f hne (nm_r (nI_pred d) ?_)
    refine xw_weigh hT hC (by omega) hGd eG eR (by omega) hI.2.1 (fun t ht => ?_)
    have hN2 := cb_mi_NX hN ht
    refine xc_cp hN2 (by omega) hC ?_
    unfold wpY_forget
    refine br_f hne (nm_r (nI_pred d) ?_)
    refine yc_cp hTY hI2 (cb_mi_GR hGY) ?_
    exact ⟨rfl, cb_mk hI2 hT (cb_mi_GR hG) hN2 hTY (cb_mi_GR hGY)⟩
theorem i_vc_tell {k : Nat} {u : SX} {v : SY} (I : i_Rel k u v) (hk : k + 4 ≤ 2050) (v1 : Int32) (v2 : Int32) (v3 : Int32) : wpX_tell (fun r u' => wpY_tell (fun r' v' => r' = r ∧ i_Rel (k + 4) u' v') v v1 v2 v3) u v1 v2 v3 := by
  refine cb_el (P := fun u v => wpX_tell (fun r u' => wpY_tell (fun r' v' => r' = r ∧ i_Rel (k + 4) u' v') v v1 v2 v3) u v1 v2 v3) ?_ I
  intro L C c A G R fD fp fg fs fw aD aT aG aA aN aP aF aW aE aS yD yw yG yA yF yE yS yT hI hT hG hN hTY hGY
  have hC : C ≤ 81 := hI.1.2.2.2.1
  have hc : c ≤ 8 := hI.1.2.2.2.2
  have hM := fun k => cb_mk (k := k) (fp := fp) (fg := fg) (fs := fs) (fw := fw) (aP := aP) (aF := aF) (aW := aW) (aE := aE) (aS := aS) (yD := yD) (yw := yw) (yF := yF) (yE := yE) (yS := yS) hI hT hG hN hTY hGY
  unfold wpX_tell
  rcases cb_cv C hC v1 with h | ⟨g, hg, rfl⟩
  · refine xb_f h (br_f (by decide) ?_)
    unfold wpY_tell
    exact yb_f h (br_t rfl ⟨rfl, hM _⟩)
  · refine xb_t hC hg (br_t rfl ?_)
    by_cases h2 : v2 < 0
    · refine br_t h2 ?_
      unfold wpY_tell
      exact yb_t hC hg (br_f (by decide) (br_t h2 ⟨rfl, hM _⟩))
    · refine br_f h2 ?_
      by_cases h3 : 4 < v2
      · refine br_t h3 ?_
        unfold wpY_tell
        exact yb_t hC hg (br_f (by decide) (br_f h2 (br_t h3 ⟨rfl, hM _⟩)))
      · refine br_f h3 ?_
        by_cases h4 : v3 < 0
        · refine br_t h4 ?_
          unfold wpY_tell
          exact yb_t hC hg (br_f (by decide) (br_f h2 (br_f h3 (br_t h4 ⟨rfl, hM _⟩))))
        · refine br_f h4 ?_
          by_cases h5 : v3 ≤ 4
          · refine br_t h5 ?_
            by_cases h6 : c = 8
            · have e8 : nI c = 8 := by rw [h6]; rfl
              refine br_t e8 ?_
              unfold wpY_tell
              exact yb_t hC hg (br_f (by decide) (br_f h2 (br_f h3 (br_f h4 (br_t h5 (br_t e8 ⟨rfl, hM _⟩))))))
            · have n8 : ¬ nI c = 8 := fun z => h6 ((nI_eq (b := 8) (by omega) (by omega)).mp z)
              have ec : (nI c).toNatClampNeg = c := nI_clamp (by omega)
              obtain ⟨b, hb, rfl⟩ := nI_of2 (M := 4) (n := 4) (by decide) h2 (Int32.not_lt.mp h3)
              obtain ⟨w, hw, rfl⟩ := nI_of2 (M := 4) (n := 4) (by decide) h4 h5
              have er : (10 : Int32) * nI b + nI w = nI (10 * b + w) := cb_ix 10 b w
              have hI2 := cb_pl_I (g := g) (r := 10 * b + w) hI (by omega) hg (by omega)
              have hGY2 := cb_pl_GR (g := g) (r := 10 * b + w) hGY
              have hG2 := cb_pl_GR (g := g) (r := 10 * b + w) hG
              refine br_f n8 ⟨vp_in_nI (by omega) (by omega), nm_r (e' := upd aG c (nI g)) (by rw [ec]) ⟨vp_in_nI (by omega) (by omega), nm_r (e' := upd aA c (nI (10 * b + w))) (by rw [ec, er]) ?_⟩⟩
              refine xw_weigh (k := c) hT hC (by omega) hg pk_us pk_us (by omega) hI.2.1 (fun t ht => ?_)
              have hN2 := cb_pl_NX hN ht
              refine nm_r (nI_1 c) ?_
              refine xc_cp hN2 (by omega) hC ?_
              unfold wpY_tell
              refine yb_t hC hg (br_f (by decide) (br_f h2 (br_f h3 (br_f h4 (br_t h5 (br_f n8 ⟨vp_in_nI (by omega) (by omega), nm_r (e' := upd yG c (nI g)) (by rw [ec]) ⟨vp_in_nI (by omega) (by omega), nm_r (e' := upd yA c (nI (10 * b + w))) (by rw [ec, er]) (nm_r (nI_1 c) ?_)⟩⟩))))))
              refine yc_cp hTY hI2 hGY2 ?_
              exact ⟨rfl, cb_mk hI2 hT hG2 hN2 hTY hGY2⟩
          · refine br_f h5 ?_
            unfold wpY_tell
            exact yb_t hC hg (br_f (by decide) (br_f h2 (br_f h3 (br_f h4 (br_f h5 ⟨rfl, hM _⟩)))))
theorem i_vc_parts {k : Nat} {u : SX} {v : SY} (I : i_Rel k u v) (hk : k + 4 ≤ 2050) (v1 : Int32) : wpX_parts (fun r u' => wpY_parts (fun r' v' => r' = r ∧ i_Rel (k + 4) u' v') v v1) u v1 := by
  refine cb_el (P := fun u v => wpX_parts (fun r u' => wpY_parts (fun r' v' => r' = r ∧ i_Rel (k + 4) u' v') v v1) u v1) ?_ I
  intro L C c A G R fD fp fg fs fw aD aT aG aA aN aP aF aW aE aS yD yw yG yA yF yE yS yT hI hT hG hN hTY hGY
  have hC : C ≤ 81 := hI.1.2.2.2.1
  have hc : c ≤ 8 := hI.1.2.2.2.2
  unfold wpX_parts
  rcases cb_cv C hC v1 with h | ⟨g, hg, rfl⟩
  · refine xb_f h (br_f (by decide) ?_)
    unfold wpY_parts
    exact yb_f h (br_t rfl ⟨rfl, cb_mk hI hT hG hN hTY hGY⟩)
  · refine xb_t hC hg (br_t rfl ?_)
    refine xp_partBy hT hN hc hC hI.2.1 hg (fun t => ?_)
    refine yp_parts hTY hI hGY hg (fun t' => ?_)
    exact ⟨rfl, cb_mk hI hT hG hN hTY hGY⟩
theorem i_vc_worst {k : Nat} {u : SX} {v : SY} (I : i_Rel k u v) (hk : k + 4 ≤ 2050) (v1 : Int32) : wpX_worst (fun r u' => wpY_worst (fun r' v' => r' = r ∧ i_Rel (k + 4) u' v') v v1) u v1 := by
  refine cb_el (P := fun u v => wpX_worst (fun r u' => wpY_worst (fun r' v' => r' = r ∧ i_Rel (k + 4) u' v') v v1) u v1) ?_ I
  intro L C c A G R fD fp fg fs fw aD aT aG aA aN aP aF aW aE aS yD yw yG yA yF yE yS yT hI hT hG hN hTY hGY
  have hC : C ≤ 81 := hI.1.2.2.2.1
  have hc : c ≤ 8 := hI.1.2.2.2.2
  unfold wpX_worst
  rcases cb_cv C hC v1 with h | ⟨g, hg, rfl⟩
  · refine xb_f h (br_f (by decide) ?_)
    unfold wpY_worst
    exact yb_f h (br_t rfl ⟨rfl, cb_mk hI hT hG hN hTY hGY⟩)
  · refine xb_t hC hg (br_t rfl ?_)
    refine xp_partBy hT hN hc hC hI.2.1 hg (fun t => ?_)
    unfold wpY_worst
    refine yb_t hC hg (br_f (by decide) ?_)
    refine yp_worst hTY hI hGY hg (fun t' => ?_)
    exact ⟨rfl, cb_mk hI hT hG hN hTY hGY⟩
theorem i_vc_weight {k : Nat} {u : SX} {v : SY} (I : i_Rel k u v) (hk : k + 4 ≤ 2050) (v1 : Int32) : wpX_weight (fun r u' => wpY_weight (fun r' v' => r' = r ∧ i_Rel (k + 4) u' v') v v1) u v1 := by
  refine cb_el (P := fun u v => wpX_weight (fun r u' => wpY_weight (fun r' v' => r' = r ∧ i_Rel (k + 4) u' v') v v1) u v1) ?_ I
  intro L C c A G R fD fp fg fs fw aD aT aG aA aN aP aF aW aE aS yD yw yG yA yF yE yS yT hI hT hG hN hTY hGY
  have hC : C ≤ 81 := hI.1.2.2.2.1
  have hc : c ≤ 8 := hI.1.2.2.2.2
  unfold wpX_weight
  rcases cb_cv C hC v1 with h | ⟨g, hg, rfl⟩
  · refine xb_f h (br_f (by decide) ?_)
    unfold wpY_weight
    exact yb_f h (br_t rfl ⟨rfl, cb_mk hI hT hG hN hTY hGY⟩)
  · refine xb_t hC hg (br_t rfl ?_)
    refine xp_partBy hT hN hc hC hI.2.1 hg (fun t => ?_)
    unfold wpY_weight
    refine yb_t hC hg (br_f (by decide) ?_)
    refine yp_weight hTY hI hGY hg (fun t' => ?_)
    exact ⟨rfl, cb_mk hI hT hG hN hTY hGY⟩
theorem i_vc_safest {k : Nat} {u : SX} {v : SY} (I : i_Rel k u v) (hk : k + 4 ≤ 2050) : wpX_safest (fun r u' => wpY_safest (fun r' v' => r' = r ∧ i_Rel (k + 4) u' v') v) u := by
  refine cb_el (P := fun u v => wpX_safest (fun r u' => wpY_safest (fun r' v' => r' = r ∧ i_Rel (k + 4) u' v') v) u) ?_ I
  intro L C c A G R fD fp fg fs fw aD aT aG aA aN aP aF aW aE aS yD yw yG yA yF yE yS yT hI hT hG hN hTY hGY
  have hC : C ≤ 81 := hI.1.2.2.2.1
  have hc : c ≤ 8 := hI.1.2.2.2.2
  unfold wpX_safest
  refine xg_best (bs := false) rfl hT hN hc hC hI.1.2.2.1 hI.2.1 (fun z => ?_) (fun z fp fg fs aP => ?_)
  · unfold wpY_safest
    exact yg_best (bs := false) (by decide) hTY hI hGY (fun _ => ⟨rfl, cb_mk hI hT hG hN hTY hGY⟩) (fun y => absurd z y)
  · unfold wpY_safest
    exact yg_best (bs := false) (by decide) hTY hI hGY (fun y => absurd y z) (fun _ t => ⟨rfl, cb_mk hI hT hG hN hTY hGY⟩)
theorem i_vc_sharpest {k : Nat} {u : SX} {v : SY} (I : i_Rel k u v) (hk : k + 4 ≤ 2050) : wpX_sharpest (fun r u' => wpY_sharpest (fun r' v' => r' = r ∧ i_Rel (k + 4) u' v') v) u := by
  refine cb_el (P := fun u v => wpX_sharpest (fun r u' => wpY_sharpest (fun r' v' => r' = r ∧ i_Rel (k + 4) u' v') v) u) ?_ I
  intro L C c A G R fD fp fg fs fw aD aT aG aA aN aP aF aW aE aS yD yw yG yA yF yE yS yT hI hT hG hN hTY hGY
  have hC : C ≤ 81 := hI.1.2.2.2.1
  have hc : c ≤ 8 := hI.1.2.2.2.2
  unfold wpX_sharpest
  refine xg_best (bs := true) rfl hT hN hc hC hI.1.2.2.1 hI.2.1 (fun z => ?_) (fun z fp fg fs aP => ?_)
  · unfold wpY_sharpest
    exact yg_best (bs := true) (by decide) hTY hI hGY (fun _ => ⟨rfl, cb_mk hI hT hG hN hTY hGY⟩) (fun y => absurd z y)
  · unfold wpY_sharpest
    exact yg_best (bs := true) (by decide) hTY hI hGY (fun y => absurd y z) (fun _ t => ⟨rfl, cb_mk hI hT hG hN hTY hGY⟩)
theorem i_vc_need {k : Nat} {u : SX} {v : SY} (I : i_Rel k u v) (hk : k + 4 ≤ 2050) : wpX_need (fun r u' => wpY_need (fun r' v' => r' = r ∧ i_Rel (k + 4) u' v') v) u := by
  refine cb_el (P := fun u v => wpX_need (fun r u' => wpY_need (fun r' v' => r' = r ∧ i_Rel (k + 4) u' v') v) u) ?_ I
  intro L C c A G R fD fp fg fs fw aD aT aG aA aN aP aF aW aE aS yD yw yG yA yF yE yS yT hI hT hG hN hTY hGY
  unfold wpX_need
  refine xf_needBy (kb := false) rfl hT hN hI (fun hM t w e s hw he => ?_) (fun hM => ?_)
  · unfold wpY_need
    exact ys_solve (kb := false) rfl hTY hI hGY (fun _ f t hf ht => ⟨rfl, cb_mk hI hT hG hN hTY hGY⟩) (fun y => absurd hM y)
  · unfold wpY_need
    exact ys_solve (kb := false) rfl hTY hI hGY (fun y => absurd y hM) (fun _ => ⟨rfl, cb_mk hI hT hG hN hTY hGY⟩)
theorem i_vc_needKept {k : Nat} {u : SX} {v : SY} (I : i_Rel k u v) (hk : k + 4 ≤ 2050) : wpX_needKept (fun r u' => wpY_needKept (fun r' v' => r' = r ∧ i_Rel (k + 4) u' v') v) u := by
  refine cb_el (P := fun u v => wpX_needKept (fun r u' => wpY_needKept (fun r' v' => r' = r ∧ i_Rel (k + 4) u' v') v) u) ?_ I
  intro L C c A G R fD fp fg fs fw aD aT aG aA aN aP aF aW aE aS yD yw yG yA yF yE yS yT hI hT hG hN hTY hGY
  unfold wpX_needKept
  refine xf_needBy (kb := true) rfl hT hN hI (fun hM t w e s hw he => ?_) (fun hM => ?_)
  · unfold wpY_needKept
    exact ys_solve (kb := true) rfl hTY hI hGY (fun _ f t hf ht => ⟨rfl, cb_mk hI hT hG hN hTY hGY⟩) (fun y => absurd hM y)
  · unfold wpY_needKept
    exact ys_solve (kb := true) rfl hTY hI hGY (fun y => absurd y hM) (fun _ => ⟨rfl, cb_mk hI hT hG hN hTY hGY⟩)
theorem i_vc_first {k : Nat} {u : SX} {v : SY} (I : i_Rel k u v) (hk : k + 4 ≤ 2050) : wpX_first (fun r u' => wpY_first (fun r' v' => r' = r ∧ i_Rel (k + 4) u' v') v) u := by
  refine cb_el (P := fun u v => wpX_first (fun r u' => wpY_first (fun r' v' => r' = r ∧ i_Rel (k + 4) u' v') v) u) ?_ I
  intro L C c A G R fD fp fg fs fw aD aT aG aA aN aP aF aW aE aS yD yw yG yA yF yE yS yT hI hT hG hN hTY hGY
  have hL4 : L ≤ 4 := hI.1.2.1
  have hC : C ≤ 81 := hI.1.2.2.2.1
  unfold wpX_first
  refine xf_needBy (kb := false) rfl hT hN hI (fun hM t w e s hw he => ?_) (fun hM => ?_)
  · have hpos := Nat.two_pow_pos (cb_M A G R c C)
    have h8 := cb_Q_le (kb := false) hI hM (S := 2 ^ cb_M A G R c C - 1) (by omega)
    have hQ8 : ∀ s, s < 2 ^ cb_M A G R c C → cb_Q L C c A G R false s ≤ 8 := fun s hs => cb_Q_le hI hM hs
    rcases Nat.eq_zero_or_pos (cb_Q L C c A G R false (2 ^ cb_M A G R c C - 1)) with e0 | e0
    · rw [e0]
      refine br_f (by decide) (br_t rfl ?_)
      unfold wpY_first
      refine ys_solve (kb := false) rfl hTY hI hGY (fun _ f t hf ht => ?_) (fun y => absurd hM y)
      rw [e0]
      exact br_f (by decide) (br_t rfl ⟨rfl, cb_mk hI hT hG hN hTY hGY⟩)
    · obtain ⟨q, hq⟩ : ∃ q, cb_Q L C c A G R false (2 ^ cb_M A G R c C - 1) = q + 1 := ⟨cb_Q L C c A G R false (2 ^ cb_M A G R c C - 1) - 1, by omega⟩
      obtain ⟨g0, hg0, n0, n1, l0, l1⟩ := cb_first hI hM hq
      have hlt : (0 : Int32) < nI (q + 1) := nI_lt (a := 0) (by omega) (by omega)
      rw [hq]
      refine br_t hlt (xf_23 hL4 hC hM hI.2.1 (fun k hk => cb_F_lt hk) hw he (fun s hs => Nat.le_trans (hQ8 s hs) (by omega)) (by omega) hg0 n0 n1 (fun s' => ?_))
      unfold wpY_first
      refine ys_solve (kb := false) rfl hTY hI hGY (fun _ f t hf ht => ?_) (fun y => absurd hM y)
      rw [hq] at ht ⊢
      refine br_t hlt (yf_24 hTY hL4 hC hM hI.2.1 (fun k hk => cb_F_lt hk) hf ht (fun s hs => cb_E_le (hQ8 s hs)) (by omega) hg0 l0 l1 ?_)
      exact ⟨rfl, cb_mk hI hT hG hN hTY hGY⟩
  · refine br_f (by decide) (br_f (by decide) ?_)
    unfold wpY_first
    refine ys_solve (kb := false) rfl hTY hI hGY (fun y => absurd y hM) (fun _ => ?_)
    exact br_f (by decide) (br_f (by decide) ⟨rfl, cb_mk hI hT hG hN hTY hGY⟩)
theorem i_vc0 (k0 : Int32) (k1 : Int32) : wpX_init (fun u => wpY_init (fun v => i_Rel 2 u v) k0 k1) k0 k1 := by
  obtain ⟨L, hL1, hL4, hcL⟩ := cb_cl 4 (by omega) (by omega) k0 4 rfl
  obtain ⟨D, hD1, hD3, hcD⟩ := cb_cl 3 (by omega) (by omega) k1 3 rfl
  have hC81 := cb_C81 hL1 hL4 hD1 hD3
  have hI : cb_I L (D ^ L) 0 (cb_an L D) (fun _ => 0) (fun _ => 0) := ⟨⟨hL1, hL4, hC81.1, hC81.2, by omega⟩, fun g s _ _ => cb_an_le hL4 hD1 g s, fun g _ => cb_an_eq hD1 g, fun i hi => absurd hi (Nat.not_lt_zero i)⟩
  unfold wpX_init
  refine hcL (fun z => wX_init_108 _ k1 z 0 0 0 0 0 0 0 0 (fun _ => 0) (fun _ => 0) (fun _ => 0) (fun _ => 0) (fun _ => 0) (fun _ => 0) (fun _ => 0) (fun _ => 0) (fun _ => 0) (fun _ => 0)) ?_
  unfold wX_init_108
  refine hcD (fun y => ∃ n139 : Nat, wX_init_139 _ (nI L) y 0 0 0 0 0 0 (fun _ => 0) (fun _ => 0) (fun _ => 0) (fun _ => 0) (fun _ => 0) (fun _ => 0) (fun _ => 0) (fun _ => 0) (fun _ => 0) (fun _ => 0) n139 1 0) ?_
  refine cx_139 hL1 hL4 hD1 hD3 rfl (fun _ => rfl) (fun tD tT hK => ?_)
  unfold wpY_init
  refine hcL (fun z => wY_init_74 _ k1 z 0 0 0 0 0 (fun _ => 0) (fun _ => 0) (fun _ => 0) (fun _ => 0) (fun _ => 0) (fun _ => 0)) ?_
  unfold wY_init_74
  refine hcD (fun y => ∃ n105 : Nat, wY_init_105 _ (nI L) y 0 0 0 (fun _ => 0) (fun _ => 0) (fun _ => 0) (fun _ => 0) (fun _ => 0) (fun _ => 0) n105 1 0) ?_
  refine yi_105 hL1 hL4 hD1 hD3 rfl (fun t ht => ?_)
  exact cb_mk (c := 0) hI (xa_T hC81.2 hD3 hD1 hL4 hK.1 hK.2) (fun i hi => absurd hi (Nat.not_lt_zero i)) (fun x _ => rfl) ht (fun i hi => absurd hi (Nat.not_lt_zero i))
end
