section
theorem pk_us {f : Nat → Int32} {k : Nat} {x : Int32} : upd f k x k = x := if_pos rfl
theorem pk_un {f : Nat → Int32} {k j : Nat} {x : Int32} (h : j ≠ k) : upd f k x j = f j := if_neg h
theorem pk_sub {a b : Nat} (h : b ≤ a) : nI a - nI b = nI (a - b) := by
  obtain ⟨c, rfl⟩ : ∃ c, a = c + b := ⟨a - b, by omega⟩
  rw [← nI_add, Int32.add_sub_cancel, Nat.add_sub_cancel]
theorem pk_m1 (n : Nat) : nI (n + 1) + (-1) = nI n := by
  rw [← nI_1, Int32.add_assoc, show (1 : Int32) + (-1) = 0 from rfl, Int32.add_zero]
theorem pk_mul (a b : Nat) : nI a * nI b = nI (a * b) := (Int32.ofNat_mul a b).symm
theorem pk_div {a d : Nat} (ha : a < 2 ^ 31) (h0 : 0 < d) (hd : d < 2 ^ 31) : nI a / nI d = nI (a / d) := by
  apply Int32.toInt_inj.mp
  rw [lg_idiv_nonneg (by rw [nI_toInt ha]; omega) (by rw [nI_toInt hd]; omega), nI_toInt ha, nI_toInt hd, nI_toInt (Nat.lt_of_le_of_lt (Nat.div_le_self a d) ha)]
  first | rfl | exact (Int.natCast_ediv _ _).symm
theorem pk_rem {a d : Nat} (ha : a < 2 ^ 31) (h0 : 0 < d) (hd : d < 2 ^ 31) : nI a - nI a / nI d * nI d = nI (a % d) := by
  rw [pk_div ha h0 hd, pk_mul, pk_sub (Nat.div_mul_le_self a d)]
  exact congrArg nI (by have := Nat.div_add_mod' a d; omega)
theorem pk_sub_toInt {a b : Nat} (ha : a < 2 ^ 30) (hb : b < 2 ^ 30) : (nI a - nI b).toInt = (a : Int) - b := by
  rw [Int32.toInt_sub, nI_toInt (by omega), nI_toInt (by omega)]
  exact Int.bmod_eq_of_le (by omega) (by omega)
theorem pk_sneg {a b : Nat} (hb : b < 2 ^ 30) (h : a < b) : nI a - nI b < 0 := by
  rw [Int32.lt_iff_toInt_lt, pk_sub_toInt (by omega) hb, show (0 : Int32).toInt = 0 from by decide]
  omega
theorem pk_ix (x : Int32) {n : Nat} (hn : n < 2 ^ 31) : x < 0 ∨ nI n ≤ x ∨ ∃ j : Nat, j < n ∧ x = nI j := by
  by_cases h : x < 0
  · exact Or.inl h
  · obtain ⟨j, hj, rfl⟩ := nI_of h
    by_cases h2 : j < n
    · exact Or.inr (Or.inr ⟨j, h2, rfl⟩)
    · exact Or.inr (Or.inl (nI_le (by omega) hj))
theorem pk_le {x y : Int32} {A B : Prop} (a b : Nat) (f : a ≤ b → A) (g : b < a → B) (hx : x = nI a := by rfl) (hy : y = nI b := by rfl) (ha : a < 2 ^ 31 := by omega) (hb : b < 2 ^ 31 := by omega) : (x ≤ y → A) ∧ (¬ x ≤ y → B) := by
  subst hx hy
  rw [nI_leI ha hb]
  exact ⟨f, fun z => g (by omega)⟩
theorem pk_lt {x y : Int32} {A B : Prop} (a b : Nat) (f : a < b → A) (g : b ≤ a → B) (hx : x = nI a := by rfl) (hy : y = nI b := by rfl) (ha : a < 2 ^ 31 := by omega) (hb : b < 2 ^ 31 := by omega) : (x < y → A) ∧ (¬ x < y → B) := by
  subst hx hy
  rw [nI_ltI ha hb]
  exact ⟨f, fun z => g (by omega)⟩
theorem pk_eq {x y : Int32} {A B : Prop} (a b : Nat) (f : a = b → A) (g : a ≠ b → B) (hx : x = nI a := by rfl) (hy : y = nI b := by rfl) (ha : a < 2 ^ 31 := by omega) (hb : b < 2 ^ 31 := by omega) : (x = y → A) ∧ (¬ x = y → B) := by
  subst hx hy
  rw [nI_eq ha hb]
  exact ⟨f, g⟩
theorem pk_in {x : Int32} (n N : Nat) (h : n < N) (hx : x = nI n := by rfl) (hN : N < 2 ^ 31 := by omega) : vp_in x N := by
  subst hx
  exact vp_in_nI h hN
theorem pk_cl {x : Int32} (n : Nat) (hx : x = nI n := by rfl) (h : n < 2 ^ 31 := by omega) : x.toNatClampNeg = n := by
  subst hx
  exact nI_clamp h
theorem pk_tn {n : Nat} (h : n < 2 ^ 32) : (nI n).toBitVec.toNat = n := Nat.mod_eq_of_lt h
theorem pk_and (x : Int32) {m : Int32} (k : Nat) (hm : m.toBitVec.toNat = 2 ^ k - 1) : x &&& m = nI (x.toBitVec.toNat % 2 ^ k) := by
  apply Int32.toBitVec_inj.mp
  apply BitVec.eq_of_toNat_eq
  rw [Int32.toBitVec_and, BitVec.toNat_and, hm, Nat.and_two_pow_sub_one_eq_mod]
  show _ = (BitVec.ofNat 32 _).toNat
  rw [BitVec.toNat_ofNat]
  exact (Nat.mod_eq_of_lt (Nat.lt_of_le_of_lt (Nat.mod_le _ _) x.toBitVec.isLt)).symm
theorem pk_andN {n : Nat} (h : n < 2 ^ 32) {m : Int32} (k : Nat) (hm : m.toBitVec.toNat = 2 ^ k - 1) : nI n &&& m = nI (n % 2 ^ k) := by
  rw [pk_and _ k hm, pk_tn h]
theorem pk_andE (x : Int32) {m : Int32} (k : Nat) (hm : m.toBitVec.toNat = 2 ^ k - 1) : ∃ j : Nat, j < 2 ^ k ∧ x &&& m = nI j := ⟨_, Nat.mod_lt _ (Nat.two_pow_pos k), pk_and x k hm⟩
theorem pk_andIn (x : Int32) {m : Int32} (k : Nat) (hm : m.toBitVec.toNat = 2 ^ k - 1) (hk : k ≤ 30) : vp_in (x &&& m) (2 ^ k) := by
  obtain ⟨j, hj, e⟩ := pk_andE x k hm
  rw [e]
  exact vp_in_nI hj (Nat.lt_of_le_of_lt (Nat.pow_le_pow_right (by decide) hk) (by decide))
theorem pk_shl (a s : Int32) (k : Nat) (hs : (s.toBitVec.smod 32).toNat = k) : (a <<< s).toBitVec.toNat = a.toBitVec.toNat * 2 ^ k % 2 ^ 32 := by
  show (a.toBitVec <<< (s.toBitVec.smod 32).toNat).toNat = _
  rw [hs, BitVec.toNat_shiftLeft, Nat.shiftLeft_eq]
theorem pk_shlN {n : Nat} (s : Int32) (k : Nat) (hs : (s.toBitVec.smod 32).toNat = k) (h : n * 2 ^ k < 2 ^ 32) : nI n <<< s = nI (n * 2 ^ k) := by
  apply Int32.toBitVec_inj.mp
  apply BitVec.eq_of_toNat_eq
  have hn : n < 2 ^ 32 := Nat.lt_of_le_of_lt (Nat.le_mul_of_pos_right n (Nat.two_pow_pos k)) h
  rw [pk_shl _ _ k hs, pk_tn hn, pk_tn h, Nat.mod_eq_of_lt h]
theorem pk_shr (a s : Int32) (k : Nat) (hs : (s.toBitVec.smod 32).toNat = k) : (a >>> s).toInt = a.toInt >>> k := by
  show (a.toBitVec.sshiftRight (s.toBitVec.smod 32).toNat).toInt = _
  rw [hs, BitVec.toInt_sshiftRight]
  rfl
theorem pk_shrN {n : Nat} (h : n < 2 ^ 31) (s : Int32) (k : Nat) (hs : (s.toBitVec.smod 32).toNat = k) : nI n >>> s = nI (n / 2 ^ k) := by
  apply Int32.toInt_inj.mp
  have h2 : n / 2 ^ k ≤ n := Nat.div_le_self _ _
  rw [pk_shr _ _ k hs, nI_toInt h, nI_toInt (by omega), Int.shiftRight_eq_div_pow]
  rfl
theorem pk_loop {σ : Type} (W : Nat → Nat → σ → Prop) (I : Nat → σ → Prop) (e i0 : Nat) (s : σ) (hi : i0 ≤ e) (h0 : I i0 s) (hx : ∀ n s, I e s → W (n + 1) e s)
    (hs : ∀ n i s, i < e → I i s → (∀ s', I (i + 1) s' → W n (i + 1) s') → W (n + 1) i s) : ∃ n, W n i0 s :=
  ⟨e + 1, loop_i W I e hx hs (e + 1) i0 s hi (by omega) h0⟩
theorem pk_loopD {σ : Type} (W : Nat → Nat → σ → Prop) (I : Nat → σ → Prop) (hx : ∀ n s, I 0 s → W (n + 1) 0 s)
    (hs : ∀ n i s, I (i + 1) s → (∀ s', I i s' → W n i s') → W (n + 1) (i + 1) s) : ∀ (e : Nat) (s : σ), I e s → W (e + 1) e s := by
  intro e
  induction e with
  | zero => exact fun s h => hx 0 s h
  | succ e ih => exact fun s h => hs (e + 1) e s h (fun s' h' => ih s' h')
theorem pk_least (P : Nat → Prop) (h : ∃ k, P k) : ∃ k, P k ∧ ∀ j, j < k → ¬ P j := by
  obtain ⟨k, hk⟩ := h
  induction k using Nat.strongRecOn with
  | ind k ih =>
    by_cases e : ∃ j, j < k ∧ P j
    · obtain ⟨j, hj, pj⟩ := e
      exact ih j hj pj
    · exact ⟨k, hk, fun j hj pj => e ⟨j, hj, pj⟩⟩
theorem s_l : ∀ n, n < 32 → ((nI n &&& 31).toBitVec.smod 32).toNat = n := by decide +kernel
theorem s_u : ∀ n, n < 32 → (((nI n).toUInt32 &&& Int32.toUInt32 31).toBitVec % 32).toNat = n := by decide +kernel
theorem nx_and (a b : Nat) : nI a &&& nI b = nI (a &&& b) := by
  apply Int32.toBitVec_inj.1
  show BitVec.ofNat 32 a &&& BitVec.ofNat 32 b = BitVec.ofNat 32 (a &&& b)
  apply BitVec.eq_of_getLsbD_eq
  intro i hi
  simp [hi]
theorem sb_m1 {p : Nat} (h : 0 < p) : nI p + (-1) = nI (p - 1) := by
  obtain ⟨q, rfl⟩ : ∃ q, p = q + 1 := ⟨p - 1, by omega⟩
  exact pk_m1 q
end
section
/-- the pure picture: rules by number, comparisons, masks, first match, counts -/
def sf_b (b : Bool) : Int32 := if b = true then 1 else 0
def sf_o (d : Int32) (o : Option Nat) : Int32 := match o with
  | some i => nI i
  | none => d
def sf_has (F L : Nat → Int32) (i k : Nat) : Bool := decide (F i ≤ nI k) && decide (nI k ≤ L i)
def sf_cmp (h a v : Int32) : Bool :=
  if h = 0 then true else if h = 1 then decide (a = v) else if h = 2 then !decide (a = v) else if h = 3 then decide (a < v)
  else if h = 4 then decide (a ≤ v) else if h = 5 then decide (v < a) else decide (v ≤ a)
def sf_met (W M V G : Nat → Int32) (c : Nat) : Bool :=
  sf_cmp (W c &&& 7) (G ((W c) >>> ((3 : Int32) &&& 31)).toNatClampNeg &&& M c) (V c)
def sf_H (W M V G : Nat → Int32) (i : Nat) : Bool := sf_met W M V G (2 * i) && sf_met W M V G (2 * i + 1)
def sf_pl (W : Nat → Int32) (i : Nat) : Bool := decide (W (2 * i) &&& 7 = 0) && decide (W (2 * i + 1) &&& 7 = 0)
def sf_mk (f : Nat → Bool) : Nat → Nat
  | 0 => 0
  | n + 1 => if f n = true then sf_mk f n ||| 2 ^ n else sf_mk f n
def sf_fd (P : Nat → Bool) : Nat → Nat → Option Nat
  | _, 0 => none
  | i, d + 1 => if P i = true then some i else sf_fd P (i + 1) d
def sf_ul (U : Nat → Bool) : Nat → Nat → List Nat
  | _, 0 => []
  | i, d + 1 => if U i = true then i :: sf_ul U (i + 1) d else sf_ul U (i + 1) d
def sf_ct (Q : Nat → Bool) : Nat → Nat
  | 0 => 0
  | m + 1 => if Q m = true then sf_ct Q m + 1 else sf_ct Q m
def sf_fm (n : Nat) (F L W M V G : Nat → Int32) (k : Nat) : Option Nat := sf_fd (fun i => sf_has F L i k && sf_H W M V G i) 0 n
def sf_vd (A : Nat → Int32) (d : Int32) (o : Option Nat) : Int32 := match o with
  | some i => A i
  | none => d
theorem sf_b0 : sf_b false = 0 := rfl
theorem sf_b1 : sf_b true = 1 := rfl
theorem sf_br {b : Bool} {A B : Prop} (f : b = false → A) (g : b = true → B) : (sf_b b = 0 → A) ∧ (¬ sf_b b = 0 → B) := by
  cases b with
  | false => exact br_t rfl (f rfl)
  | true => exact br_f (by decide) (g rfl)
theorem sf_nt {b : Bool} (h : ¬ b = true) : b = false := by cases b <;> simp_all
theorem sf_tf {b : Bool} (h : b = true) (g : b = false) : False := by rw [h] at g; cases g
/-! first of a row -/
theorem sf_fd_some {P : Nat → Bool} : ∀ d i k, i ≤ k → k < i + d → P k = true → (∀ j, i ≤ j → j < k → P j = false) → sf_fd P i d = some k := by
  intro d
  induction d with
  | zero => intro i k h1 h2; omega
  | succ d ih =>
    intro i k h1 h2 hp hj
    by_cases e : i = k
    · subst e; simp [sf_fd, hp]
    · have := hj i (Nat.le_refl i) (by omega)
      simp only [sf_fd, this]
      exact ih (i + 1) k (by omega) (by omega) hp (fun j a b => hj j (by omega) b)
theorem sf_fd_none {P : Nat → Bool} : ∀ d i, (∀ j, i ≤ j → j < i + d → P j = false) → sf_fd P i d = none := by
  intro d
  induction d with
  | zero => intro i _; rfl
  | succ d ih =>
    intro i h
    have := h i (Nat.le_refl i) (by omega)
    simp only [sf_fd, this]
    exact ih (i + 1) (fun j a b => h j (by omega) (by omega))
theorem sf_fd_is {P : Nat → Bool} : ∀ d i, (∃ k, i ≤ k ∧ k < i + d ∧ P k = true ∧ (∀ j, i ≤ j → j < k → P j = false) ∧ sf_fd P i d = some k) ∨ ((∀ j, i ≤ j → j < i + d → P j = false) ∧ sf_fd P i d = none) := by
  intro d
  induction d with
  | zero => intro i; exact Or.inr ⟨fun j a b => by omega, rfl⟩
  | succ d ih =>
    intro i
    cases hp : P i with
    | true => exact Or.inl ⟨i, Nat.le_refl i, by omega, hp, fun j a b => by omega, by simp [sf_fd, hp]⟩
    | false =>
      rcases ih (i + 1) with ⟨k, a, b, c, h, e⟩ | ⟨h, e⟩
      · refine Or.inl ⟨k, by omega, by omega, c, fun j x y => ?_, by simp [sf_fd, hp, e]⟩
        by_cases q : j = i
        · rw [q]; exact hp
        · exact h j (by omega) y
      · refine Or.inr ⟨fun j x y => ?_, by simp [sf_fd, hp, e]⟩
        by_cases q : j = i
        · rw [q]; exact hp
        · exact h j (by omega) (by omega)
theorem sf_fd_eq {P Q : Nat → Bool} : ∀ d i, (∀ j, i ≤ j → j < i + d → P j = Q j) → sf_fd P i d = sf_fd Q i d := by
  intro d
  induction d with
  | zero => intro i _; rfl
  | succ d ih =>
    intro i h
    have e := h i (Nat.le_refl i) (by omega)
    have e2 := ih (i + 1) (fun j a b => h j (by omega) (by omega))
    simp only [sf_fd, e, e2]
theorem sf_fd_lt {P : Nat → Bool} {d i k : Nat} (h : sf_fd P i d = some k) : i ≤ k ∧ k < i + d ∧ P k = true := by
  rcases sf_fd_is (P := P) d i with ⟨q, a, b, c, _, e⟩ | ⟨_, e⟩
  · rw [e] at h; cases h; exact ⟨a, b, c⟩
  · rw [e] at h; cases h
/-! the list of a set -/
theorem sf_ul_find {U H : Nat → Bool} : ∀ d i, (sf_ul U i d).find? H = sf_fd (fun j => U j && H j) i d := by
  intro d
  induction d with
  | zero => intro i; rfl
  | succ d ih =>
    intro i
    cases hu : U i with
    | false => simp [sf_ul, sf_fd, hu, ih]
    | true =>
      cases hh : H i with
      | false => simp [sf_ul, sf_fd, hu, hh, ih]
      | true => simp [sf_ul, sf_fd, hu, hh]
theorem sf_ul_len {U : Nat → Bool} : ∀ d i, (sf_ul U i d).length ≤ d := by
  intro d
  induction d with
  | zero => intro i; exact Nat.le_refl _
  | succ d ih =>
    intro i
    have := ih (i + 1)
    cases hu : U i with
    | false => simp [sf_ul, hu]; omega
    | true => simp [sf_ul, hu]; omega
theorem sf_ul_mem {U : Nat → Bool} : ∀ d i r, r ∈ sf_ul U i d → i ≤ r ∧ r < i + d := by
  intro d
  induction d with
  | zero => intro i r h; simp [sf_ul] at h
  | succ d ih =>
    intro i r h
    cases hu : U i with
    | false =>
      simp [sf_ul, hu] at h
      have := ih (i + 1) r h
      omega
    | true =>
      simp [sf_ul, hu] at h
      rcases h with h | h
      · omega
      · have := ih (i + 1) r h
        omega
/-! counts -/
theorem sf_ct_eq {P Q : Nat → Bool} : ∀ m, (∀ j, j < m → P j = Q j) → sf_ct P m = sf_ct Q m := by
  intro m
  induction m with
  | zero => intro _; rfl
  | succ m ih =>
    intro h
    have e := h m (by omega)
    have e2 := ih (fun j a => h j (by omega))
    simp only [sf_ct, e, e2]
theorem sf_ct_le {Q : Nat → Bool} : ∀ m, sf_ct Q m ≤ m := by
  intro m
  induction m with
  | zero => exact Nat.le_refl _
  | succ m ih => simp only [sf_ct]; split <;> omega
theorem sf_ct_none {Q : Nat → Bool} {p : Nat} : ∀ d, (∀ j, p ≤ j → j < p + d → Q j = false) → sf_ct Q (p + d) = sf_ct Q p := by
  intro d
  induction d with
  | zero => intro _; rfl
  | succ d ih =>
    intro h
    have e := h (p + d) (by omega) (by omega)
    rw [← Nat.add_assoc]
    simp only [sf_ct, e]
    exact ih (fun j a b => h j a (by omega))
theorem sf_ct_all {Q : Nat → Bool} {p : Nat} : ∀ d, (∀ j, p ≤ j → j < p + d → Q j = true) → sf_ct Q (p + d) = sf_ct Q p + d := by
  intro d
  induction d with
  | zero => intro _; rfl
  | succ d ih =>
    intro h
    have e := h (p + d) (by omega) (by omega)
    have e2 := ih (fun j a b => h j a (by omega))
    rw [← Nat.add_assoc]
    simp only [sf_ct, e, if_true]
    omega
theorem sf_ctN {Q : Nat → Bool} {p q : Nat} (hq : p ≤ q) (h : ∀ j, p ≤ j → j < q → Q j = false) : sf_ct Q q = sf_ct Q p := by
  obtain ⟨d, rfl⟩ : ∃ d, q = p + d := ⟨q - p, by omega⟩
  exact sf_ct_none d h
theorem sf_ctA {Q : Nat → Bool} {p q : Nat} (hq : p ≤ q) (h : ∀ j, p ≤ j → j < q → Q j = true) : sf_ct Q q = sf_ct Q p + (q - p) := by
  obtain ⟨d, rfl⟩ : ∃ d, q = p + d := ⟨q - p, by omega⟩
  rw [sf_ct_all d h]; omega
/-! masks -/
theorem sf_mk_lt (f : Nat → Bool) : ∀ n, sf_mk f n < 2 ^ n := by
  intro n
  induction n with
  | zero => exact Nat.one_pos
  | succ n ih =>
    have h2 : 2 ^ n < 2 ^ (n + 1) := Nat.pow_lt_pow_right (by decide) (by omega)
    have h1 : sf_mk f n < 2 ^ (n + 1) := Nat.lt_trans ih h2
    simp only [sf_mk]
    split
    · exact Nat.or_lt_two_pow h1 h2
    · exact h1
theorem sf_mk_tb (f : Nat → Bool) : ∀ n i, (sf_mk f n).testBit i = (decide (i < n) && f i) := by
  intro n
  induction n with
  | zero => intro i; simp [sf_mk]
  | succ n ih =>
    intro i
    have key : (sf_mk f (n + 1)).testBit i = ((sf_mk f n).testBit i || (f n && decide (n = i))) := by
      cases hf : f n with
      | false => simp [sf_mk, hf]
      | true => simp [sf_mk, hf, Nat.testBit_or, Nat.testBit_two_pow]
    rw [key, ih i]
    by_cases e : n = i
    · subst e; simp
    · have e1 : (decide (i < n + 1)) = decide (i < n) := by
        rw [decide_eq_decide]; omega
      simp [e, e1]
theorem sf_mk_le12 {f : Nat → Bool} {n : Nat} (h : n ≤ 12) : sf_mk f n < 4096 :=
  Nat.lt_of_lt_of_le (sf_mk_lt f n) (Nat.le_trans (Nat.pow_le_pow_right (by decide) h) (by decide))
theorem sf_mk_eq {f g : Nat → Bool} {n : Nat} : sf_mk f n = sf_mk g n ↔ ∀ i, i < n → f i = g i := by
  constructor
  · intro h i hi
    have a := sf_mk_tb f n i
    have b := sf_mk_tb g n i
    rw [h, b] at a
    simpa [hi] using a.symm
  · intro h
    apply Nat.eq_of_testBit_eq
    intro i
    rw [sf_mk_tb, sf_mk_tb]
    by_cases hi : i < n
    · rw [h i hi]
    · simp [hi]
theorem sf_mk_0 {f : Nat → Bool} {n : Nat} : sf_mk f n = 0 ↔ ∀ i, i < n → f i = false := by
  have e : sf_mk (fun _ => false) n = 0 := by
    apply Nat.eq_of_testBit_eq
    intro i
    rw [sf_mk_tb]; simp
  rw [← e, sf_mk_eq]
theorem nx_or (a b : Nat) : nI a ||| nI b = nI (a ||| b) := by
  apply Int32.toBitVec_inj.1
  show BitVec.ofNat 32 a ||| BitVec.ofNat 32 b = BitVec.ofNat 32 (a ||| b)
  apply BitVec.eq_of_getLsbD_eq
  intro i hi
  simp [hi]
theorem sf_1sh : ∀ r, r < 16 → (1 : Int32) <<< (nI r &&& 31) = nI (2 ^ r) := by decide +kernel
theorem sf_setb {f : Nat → Bool} {r : Nat} (hr : r < 16) (h : f r = true) : nI (sf_mk f r) ||| ((1 : Int32) <<< (nI r &&& 31)) = nI (sf_mk f (r + 1)) := by
  rw [sf_1sh r hr, nx_or]
  simp only [sf_mk, h, if_true]
theorem sf_bit {m r : Nat} (hm : m < 4096) (hr : r < 32) : (nI m >>> (nI r &&& 31)) &&& 1 = 1 ↔ m.testBit r = true := by
  rw [pk_shrN (by omega) (nI r &&& 31) r (s_l r hr), pk_andN (Nat.lt_of_le_of_lt (Nat.div_le_self _ _) (by omega)) 1 (by decide)]
  rw [Nat.testBit_eq_decide_div_mod_eq, decide_eq_true_eq]
  have e : (1 : Int32) = nI 1 := by decide
  rw [e, nI_eq (by omega) (by decide)]
/-! the lowest bit -/
theorem sf_lowb : ∀ a, a < 4096 → a ≠ 0 → ∃ i, i < 12 ∧ nI a &&& (-nI a) = nI (2 ^ i) ∧ a % 2 ^ (i + 1) = 2 ^ i := by decide +kernel
theorem sf_low0 : nI 0 &&& (-nI 0) = 0 := by decide
theorem sf_lowm : ∀ i, i < 12 → nI (2 ^ i) ||| (nI (2 ^ i) - 1) = nI (2 ^ (i + 1) - 1) ∧ nI (2 ^ i) ≠ 0 ∧ (nI (2 ^ (i + 1) - 1)).toBitVec.toNat = 2 ^ (i + 1) - 1 := by decide +kernel
theorem sf_lowt {a i : Nat} (h : a % 2 ^ (i + 1) = 2 ^ i) : a.testBit i = true ∧ ∀ j, j < i → a.testBit j = false := by
  constructor
  · have e := Nat.testBit_mod_two_pow a (i + 1) i
    rw [h, Nat.testBit_two_pow] at e
    simpa using e.symm
  · intro j hj
    have e := Nat.testBit_mod_two_pow a (i + 1) j
    rw [h, Nat.testBit_two_pow] at e
    have h1 : decide (i = j) = false := decide_eq_false (by omega)
    have h2 : decide (j < i + 1) = true := decide_eq_true (by omega)
    rw [h1, h2] at e
    simpa using e.symm
/-- a set of useful rules: between the rules that have the number and those of them up to the first without comparisons -/
def sf_Use (n : Nat) (h p : Nat → Bool) (U : Nat → Bool) : Prop :=
  (∀ r, U r = true → r < n ∧ h r = true) ∧ (∀ r, r < n → h r = true → (∀ j, j < r → h j = true → p j = false) → U r = true)
theorem sf_use_fd {n : Nat} {h p U H : Nat → Bool} (u : sf_Use n h p U) (hp : ∀ r, r < n → p r = true → H r = true) :
    sf_fd (fun j => U j && H j) 0 n = sf_fd (fun j => h j && H j) 0 n := by
  rcases sf_fd_is (P := fun j => h j && H j) n 0 with ⟨k, _, b, c, g, e⟩ | ⟨g, e⟩
  · rw [e]
    simp only [Bool.and_eq_true] at c
    refine sf_fd_some n 0 k (by omega) b ?_ ?_
    · have hu : U k = true := u.2 k (by omega) c.1 (fun j hj hh => by
        have := g j (by omega) hj
        cases hpj : p j with
        | false => rfl
        | true =>
          have := hp j (by omega) hpj
          simp_all)
      simp [hu, c.2]
    · intro j _ hj
      have := g j (by omega) hj
      cases hu : U j with
      | false => simp
      | true => have := (u.1 j hu).2; simp_all
  · rw [e]
    refine sf_fd_none n 0 (fun j _ hj => ?_)
    have := g j (by omega) hj
    cases hu : U j with
    | false => simp
    | true => have := (u.1 j hu).2; simp_all
end
section
theorem sf_two (i : Nat) : (2 : Int32) * nI i = nI (2 * i) := pk_mul 2 i
theorem sf_two1 (i : Nat) : (2 : Int32) * nI i + 1 = nI (2 * i + 1) := by rw [sf_two, nI_1]
theorem sf_w16 : ∀ w, w < 16 → nI w - nI w / 8 * 8 = nI w &&& 7 ∧ (nI w / 8) &&& 1 = nI w >>> ((3 : Int32) &&& 31) ∧ nI w >>> ((3 : Int32) &&& 31) = nI (w / 8) ∧ nI w &&& 7 = nI (w % 8) := by decide +kernel
def sf_W16 (W : Nat → Int32) (m : Nat) : Prop := ∀ c, c < m → ∃ w, w < 16 ∧ w % 8 ≠ 7 ∧ W c = nI w
theorem sf_fd_t {P : Nat → Bool} {i d : Nat} (h : P i = true) : sf_fd P i (d + 1) = some i := by simp [sf_fd, h]
theorem sf_fd_f {P : Nat → Bool} {i d : Nat} (h : P i = false) : sf_fd P i (d + 1) = sf_fd P (i + 1) d := by simp [sf_fd, h]
theorem sf_ct_t {P : Nat → Bool} {i : Nat} (h : P i = true) : sf_ct P (i + 1) = sf_ct P i + 1 := by simp [sf_ct, h]
theorem sf_ct_f {P : Nat → Bool} {i : Nat} (h : P i = false) : sf_ct P (i + 1) = sf_ct P i := by simp [sf_ct, h]
section
variable {rl ot : Int32} {fF fL fA fW fM fV aY : Nat → Int32}
theorem sf_ynum_ok {post : Int32 → Prop} {k : Nat} (hk : k < 32) (hp : post 0) : wpY_badNumber post (rl, ot, fF, fL, fA, fW, fM, fV, aY) (nI k) :=
  br_f (nI_pos (by omega)) (br_t (nI_le (b := 31) (by omega) (by decide)) hp)
theorem sf_ynum_bad {post : Int32 → Prop} {p : Int32} (h : p < 0 ∨ nI 32 ≤ p) (hp : post 1) : wpY_badNumber post (rl, ot, fF, fL, fA, fW, fM, fV, aY) p := by
  by_cases h0 : p < 0
  · exact br_t h0 hp
  · obtain ⟨j, hj, rfl⟩ := nI_of h0
    rcases h with h | h
    · exact absurd h h0
    · rw [nI_leI (by decide) hj] at h
      exact br_f h0 (br_f (nI_ge (a := 31) (by omega) hj) hp)
theorem sf_yact_ok {post : Int32 → Prop} {k : Nat} (hk : k < 4) (hp : post 0) : wpY_badAction post (rl, ot, fF, fL, fA, fW, fM, fV, aY) (nI k) :=
  br_f (nI_pos (by omega)) (br_t (nI_le (b := 3) (by omega) (by decide)) hp)
theorem sf_yact_bad {post : Int32 → Prop} {p : Int32} (h : p < 0 ∨ nI 4 ≤ p) (hp : post 1) : wpY_badAction post (rl, ot, fF, fL, fA, fW, fM, fV, aY) p := by
  by_cases h0 : p < 0
  · exact br_t h0 hp
  · obtain ⟨j, hj, rfl⟩ := nI_of h0
    rcases h with h | h
    · exact absurd h h0
    · rw [nI_leI (by decide) hj] at h
      exact br_f h0 (br_f (nI_ge (a := 3) (by omega) hj) hp)
theorem sf_yrule_ok {post : Int32 → Prop} {n k : Nat} (hn : n ≤ 12) (hk : k < n) (hp : post 0) : wpY_badRule post (nI n, ot, fF, fL, fA, fW, fM, fV, aY) (nI k) :=
  br_f (nI_pos (by omega)) (br_f (nI_ge hk (by omega)) (br_t (nI_lt (b := 12) (by omega) (by decide)) hp))
theorem sf_yrule_bad {post : Int32 → Prop} {n : Nat} {p : Int32} (hn : n ≤ 12) (h : p < 0 ∨ nI n ≤ p) (hp : post 1) : wpY_badRule post (nI n, ot, fF, fL, fA, fW, fM, fV, aY) p := by
  by_cases h0 : p < 0
  · exact br_t h0 hp
  · rcases h with h | h
    · exact absurd h h0
    · exact br_f h0 (br_t h hp)
theorem sf_ymet {post : Int32 → Prop} {c w : Nat} (hc : c < 28) (h16 : w < 16) (hw : fW c = nI w) (hp : post (sf_b (sf_met fW fM fV aY c))) : wpY_met post (rl, ot, fF, fL, fA, fW, fM, fV, aY) (nI c) := by
  have hi : vp_in (nI c) 28 := vp_in_nI hc (by decide)
  have hw2 : vp_in (nI (w / 8)) 2 := vp_in_nI (by omega) (by decide)
  obtain ⟨e1, e2, e3, _⟩ := sf_w16 w h16
  unfold sf_met at hp
  rw [hw, e3] at hp
  unfold wpY_met
  simp only [nI_clamp (show c < 2 ^ 31 by omega), hw, e1, e2, e3]
  generalize nI w &&& 7 = h at hp
  generalize aY (nI (w / 8)).toNatClampNeg &&& fM c = a at hp
  generalize fV c = v at hp
  refine ⟨hi, by decide, nm_e ?_⟩
  unfold sf_cmp at hp
  refine br_c (fun h0 => ?_) (fun h0 => ⟨hi, by decide, hw2, hi, nm_e ⟨hi, nm_e ?_⟩⟩)
  · rw [if_pos h0] at hp; exact hp
  rw [if_neg h0] at hp
  refine br_c (fun h1 => ?_) (fun h1 => ?_)
  · rw [if_pos h1] at hp
    exact br_c (fun e => by rw [decide_eq_true e] at hp; exact hp) (fun e => by rw [decide_eq_false e] at hp; exact hp)
  rw [if_neg h1] at hp
  refine br_c (fun h1 => ?_) (fun h1 => ?_)
  · rw [if_pos h1] at hp
    exact br_c (fun e => by rw [decide_eq_true e] at hp; exact hp) (fun e => by rw [decide_eq_false e] at hp; exact hp)
  rw [if_neg h1] at hp
  refine br_c (fun h1 => ?_) (fun h1 => ?_)
  · rw [if_pos h1] at hp
    exact br_c (fun e => by rw [decide_eq_false (Int32.not_lt.mpr e)] at hp; exact hp) (fun e => by rw [decide_eq_true (Int32.not_le.mp e)] at hp; exact hp)
  rw [if_neg h1] at hp
  refine br_c (fun h1 => ?_) (fun h1 => ?_)
  · rw [if_pos h1] at hp
    exact br_c (fun e => by rw [decide_eq_false (Int32.not_le.mpr e)] at hp; exact hp) (fun e => by rw [decide_eq_true (Int32.not_lt.mp e)] at hp; exact hp)
  rw [if_neg h1] at hp
  refine br_c (fun h1 => ?_) (fun h1 => ?_)
  · rw [if_pos h1] at hp
    exact br_c (fun e => by rw [decide_eq_false (Int32.not_lt.mpr e)] at hp; exact hp) (fun e => by rw [decide_eq_true (Int32.not_le.mp e)] at hp; exact hp)
  rw [if_neg h1] at hp
  exact br_c (fun e => by rw [decide_eq_false (Int32.not_le.mpr e)] at hp; exact hp) (fun e => by rw [decide_eq_true (Int32.not_lt.mp e)] at hp; exact hp)
theorem sf_yhas {post : Int32 → Prop} {i k : Nat} (hi : i < 14) (hp : post (sf_b (sf_has fF fL i k))) : wpY_has post (rl, ot, fF, fL, fA, fW, fM, fV, aY) (nI i) (nI k) := by
  have hi2 : vp_in (nI i) 14 := vp_in_nI hi (by decide)
  unfold wpY_has
  simp only [nI_clamp (show i < 2 ^ 31 by omega)]
  unfold sf_has at hp
  refine ⟨hi2, br_c (fun e => ?_) (fun e => ⟨hi2, br_c (fun e2 => ?_) (fun e2 => ?_)⟩)⟩
  · rw [decide_eq_false (Int32.not_le.mpr e)] at hp; exact hp
  · rw [decide_eq_true (Int32.not_lt.mp e), decide_eq_false (Int32.not_le.mpr e2)] at hp; exact hp
  · rw [decide_eq_true (Int32.not_lt.mp e), decide_eq_true (Int32.not_lt.mp e2)] at hp; exact hp
theorem sf_ymatches {post : Int32 → Prop} {n i k : Nat} (hn : n ≤ 12) (hW : sf_W16 fW (2 * n)) (hi : i < n) (hp : post (sf_b (sf_has fF fL i k && sf_H fW fM fV aY i))) : wpY_matches post (rl, ot, fF, fL, fA, fW, fM, fV, aY) (nI i) (nI k) := by
  obtain ⟨w1, a1, _, b1⟩ := hW (2 * i) (by omega)
  obtain ⟨w2, a2, _, b2⟩ := hW (2 * i + 1) (by omega)
  unfold wpY_matches
  simp only [sf_two, nI_1 (2 * i)]
  unfold sf_H at hp
  refine sf_yhas (by omega) (sf_br (fun e => ?_) (fun e => sf_ymet (by omega) a1 b1 (sf_br (fun e1 => ?_) (fun e1 => sf_ymet (by omega) a2 b2 (sf_br (fun e2 => ?_) (fun e2 => ?_))))))
  · rw [e] at hp; exact hp
  · rw [e, e1] at hp; exact hp
  · rw [e, e1, e2] at hp; exact hp
  · rw [e, e1, e2] at hp; exact hp
theorem sf_yfm_l {post : Int32 → Prop} {n k : Nat} (hn : n ≤ 12) (hW : sf_W16 fW (2 * n)) : ∀ d i fuel, i + d = n → d < fuel →
    post (sf_o (-2) (sf_fd (fun j => sf_has fF fL j k && sf_H fW fM fV aY j) i d)) → wY_firstMatch_2 post (nI k) (nI n) ot fF fL fA fW fM fV aY fuel (nI i) := by
  intro d
  induction d with
  | zero =>
    intro i fuel hi hf hp
    cases fuel with
    | zero => omega
    | succ f => exact br_t (nI_le (by omega) (by omega)) hp
  | succ d ih =>
    intro i fuel hi hf hp
    cases fuel with
    | zero => omega
    | succ f =>
      refine br_f (nI_ge (by omega) (by omega)) (br_f (nI_ge (b := 12) (by omega) (by decide)) (sf_ymatches hn hW (by omega) (sf_br (fun e => nm_r (nI_1 i) (ih (i + 1) f (by omega) (by omega) ?_)) (fun e => ?_))))
      · rw [sf_fd_f e] at hp; exact hp
      · rw [sf_fd_t e] at hp; exact hp
theorem sf_yfm {post : Int32 → Prop} {n k : Nat} (hn : n ≤ 12) (hW : sf_W16 fW (2 * n)) (hp : post (sf_o (-2) (sf_fm n fF fL fW fM fV aY k))) : wpY_firstMatch post (nI n, ot, fF, fL, fA, fW, fM, fV, aY) (nI k) :=
  ⟨n + 1, sf_yfm_l hn hW n 0 (n + 1) (by omega) (by omega) hp⟩
theorem sf_fm_lt {n k i : Nat} {F L W M V G : Nat → Int32} (h : sf_fm n F L W M V G k = some i) : i < n := by
  have := (sf_fd_lt h).2.1
  omega
theorem sf_yvd {post : Int32 → Prop} {n k : Nat} (hn : n ≤ 12) (hW : sf_W16 fW (2 * n)) (hp : post (sf_vd fA ot (sf_fm n fF fL fW fM fV aY k))) : wpY_verdict post (nI n, ot, fF, fL, fA, fW, fM, fV, aY) (nI k) := by
  unfold wpY_verdict
  dsimp only
  refine sf_yfm hn hW ?_
  cases e : sf_fm n fF fL fW fM fV aY k with
  | none => rw [e] at hp; exact br_f (by decide) hp
  | some i =>
    have := sf_fm_lt e
    rw [e] at hp
    refine br_t (nI_pos' (by omega)) ⟨vp_in_nI (by omega) (by decide), ?_⟩
    show post (fA (nI i).toNatClampNeg)
    rw [nI_clamp (by omega)]; exact hp
/-- the count that countWith asks -/
def sf_cw (a : Int32) (f t : Nat) (vd : Nat → Int32) (j : Nat) : Bool := decide (f ≤ j) && decide (j ≤ t) && decide (vd j = a)
theorem sf_ycw_l {post : Int32 → Prop} {n f t : Nat} {a : Int32} (hn : n ≤ 12) (hW : sf_W16 fW (2 * n)) (ht : t < 32) (hp : post (nI (sf_ct (sf_cw a f t (fun k => sf_vd fA ot (sf_fm n fF fL fW fM fV aY k))) (t + 1)))) : ∀ d k fuel, k + d = t + 1 → f ≤ k → d < fuel →
    wY_countWith_43 post a (nI t) (nI n) ot fF fL fA fW fM fV aY fuel (nI (sf_ct (sf_cw a f t (fun k => sf_vd fA ot (sf_fm n fF fL fW fM fV aY k))) k)) (nI k) := by
  intro d
  induction d with
  | zero =>
    intro k fuel hk hfk hf
    cases fuel with
    | zero => omega
    | succ m =>
      have e : k = t + 1 := by omega
      rw [e]
      exact br_t (nI_lt (by omega) (by omega)) hp
  | succ d ih =>
    intro k fuel hk hfk hf
    cases fuel with
    | zero => omega
    | succ m =>
      refine br_f (nI_nlt (by omega) (by omega)) (sf_yvd hn hW (br_c (fun e => nm_r (nI_1 _) (nm_r (nI_1 k) ?_)) (fun e => nm_r (nI_1 k) ?_)))
      · have := ih (k + 1) m (by omega) (by omega) (by omega)
        rw [sf_ct_t (by simp only [sf_cw]; rw [decide_eq_true hfk, decide_eq_true (show k ≤ t by omega), decide_eq_true e]; rfl)] at this
        exact this
      · have := ih (k + 1) m (by omega) (by omega) (by omega)
        rw [sf_ct_f (by simp only [sf_cw]; rw [decide_eq_false e]; simp)] at this
        exact this
theorem sf_ynw_l {post : Int32 → Prop} {n : Nat} {a : Int32} (hn : n ≤ 12) (hW : sf_W16 fW (2 * n)) : ∀ d k fuel, k + d = 32 → d < fuel →
    post (sf_o (-3) (sf_fd (fun j => decide (sf_vd fA ot (sf_fm n fF fL fW fM fV aY j) = a)) k d)) → wY_nextWith_23 post a (nI n) ot fF fL fA fW fM fV aY fuel (nI k) := by
  intro d
  induction d with
  | zero =>
    intro k fuel hk hf hp
    cases fuel with
    | zero => omega
    | succ m => exact br_t (nI_le (a := 32) (by omega) (by omega)) hp
  | succ d ih =>
    intro k fuel hk hf hp
    cases fuel with
    | zero => omega
    | succ m =>
      refine br_f (nI_ge (b := 32) (by omega) (by decide)) (sf_yvd hn hW (br_c (fun e => ?_) (fun e => nm_r (nI_1 k) (ih (k + 1) m (by omega) (by omega) ?_))))
      · rw [sf_fd_t (decide_eq_true e)] at hp; exact hp
      · rw [sf_fd_f (decide_eq_false e)] at hp; exact hp
theorem sf_ymg_l {post : Int32 → Prop} {n k : Nat} (hn : n ≤ 12) (hW : sf_W16 fW (2 * n)) (hp : post (nI (sf_ct (fun j => sf_has fF fL j k && sf_H fW fM fV aY j) n))) : ∀ d i fuel, i + d = n → d < fuel →
    wY_matching_14 post (nI k) (nI n) ot fF fL fA fW fM fV aY fuel (nI (sf_ct (fun j => sf_has fF fL j k && sf_H fW fM fV aY j) i)) (nI i) := by
  intro d
  induction d with
  | zero =>
    intro i fuel hi hf
    cases fuel with
    | zero => omega
    | succ m =>
      have e : i = n := by omega
      subst e
      exact br_t (nI_le (by omega) (by omega)) hp
  | succ d ih =>
    intro i fuel hi hf
    cases fuel with
    | zero => omega
    | succ m =>
      refine br_f (nI_ge (by omega) (by omega)) (br_f (nI_ge (b := 12) (by omega) (by decide)) (sf_ymatches hn hW (by omega) (sf_br (fun e => nm_r (nI_1 i) ?_) (fun e => nm_r (nI_1 _) (nm_r (nI_1 i) ?_)))))
      · have := ih (i + 1) m (by omega) (by omega)
        rw [sf_ct_f e] at this
        exact this
      · have := ih (i + 1) m (by omega) (by omega)
        rw [sf_ct_t e] at this
        exact this
end
end
section
/-- an earlier rule without comparisons has this number -/
def sf_sh (F L W : Nat → Int32) (pos k : Nat) : Bool := (sf_fd (fun i => sf_has F L i k && sf_pl W i) 0 pos).isSome
/-- rule pos has the number and no earlier one hides it -/
def sf_vis (F L W : Nat → Int32) (pos k : Nat) : Bool := sf_has F L pos k && !sf_sh F L W pos k
def sf_hid (F L W : Nat → Int32) (pos : Nat) : Int32 := sf_b (!(sf_fd (sf_vis F L W pos) 0 32).isSome)
/-- a stretch begins at k -/
def sf_st (n : Nat) (F L : Nat → Int32) (k : Nat) : Bool := decide (k = 0) || !decide (sf_mk (fun i => sf_has F L i k) n = sf_mk (fun i => sf_has F L i (k - 1)) n)
/-- no rule has k -/
def sf_emp (n : Nat) (F L : Nat → Int32) (k : Nat) : Bool := decide (sf_mk (fun i => sf_has F L i k) n = 0)
theorem sf_hid0 {F L W : Nat → Int32} {pos k : Nat} (hk : k < 32) (h : sf_vis F L W pos k = true) : sf_hid F L W pos = 0 := by
  unfold sf_hid
  rcases sf_fd_is (P := sf_vis F L W pos) 32 0 with ⟨q, _, _, _, _, e⟩ | ⟨g, _⟩
  · rw [e]; rfl
  · exact (sf_tf h (g k (by omega) (by omega))).elim
theorem sf_hid1 {F L W : Nat → Int32} {pos : Nat} (h : ∀ k, k < 32 → sf_vis F L W pos k = false) : sf_hid F L W pos = 1 := by
  unfold sf_hid
  rw [sf_fd_none 32 0 (fun j _ hj => h j (by omega))]; rfl
theorem sf_plw {w : Nat} (hw : w < 16) : (nI w - nI w / 8 * 8 = 0) ↔ (nI w &&& 7 = 0) := by rw [(sf_w16 w hw).1]
section
variable {rl ot : Int32} {fF fL fA fW fM fV aY : Nat → Int32}
theorem sf_ysh_l {post : Int32 → Prop} {n pos k : Nat} (hn : n ≤ 12) (hW : sf_W16 fW (2 * n)) (hpos : pos ≤ n) : ∀ d i fuel, i + d = pos → d < fuel →
    post (sf_b (sf_fd (fun j => sf_has fF fL j k && sf_pl fW j) i d).isSome) → wY_shadowed_2 post (nI pos) (nI k) rl ot fF fL fA fW fM fV aY fuel (nI i) := by
  intro d
  induction d with
  | zero =>
    intro i fuel hi hf hp
    cases fuel with
    | zero => omega
    | succ m => exact br_t (nI_le (by omega) (by omega)) hp
  | succ d ih =>
    intro i fuel hi hf hp
    cases fuel with
    | zero => omega
    | succ m =>
      obtain ⟨w1, a1, _, b1⟩ := hW (2 * i) (by omega)
      obtain ⟨w2, a2, _, b2⟩ := hW (2 * i + 1) (by omega)
      have i1 : vp_in (nI (2 * i)) 28 := vp_in_nI (by omega) (by decide)
      have i2 : vp_in (nI (2 * i + 1)) 28 := vp_in_nI (by omega) (by decide)
      have go : (sf_has fF fL i k && sf_pl fW i) = false → wY_shadowed_2 post (nI pos) (nI k) rl ot fF fL fA fW fM fV aY m (nI (i + 1)) := fun e => ih (i + 1) m (by omega) (by omega) (by rw [sf_fd_f e] at hp; exact hp)
      have fin : (sf_has fF fL i k && sf_pl fW i) = true → post 1 := fun e => (by rw [sf_fd_t e] at hp; exact hp)
      refine br_f (nI_ge (by omega) (by omega)) (br_f (nI_ge (b := 12) (by omega) (by decide)) (sf_yhas (by omega) (sf_br (fun e => nm_r (nI_1 i) (go (by rw [e]; rfl))) (fun e => ?_))))
      simp only [sf_two, nI_1 (2 * i), nI_clamp (show 2 * i < 2 ^ 31 by omega), nI_clamp (show 2 * i + 1 < 2 ^ 31 by omega), b1, b2, sf_plw a1, sf_plw a2]
      rw [e] at go fin
      simp only [sf_pl, b1, b2] at go fin
      refine ⟨i1, by decide, br_c (fun z1 => ⟨i2, by decide, br_c (fun z2 => ?_) (fun z2 => nm_r (nI_1 i) ?_)⟩) (fun z1 => nm_r (nI_1 i) ?_)⟩
      · exact fin (by rw [decide_eq_true z1, decide_eq_true z2]; rfl)
      · exact go (by rw [decide_eq_true z1, decide_eq_false z2]; rfl)
      · exact go (by rw [decide_eq_false z1]; rfl)
theorem sf_ysh {post : Int32 → Prop} {n pos k : Nat} (hn : n ≤ 12) (hW : sf_W16 fW (2 * n)) (hpos : pos ≤ n) (hp : post (sf_b (sf_sh fF fL fW pos k))) : wpY_shadowed post (rl, ot, fF, fL, fA, fW, fM, fV, aY) (nI pos) (nI k) :=
  ⟨pos + 1, sf_ysh_l hn hW hpos pos 0 (pos + 1) (by omega) (by omega) hp⟩
theorem sf_yhid_l {post : Int32 → Prop} {n pos f : Nat} (hn : n ≤ 12) (hW : sf_W16 fW (2 * n)) (hpos : pos < n) (hF : fF pos = nI f) (hp : post (sf_hid fF fL fW pos)) : ∀ d k fuel, k + d = 32 → f ≤ k → d < fuel →
    (∀ j, j < k → sf_vis fF fL fW pos j = false) → wY_hidden_17 post (nI pos) rl ot fF fL fA fW fM fV aY fuel (nI k) := by
  intro d
  induction d with
  | zero =>
    intro k fuel hk hfk hf hv
    cases fuel with
    | zero => omega
    | succ m =>
      have e := sf_hid1 (F := fF) (L := fL) (W := fW) (pos := pos) (fun j hj => hv j (by omega))
      rw [e] at hp
      exact ⟨vp_in_nI (by omega) (by decide), br_c (fun _ => hp) (fun _ => br_t (nI_le (a := 32) (by omega) (by omega)) hp)⟩
  | succ d ih =>
    intro k fuel hk hfk hf hv
    cases fuel with
    | zero => omega
    | succ m =>
      refine ⟨vp_in_nI (by omega) (by decide), ?_⟩
      simp only [nI_clamp (show pos < 2 ^ 31 by omega)]
      refine br_c (fun e => ?_) (fun e => br_f (nI_ge (b := 32) (by omega) (by decide)) (sf_ysh hn hW (by omega) (sf_br (fun e2 => ?_) (fun e2 => nm_r (nI_1 k) (ih (k + 1) m (by omega) (by omega) (by omega) ?_)))))
      · have q := sf_hid1 (F := fF) (L := fL) (W := fW) (pos := pos) (fun j hj => by
          by_cases jk : j < k
          · exact hv j jk
          · have h1 : ¬ nI j ≤ fL pos := by
              have : nI k ≤ nI j := nI_le (by omega) (by omega)
              intro z
              exact Int32.not_le.mpr e (Int32.le_trans this z)
            unfold sf_vis sf_has
            rw [decide_eq_false h1]; simp)
        rw [q] at hp; exact hp
      · have hv' : sf_vis fF fL fW pos k = true := by
          unfold sf_vis sf_has
          rw [e2, hF, decide_eq_true (nI_le hfk (by omega)), decide_eq_true (Int32.not_lt.mp e)]; rfl
        rw [sf_hid0 (by omega) hv'] at hp; exact hp
      · intro j hj
        by_cases jk : j < k
        · exact hv j jk
        · have : j = k := by omega
          rw [this]; unfold sf_vis; rw [e2]; simp
theorem sf_yst_i {post : Int32 → Prop} {J : Int32 → Int32 → Prop} {n k : Nat} {x : Int32} (hn : n ≤ 12) (hk : 0 < k) (hk2 : k < 32)
    (K : sf_st n fF fL k = true → J (x + 1) (nI (k + 1))) (K2 : sf_st n fF fL k = false → J x (nI (k + 1))) : ∀ d i fuel (y : Int32), i + d = n → d < fuel →
    ((y = 1 ∧ ∀ j, j < i → sf_has fF fL j k = sf_has fF fL j (k - 1)) ∨ (y = 0 ∧ ∃ j, j < i ∧ sf_has fF fL j k ≠ sf_has fF fL j (k - 1))) →
    wY_stretches_15 post J x (nI k) (nI n) ot fF fL fA fW fM fV aY fuel y (nI i) := by
  intro d
  induction d with
  | zero =>
    intro i fuel y hi hf hy
    cases fuel with
    | zero => omega
    | succ m =>
      have ei : i = n := by omega
      subst ei
      refine br_t (nI_le (by omega) (by omega)) ?_
      unfold wY_stretches_58
      rcases hy with ⟨rfl, h⟩ | ⟨rfl, j, hj, h⟩
      · refine br_f (by decide) (nm_r (nI_1 k) (K2 ?_))
        unfold sf_st
        rw [decide_eq_false (by omega), decide_eq_true (sf_mk_eq.mpr h)]; rfl
      · refine br_t rfl (nm_e (nm_r (nI_1 k) (K ?_)))
        unfold sf_st
        rw [decide_eq_false (p := sf_mk _ _ = sf_mk _ _) (fun z => h (sf_mk_eq.mp z j hj))]; simp
  | succ d ih =>
    intro i fuel y hi hf hy
    cases fuel with
    | zero => omega
    | succ m =>
      have ek : nI k - 1 = nI (k - 1) := pk_sub (b := 1) (by omega)
      refine br_f (nI_ge (by omega) (by omega)) (br_f (nI_ge (b := 12) (by omega) (by decide)) (sf_yhas (by omega) ?_))
      rw [ek]
      refine sf_yhas (by omega) (br_c (fun e => nm_r (nI_1 i) (ih (i + 1) m y (by omega) (by omega) ?_)) (fun e => nm_r (nI_1 i) (ih (i + 1) m 0 (by omega) (by omega) ?_)))
      · have e' : sf_has fF fL i k = sf_has fF fL i (k - 1) := by
          cases h1 : sf_has fF fL i k <;> cases h2 : sf_has fF fL i (k - 1) <;> simp_all [sf_b]
        rcases hy with ⟨a, h⟩ | ⟨a, j, hj, h⟩
        · refine Or.inl ⟨a, fun j hj => ?_⟩
          by_cases q : j = i
          · rw [q]; exact e'
          · exact h j (by omega)
        · exact Or.inr ⟨a, j, by omega, h⟩
      · exact Or.inr ⟨rfl, i, by omega, fun z => e (by rw [z])⟩
theorem sf_yst_o {post : Int32 → Prop} {n : Nat} (hn : n ≤ 12) (hp : post (nI (sf_ct (sf_st n fF fL) 32))) : ∀ d k fuel, k + d = 32 → 0 < k → d < fuel →
    wY_stretches_4 post (nI n) ot fF fL fA fW fM fV aY fuel (nI (sf_ct (sf_st n fF fL) k)) (nI k) := by
  intro d
  induction d with
  | zero =>
    intro k fuel hk h0 hf
    cases fuel with
    | zero => omega
    | succ m =>
      have e : k = 32 := by omega
      subst e
      exact br_t (nI_le (a := 32) (by omega) (by omega)) hp
  | succ d ih =>
    intro k fuel hk h0 hf
    cases fuel with
    | zero => omega
    | succ m =>
      refine br_f (nI_ge (b := 32) (by omega) (by decide)) ⟨n + 1, sf_yst_i hn h0 (by omega) (fun e => ?_) (fun e => ?_) n 0 (n + 1) 1 (by omega) (by omega) (Or.inl ⟨rfl, fun j hj => by omega⟩)⟩
      · have := ih (k + 1) m (by omega) (by omega) (by omega)
        rw [sf_ct_t e, ← nI_1 (sf_ct _ _)] at this; exact this
      · have := ih (k + 1) m (by omega) (by omega) (by omega)
        rw [sf_ct_f e] at this; exact this
theorem sf_yop_i {post : Int32 → Prop} {J : Int32 → Int32 → Prop} {n k : Nat} {x : Int32} (hn : n ≤ 12)
    (K : sf_emp n fF fL k = true → J (x + 1) (nI (k + 1))) (K2 : sf_emp n fF fL k = false → J x (nI (k + 1))) : ∀ d i fuel (y : Int32), i + d = n → d < fuel →
    ((y = 0 ∧ ∀ j, j < i → sf_has fF fL j k = false) ∨ (y = 1 ∧ ∃ j, j < i ∧ sf_has fF fL j k = true)) →
    wY_open_15 post J x (nI k) (nI n) ot fF fL fA fW fM fV aY fuel y (nI i) := by
  intro d
  induction d with
  | zero =>
    intro i fuel y hi hf hy
    cases fuel with
    | zero => omega
    | succ m =>
      have ei : i = n := by omega
      subst ei
      refine br_t (nI_le (by omega) (by omega)) ?_
      unfold wY_open_49
      rcases hy with ⟨rfl, h⟩ | ⟨rfl, j, hj, h⟩
      · refine br_t rfl (nm_e (nm_r (nI_1 k) (K ?_)))
        unfold sf_emp
        exact decide_eq_true (sf_mk_0.mpr h)
      · refine br_f (by decide) (nm_r (nI_1 k) (K2 ?_))
        unfold sf_emp
        exact decide_eq_false (fun z => sf_tf h (sf_mk_0.mp z j hj))
  | succ d ih =>
    intro i fuel y hi hf hy
    cases fuel with
    | zero => omega
    | succ m =>
      refine br_f (nI_ge (by omega) (by omega)) (br_f (nI_ge (b := 12) (by omega) (by decide)) (sf_yhas (by omega) (sf_br (fun e => nm_r (nI_1 i) (ih (i + 1) m y (by omega) (by omega) ?_)) (fun e => nm_r (nI_1 i) (ih (i + 1) m 1 (by omega) (by omega) ?_)))))
      · rcases hy with ⟨a, h⟩ | ⟨a, j, hj, h⟩
        · refine Or.inl ⟨a, fun j hj => ?_⟩
          by_cases q : j = i
          · rw [q]; exact e
          · exact h j (by omega)
        · exact Or.inr ⟨a, j, by omega, h⟩
      · exact Or.inr ⟨rfl, i, by omega, e⟩
theorem sf_yop_o {post : Int32 → Prop} {n : Nat} (hn : n ≤ 12) (hp : post (nI (sf_ct (sf_emp n fF fL) 32))) : ∀ d k fuel, k + d = 32 → d < fuel →
    wY_open_4 post (nI n) ot fF fL fA fW fM fV aY fuel (nI (sf_ct (sf_emp n fF fL) k)) (nI k) := by
  intro d
  induction d with
  | zero =>
    intro k fuel hk hf
    cases fuel with
    | zero => omega
    | succ m =>
      have e : k = 32 := by omega
      subst e
      exact br_t (nI_le (a := 32) (by omega) (by omega)) hp
  | succ d ih =>
    intro k fuel hk hf
    cases fuel with
    | zero => omega
    | succ m =>
      refine br_f (nI_ge (b := 32) (by omega) (by decide)) ⟨n + 1, sf_yop_i hn (fun e => ?_) (fun e => ?_) n 0 (n + 1) 0 (by omega) (by omega) (Or.inl ⟨rfl, fun j hj => by omega⟩)⟩
      · have := ih (k + 1) m (by omega) (by omega)
        rw [sf_ct_t e, ← nI_1 (sf_ct _ _)] at this; exact this
      · have := ih (k + 1) m (by omega) (by omega)
        rw [sf_ct_f e] at this; exact this
end
end
section
/-! the rule list as a row of moves: sf_R6 s old new: new rule j is old rule s j -/
def sf_t (s : Nat → Nat) (j : Nat) : Nat := 2 * s (j / 2) + j % 2
def sf_cp (a b : Nat) (j : Nat) : Nat := if j = b then a else j
def sf_up (i n : Nat) (j : Nat) : Nat := if i < j ∧ j ≤ n then j - 1 else j
def sf_dn (p i : Nat) (j : Nat) : Nat := if p ≤ j ∧ j + 1 < i then j + 1 else j
def sf_R6 (s : Nat → Nat) (f l w m v a f' l' w' m' v' a' : Nat → Int32) : Prop :=
  (∀ j, f' j = f (s j) ∧ l' j = l (s j) ∧ a' j = a (s j)) ∧ (∀ j, w' j = w (sf_t s j) ∧ m' j = m (sf_t s j) ∧ v' j = v (sf_t s j))
theorem sf_t_t (s r : Nat → Nat) (j : Nat) : sf_t s (sf_t r j) = sf_t (fun i => s (r i)) j := by
  unfold sf_t
  have e1 : (2 * r (j / 2) + j % 2) / 2 = r (j / 2) := by omega
  have e2 : (2 * r (j / 2) + j % 2) % 2 = j % 2 := by omega
  rw [e1, e2]
theorem sf_R6_comp {s r t : Nat → Nat} {f l w m v a f' l' w' m' v' a' f2 l2 w2 m2 v2 a2 : Nat → Int32} (h : sf_R6 s f l w m v a f' l' w' m' v' a') (g : sf_R6 r f' l' w' m' v' a' f2 l2 w2 m2 v2 a2)
    (e : ∀ j, s (r j) = t j) : sf_R6 t f l w m v a f2 l2 w2 m2 v2 a2 := by
  have e' : (fun i => s (r i)) = t := funext e
  refine ⟨fun j => ?_, fun j => ?_⟩
  · obtain ⟨a1, a2, a3⟩ := g.1 j
    obtain ⟨b1, b2, b3⟩ := h.1 (r j)
    rw [e j] at b1 b2 b3
    exact ⟨a1.trans b1, a2.trans b2, a3.trans b3⟩
  · obtain ⟨a1, a2, a3⟩ := g.2 j
    obtain ⟨b1, b2, b3⟩ := h.2 (sf_t r j)
    rw [sf_t_t, e'] at b1 b2 b3
    exact ⟨a1.trans b1, a2.trans b2, a3.trans b3⟩
theorem sf_R6_id {f l w m v a : Nat → Int32} {s : Nat → Nat} (e : ∀ j, s j = j) : sf_R6 s f l w m v a f l w m v a := by
  refine ⟨fun j => ?_, fun j => ?_⟩
  · rw [e j]; exact ⟨rfl, rfl, rfl⟩
  · have : sf_t s j = j := by unfold sf_t; rw [e]; omega
    rw [this]; exact ⟨rfl, rfl, rfl⟩
theorem sf_c1 (f : Nat → Int32) (a b j : Nat) : upd f b (f a) j = f (sf_cp a b j) := by
  unfold upd sf_cp
  by_cases h : j = b
  · rw [if_pos h, if_pos h]
  · rw [if_neg h, if_neg h]
theorem sf_c2 (g : Nat → Int32) (a b j : Nat) : upd (upd g (2 * b + 0) (g (2 * a + 0))) (2 * b + 1) (upd g (2 * b + 0) (g (2 * a + 0)) (2 * a + 1)) j = g (sf_t (sf_cp a b) j) := by
  have e0 : upd g (2 * b + 0) (g (2 * a + 0)) (2 * a + 1) = g (2 * a + 1) := pk_un (by omega)
  rw [e0]
  unfold upd sf_t sf_cp
  by_cases h : j / 2 = b
  · rw [if_pos h]
    by_cases h1 : j = 2 * b + 1
    · rw [if_pos h1]; exact congrArg g (by omega)
    · rw [if_neg h1, if_pos (by omega)]; exact congrArg g (by omega)
  · rw [if_neg h, if_neg (by omega), if_neg (by omega)]; exact congrArg g (by omega)
section
variable {rl ot : Int32} {fF fL fA fW fM fV aY : Nat → Int32}
variable {fF2 fL2 fA2 fW2 fM2 fV2 : Nat → Int32}
theorem sf_ycopy_s {post : SY → Prop} {a b k n : Nat} (ha : a < 14) (hb : b < 14) (hk : k < 2)
    (K : wY_copy_38 post (nI a) (nI b) rl ot n (nI (k + 1)) fF fL fA (upd fW (2 * b + k) (fW (2 * a + k))) (upd fM (2 * b + k) (fM (2 * a + k))) (upd fV (2 * b + k) (fV (2 * a + k))) aY) :
    wY_copy_38 post (nI a) (nI b) rl ot (n + 1) (nI k) fF fL fA fW fM fV aY := by
  have e1 : (2 : Int32) * nI a + nI k = nI (2 * a + k) := by rw [sf_two, nI_add]
  have e2 : (2 : Int32) * nI b + nI k = nI (2 * b + k) := by rw [sf_two, nI_add]
  have i1 : vp_in (nI (2 * a + k)) 28 := vp_in_nI (by omega) (by decide)
  have i2 : vp_in (nI (2 * b + k)) 28 := vp_in_nI (by omega) (by decide)
  refine br_f (nI_ge (b := 2) hk (by decide)) ?_
  simp only [e1, e2, nI_clamp (show 2 * a + k < 2 ^ 31 by omega), nI_clamp (show 2 * b + k < 2 ^ 31 by omega)]
  exact ⟨i1, i2, nm_e ⟨i1, i2, nm_e ⟨i1, i2, nm_e (nm_r (nI_1 k) K)⟩⟩⟩
theorem sf_ycopy {post : SY → Prop} {a b : Nat} (ha : a < 14) (hb : b < 14)
    (K : ∀ fF2 fL2 fW2 fM2 fV2 fA2, sf_R6 (sf_cp a b) fF fL fW fM fV fA fF2 fL2 fW2 fM2 fV2 fA2 → post (rl, ot, fF2, fL2, fA2, fW2, fM2, fV2, aY)) : wpY_copy post (rl, ot, fF, fL, fA, fW, fM, fV, aY) (nI a) (nI b) := by
  have i1 : vp_in (nI a) 14 := vp_in_nI ha (by decide)
  have i2 : vp_in (nI b) 14 := vp_in_nI hb (by decide)
  unfold wpY_copy
  simp only [nI_clamp (show a < 2 ^ 31 by omega), nI_clamp (show b < 2 ^ 31 by omega)]
  refine ⟨i1, i2, nm_e ⟨i1, i2, nm_e ⟨i1, i2, nm_e ⟨3, sf_ycopy_s (k := 0) ha hb (by decide) (sf_ycopy_s (k := 1) ha hb (by decide) (br_t (nI_le (a := 2) (by decide) (by decide)) (K _ _ _ _ _ _ ?_)))⟩⟩⟩⟩
  exact ⟨fun j => ⟨sf_c1 _ a b j, sf_c1 _ a b j, sf_c1 _ a b j⟩, fun j => ⟨sf_c2 _ a b j, sf_c2 _ a b j, sf_c2 _ a b j⟩⟩
theorem sf_yins_l {post : SY → Prop} {n p q : Nat} (hn : n ≤ 11) (hp : p ≤ n) (hq : q < 14)
    (K : ∀ fF2 fL2 fW2 fM2 fV2 fA2, sf_R6 (fun j => sf_up p n (sf_cp q p j)) fF fL fW fM fV fA fF2 fL2 fW2 fM2 fV2 fA2 → post (nI (n + 1), ot, fF2, fL2, fA2, fW2, fM2, fV2, aY)) :
    ∀ d i fuel fF2 fL2 fW2 fM2 fV2 fA2, i = p + d → i ≤ n → d < fuel → sf_R6 (sf_up i n) fF fL fW fM fV fA fF2 fL2 fW2 fM2 fV2 fA2 →
    wY_insert_5 post (nI p) (nI q) fuel (nI i) (nI n) ot fF2 fL2 fA2 fW2 fM2 fV2 aY := by
  intro d
  induction d with
  | zero =>
    intro i fuel fF2 fL2 fW2 fM2 fV2 fA2 hi hin hf h
    cases fuel with
    | zero => omega
    | succ m =>
      have e : i = p := by omega
      subst e
      refine br_t (nI_le (by omega) (by omega)) ?_
      unfold wY_insert_30
      refine sf_ycopy hq (by omega) (fun fF3 fL3 fW3 fM3 fV3 fA3 g => ?_)
      exact nm_r (nI_1 n) (K _ _ _ _ _ _ (sf_R6_comp h g (fun _ => rfl)))
  | succ d ih =>
    intro i fuel fF2 fL2 fW2 fM2 fV2 fA2 hi hin hf h
    cases fuel with
    | zero => omega
    | succ m =>
      obtain ⟨r, rfl⟩ : ∃ r, i = r + 1 := ⟨i - 1, by omega⟩
      refine br_f (nI_ge (by omega) (by omega)) (br_f (nI_nlt (a := 11) (by omega) (by decide)) ?_)
      rw [nI_pred r]
      refine sf_ycopy (by omega) (by omega) (fun fF3 fL3 fW3 fM3 fV3 fA3 g => ?_)
      refine nm_r (pk_m1 r) (ih r m fF3 fL3 fW3 fM3 fV3 fA3 (by omega) (by omega) (by omega) (sf_R6_comp h g (fun j => ?_)))
      unfold sf_up sf_cp
      by_cases e : j = r + 1
      · rw [if_pos e, if_neg (by omega), if_pos (by omega)]; omega
      · rw [if_neg e]
        by_cases e2 : r < j ∧ j ≤ n
        · rw [if_pos (by omega), if_pos e2]
        · rw [if_neg (by omega), if_neg e2]
theorem sf_yins {post : SY → Prop} {n p q : Nat} (hn : n ≤ 11) (hp : p ≤ n) (hq : q < 14)
    (K : ∀ fF2 fL2 fW2 fM2 fV2 fA2, sf_R6 (fun j => sf_up p n (sf_cp q p j)) fF fL fW fM fV fA fF2 fL2 fW2 fM2 fV2 fA2 → post (nI (n + 1), ot, fF2, fL2, fA2, fW2, fM2, fV2, aY)) : wpY_insert post (nI n, ot, fF, fL, fA, fW, fM, fV, aY) (nI p) (nI q) :=
  ⟨n - p + 1, sf_yins_l hn hp hq K (n - p) n (n - p + 1) _ _ _ _ _ _ (by omega) (by omega) (by omega) (sf_R6_id (fun j => by unfold sf_up; rw [if_neg (by omega)]))⟩
theorem sf_ytake_l {post : SY → Prop} {n p : Nat} (hn : n ≤ 12) (hp : p < n)
    (K : ∀ fF2 fL2 fW2 fM2 fV2 fA2, sf_R6 (sf_dn p n) fF fL fW fM fV fA fF2 fL2 fW2 fM2 fV2 fA2 → post (nI (n - 1), ot, fF2, fL2, fA2, fW2, fM2, fV2, aY)) :
    ∀ d i fuel fF2 fL2 fW2 fM2 fV2 fA2, i + 1 + d = n → p ≤ i → d < fuel → sf_R6 (sf_dn p (i + 1)) fF fL fW fM fV fA fF2 fL2 fW2 fM2 fV2 fA2 →
    wY_takeOut_2 post fuel (nI i) (nI n) ot fF2 fL2 fA2 fW2 fM2 fV2 aY := by
  have en : nI n - 1 = nI (n - 1) := pk_sub (b := 1) (by omega)
  intro d
  induction d with
  | zero =>
    intro i fuel fF2 fL2 fW2 fM2 fV2 fA2 hi hpi hf h
    cases fuel with
    | zero => omega
    | succ m =>
      have e : i + 1 = n := by omega
      rw [e] at h
      refine br_t ?_ (nm_r en (K _ _ _ _ _ _ h))
      rw [en]; exact nI_le (by omega) (by omega)
  | succ d ih =>
    intro i fuel fF2 fL2 fW2 fM2 fV2 fA2 hi hpi hf h
    cases fuel with
    | zero => omega
    | succ m =>
      refine br_f ?_ (br_f (nI_ge (b := 11) (by omega) (by decide)) ?_)
      · rw [en]; exact nI_ge (by omega) (by omega)
      rw [nI_1 i]
      refine sf_ycopy (by omega) (by omega) (fun fF3 fL3 fW3 fM3 fV3 fA3 g => ?_)
      refine nm_e (ih (i + 1) m fF3 fL3 fW3 fM3 fV3 fA3 (by omega) (by omega) (by omega) (sf_R6_comp h g (fun j => ?_)))
      unfold sf_dn sf_cp
      by_cases e : j = i
      · rw [if_pos e, if_neg (by omega), if_pos (by omega)]; omega
      · rw [if_neg e]
        by_cases e2 : p ≤ j ∧ j + 1 < i + 1
        · rw [if_pos e2, if_pos (by omega)]
        · rw [if_neg e2, if_neg (by omega)]
theorem sf_ytake {post : SY → Prop} {n p : Nat} (hn : n ≤ 12) (hp : p < n)
    (K : ∀ fF2 fL2 fW2 fM2 fV2 fA2, sf_R6 (sf_dn p n) fF fL fW fM fV fA fF2 fL2 fW2 fM2 fV2 fA2 → post (nI (n - 1), ot, fF2, fL2, fA2, fW2, fM2, fV2, aY)) : wpY_takeOut post (nI n, ot, fF, fL, fA, fW, fM, fV, aY) (nI p) :=
  ⟨n - p + 1, sf_ytake_l hn hp K (n - 1 - p) p (n - p + 1) _ _ _ _ _ _ (by omega) (by omega) (by omega) (sf_R6_id (fun j => by unfold sf_dn; rw [if_neg (by omega)]))⟩
end
section
variable {df dl ct st pl sc ts cp : Int32} {fs ls wt mk vl ac lo hi ou hv bg ch tr te pv lc rc wL wH ar dw dm dv : Nat → Int32}
variable {fs2 ls2 wt2 mk2 vl2 ac2 : Nat → Int32}
theorem sf_xcarry_s {post : SX → Prop} {a b k n : Nat} (ha : a < 13) (hb : b < 13) (hk : k < 2)
    (K : wX_carry_38 post (nI a) (nI b) df dl ct st pl sc ts cp n (nI (k + 1)) fs ls (upd wt (2 * b + k) (wt (2 * a + k))) (upd mk (2 * b + k) (mk (2 * a + k))) (upd vl (2 * b + k) (vl (2 * a + k))) ac lo hi ou hv bg ch tr te pv lc rc wL wH ar dw dm dv) :
    wX_carry_38 post (nI a) (nI b) df dl ct st pl sc ts cp (n + 1) (nI k) fs ls wt mk vl ac lo hi ou hv bg ch tr te pv lc rc wL wH ar dw dm dv := by
  have e1 : (2 : Int32) * nI a + nI k = nI (2 * a + k) := by rw [sf_two, nI_add]
  have e2 : (2 : Int32) * nI b + nI k = nI (2 * b + k) := by rw [sf_two, nI_add]
  have i1 : vp_in (nI (2 * a + k)) 26 := vp_in_nI (by omega) (by decide)
  have i2 : vp_in (nI (2 * b + k)) 26 := vp_in_nI (by omega) (by decide)
  refine br_f (nI_ge (b := 2) hk (by decide)) ?_
  simp only [e1, e2, nI_clamp (show 2 * a + k < 2 ^ 31 by omega), nI_clamp (show 2 * b + k < 2 ^ 31 by omega)]
  exact ⟨i1, i2, nm_e ⟨i1, i2, nm_e ⟨i1, i2, nm_e (nm_r (nI_1 k) K)⟩⟩⟩
theorem sf_xcarry {post : SX → Prop} {a b : Nat} (ha : a < 13) (hb : b < 13)
    (K : ∀ fs2 ls2 wt2 mk2 vl2 ac2, sf_R6 (sf_cp a b) fs ls wt mk vl ac fs2 ls2 wt2 mk2 vl2 ac2 → post (df, dl, ct, st, pl, sc, ts, cp, fs2, ls2, wt2, mk2, vl2, ac2, lo, hi, ou, hv, bg, ch, tr, te, pv, lc, rc, wL, wH, ar, dw, dm, dv)) : wpX_carry post (df, dl, ct, st, pl, sc, ts, cp, fs, ls, wt, mk, vl, ac, lo, hi, ou, hv, bg, ch, tr, te, pv, lc, rc, wL, wH, ar, dw, dm, dv) (nI a) (nI b) := by
  have i1 : vp_in (nI a) 13 := vp_in_nI ha (by decide)
  have i2 : vp_in (nI b) 13 := vp_in_nI hb (by decide)
  unfold wpX_carry
  simp only [nI_clamp (show a < 2 ^ 31 by omega), nI_clamp (show b < 2 ^ 31 by omega)]
  refine ⟨i1, i2, nm_e ⟨i1, i2, nm_e ⟨i1, i2, nm_e ⟨3, sf_xcarry_s (k := 0) ha hb (by decide) (sf_xcarry_s (k := 1) ha hb (by decide) (br_t (nI_le (a := 2) (by decide) (by decide)) (K _ _ _ _ _ _ ?_)))⟩⟩⟩⟩
  exact ⟨fun j => ⟨sf_c1 _ a b j, sf_c1 _ a b j, sf_c1 _ a b j⟩, fun j => ⟨sf_c2 _ a b j, sf_c2 _ a b j, sf_c2 _ a b j⟩⟩
theorem sf_xput_s {post : Int32 → SX → Prop} {p k n : Nat} (hp : p < 13) (hk : k < 2)
    (K : wX_put_89 post (nI p) df dl ct st pl sc ts cp n (nI (k + 1)) fs ls (upd wt (2 * p + k) (dw k)) (upd mk (2 * p + k) (dm k)) (upd vl (2 * p + k) (dv k)) ac lo hi ou hv bg ch tr te pv lc rc wL wH ar dw dm dv) :
    wX_put_89 post (nI p) df dl ct st pl sc ts cp (n + 1) (nI k) fs ls wt mk vl ac lo hi ou hv bg ch tr te pv lc rc wL wH ar dw dm dv := by
  have e2 : (2 : Int32) * nI p + nI k = nI (2 * p + k) := by rw [sf_two, nI_add]
  have i1 : vp_in (nI k) 2 := vp_in_nI hk (by decide)
  have i2 : vp_in (nI (2 * p + k)) 26 := vp_in_nI (by omega) (by decide)
  refine br_f (nI_ge (b := 2) hk (by decide)) ?_
  simp only [e2, nI_clamp (show k < 2 ^ 31 by omega), nI_clamp (show 2 * p + k < 2 ^ 31 by omega)]
  exact ⟨i1, i2, nm_e ⟨i1, i2, nm_e ⟨i1, i2, nm_e (nm_r (nI_1 k) K)⟩⟩⟩
theorem sf_xput_e {post : Int32 → SX → Prop} {p n : Nat} (hp : p < 13)
    (K : post (nI (n + 1)) (df, dl, nI (n + 1), st, pl, sc, ts, 0, fs, ls, upd (upd wt (2 * p + 0) (dw 0)) (2 * p + 1) (dw 1), upd (upd mk (2 * p + 0) (dm 0)) (2 * p + 1) (dm 1), upd (upd vl (2 * p + 0) (dv 0)) (2 * p + 1) (dv 1), ac, lo, hi, ou, hv, bg, ch, tr, te, pv, lc, rc, wL, wH, ar, dw, dm, dv)) :
    wX_put_89 post (nI p) df dl (nI n) st pl sc ts cp 3 0 fs ls wt mk vl ac lo hi ou hv bg ch tr te pv lc rc wL wH ar dw dm dv :=
  sf_xput_s (k := 0) hp (by decide) (sf_xput_s (k := 1) hp (by decide) (br_t (nI_le (a := 2) (by decide) (by decide)) (nm_r (nI_1 n) K)))
theorem sf_xput_l {post : Int32 → SX → Prop} {n p : Nat} {act : Int32} (hn : n ≤ 11) (hp : p ≤ n)
    (K : ∀ fs2 ls2 wt2 mk2 vl2 ac2, sf_R6 (sf_up p n) fs ls wt mk vl ac fs2 ls2 wt2 mk2 vl2 ac2 → post (nI (n + 1)) (df, dl, nI (n + 1), st, pl, sc, ts, 0, upd fs2 p df, upd ls2 p dl, upd (upd wt2 (2 * p + 0) (dw 0)) (2 * p + 1) (dw 1), upd (upd mk2 (2 * p + 0) (dm 0)) (2 * p + 1) (dm 1), upd (upd vl2 (2 * p + 0) (dv 0)) (2 * p + 1) (dv 1), upd ac2 p act, lo, hi, ou, hv, bg, ch, tr, te, pv, lc, rc, wL, wH, ar, dw, dm, dv)) :
    ∀ d i fuel fs2 ls2 wt2 mk2 vl2 ac2, i = p + d → i ≤ n → d < fuel → sf_R6 (sf_up i n) fs ls wt mk vl ac fs2 ls2 wt2 mk2 vl2 ac2 →
    wX_put_41 post (nI p) act fuel (nI i) df dl (nI n) st pl sc ts cp fs2 ls2 wt2 mk2 vl2 ac2 lo hi ou hv bg ch tr te pv lc rc wL wH ar dw dm dv := by
  have ip : vp_in (nI p) 13 := vp_in_nI (by omega) (by decide)
  intro d
  induction d with
  | zero =>
    intro i fuel fs2 ls2 wt2 mk2 vl2 ac2 hi hin hf h
    cases fuel with
    | zero => omega
    | succ m =>
      have e : i = p := by omega
      subst e
      refine br_t (nI_le (by omega) (by omega)) ?_
      simp only [nI_clamp (show i < 2 ^ 31 by omega)]
      exact ⟨ip, nm_e ⟨ip, nm_e ⟨ip, nm_e ⟨3, sf_xput_e (by omega) (K _ _ _ _ _ _ h)⟩⟩⟩⟩
  | succ d ih =>
    intro i fuel fs2 ls2 wt2 mk2 vl2 ac2 hi hin hf h
    cases fuel with
    | zero => omega
    | succ m =>
      obtain ⟨r, rfl⟩ : ∃ r, i = r + 1 := ⟨i - 1, by omega⟩
      refine br_f (nI_ge (by omega) (by omega)) ?_
      rw [nI_pred r]
      refine sf_xcarry (by omega) (by omega) (fun fs3 ls3 wt3 mk3 vl3 ac3 g => ?_)
      refine nm_r (pk_m1 r) (ih r m fs3 ls3 wt3 mk3 vl3 ac3 (by omega) (by omega) (by omega) (sf_R6_comp h g (fun j => ?_)))
      unfold sf_up sf_cp
      by_cases e : j = r + 1
      · rw [if_pos e, if_neg (by omega), if_pos (by omega)]; omega
      · rw [if_neg e]
        by_cases e2 : r < j ∧ j ≤ n
        · rw [if_pos (by omega), if_pos e2]
        · rw [if_neg (by omega), if_neg e2]
theorem sf_xrem_l {post : Int32 → SX → Prop} {n p : Nat} {act : Int32} (hn : n ≤ 12) (hp : p < n)
    (K : ∀ fs2 ls2 wt2 mk2 vl2 ac2, sf_R6 (sf_dn p n) fs ls wt mk vl ac fs2 ls2 wt2 mk2 vl2 ac2 → post act (df, dl, nI (n - 1), st, pl, sc, ts, 0, fs2, ls2, wt2, mk2, vl2, ac2, lo, hi, ou, hv, bg, ch, tr, te, pv, lc, rc, wL, wH, ar, dw, dm, dv)) :
    ∀ d i fuel fs2 ls2 wt2 mk2 vl2 ac2, i + d = n → p < i → d < fuel → sf_R6 (sf_dn p i) fs ls wt mk vl ac fs2 ls2 wt2 mk2 vl2 ac2 →
    wX_remove_21 post act fuel (nI i) df dl (nI n) st pl sc ts cp fs2 ls2 wt2 mk2 vl2 ac2 lo hi ou hv bg ch tr te pv lc rc wL wH ar dw dm dv := by
  intro d
  induction d with
  | zero =>
    intro i fuel fs2 ls2 wt2 mk2 vl2 ac2 hi hpi hf h
    cases fuel with
    | zero => omega
    | succ m =>
      have e : i = n := by omega
      subst e
      exact br_t (nI_le (by omega) (by omega)) (nm_r (pk_sub (b := 1) (by omega)) (K _ _ _ _ _ _ h))
  | succ d ih =>
    intro i fuel fs2 ls2 wt2 mk2 vl2 ac2 hi hpi hf h
    cases fuel with
    | zero => omega
    | succ m =>
      obtain ⟨r, rfl⟩ : ∃ r, i = r + 1 := ⟨i - 1, by omega⟩
      refine br_f (nI_ge (by omega) (by omega)) ?_
      rw [nI_pred r]
      refine sf_xcarry (by omega) (by omega) (fun fs3 ls3 wt3 mk3 vl3 ac3 g => ?_)
      refine nm_r (nI_1 (r + 1)) (ih (r + 2) m fs3 ls3 wt3 mk3 vl3 ac3 (by omega) (by omega) (by omega) (sf_R6_comp h g (fun j => ?_)))
      unfold sf_dn sf_cp
      by_cases e : j = r
      · rw [if_pos e, if_neg (by omega), if_pos (by omega)]; omega
      · rw [if_neg e]
        by_cases e2 : p ≤ j ∧ j + 1 < r + 1
        · rw [if_pos e2, if_pos (by omega)]
        · rw [if_neg e2, if_neg (by omega)]
theorem sf_xmv51_l {post : Int32 → SX → Prop} {q p : Nat} {s : Nat → Nat} (hq : q < 12) (hp : p < 12)
    (K : ∀ fs2 ls2 wt2 mk2 vl2 ac2, sf_R6 (fun j => s (sf_up q p (sf_cp 12 q j))) fs ls wt mk vl ac fs2 ls2 wt2 mk2 vl2 ac2 → post 0 (df, dl, ct, st, pl, sc, ts, 0, fs2, ls2, wt2, mk2, vl2, ac2, lo, hi, ou, hv, bg, ch, tr, te, pv, lc, rc, wL, wH, ar, dw, dm, dv)) :
    ∀ d i fuel fs2 ls2 wt2 mk2 vl2 ac2, i ≤ q + d → i ≤ p → d < fuel → (q ≤ i ∨ i = p) → sf_R6 (fun j => s (sf_up i p j)) fs ls wt mk vl ac fs2 ls2 wt2 mk2 vl2 ac2 →
    wX_move_51 post (nI q) fuel (nI i) df dl ct st pl sc ts cp fs2 ls2 wt2 mk2 vl2 ac2 lo hi ou hv bg ch tr te pv lc rc wL wH ar dw dm dv := by
  intro d
  induction d with
  | zero =>
    intro i fuel fs2 ls2 wt2 mk2 vl2 ac2 hi hip hf hqi h
    cases fuel with
    | zero => omega
    | succ m =>
      refine br_t (nI_le (by omega) (by omega)) ?_
      refine sf_xcarry (a := 12) (by omega) (by omega) (fun fs3 ls3 wt3 mk3 vl3 ac3 g => ?_)
      refine K _ _ _ _ _ _ (sf_R6_comp h g (fun j => ?_))
      refine congrArg s ?_
      unfold sf_up
      rcases hqi with e | e
      · have : i = q := by omega
        rw [this]
      · rw [if_neg (by omega), if_neg (by omega)]
  | succ d ih =>
    intro i fuel fs2 ls2 wt2 mk2 vl2 ac2 hi hip hf hqi h
    by_cases hd : i ≤ q + d
    · exact ih i fuel fs2 ls2 wt2 mk2 vl2 ac2 hd hip (by omega) hqi h
    cases fuel with
    | zero => omega
    | succ m =>
      obtain ⟨r, rfl⟩ : ∃ r, i = r + 1 := ⟨i - 1, by omega⟩
      refine br_f (nI_ge (by omega) (by omega)) ?_
      rw [nI_pred r]
      refine sf_xcarry (by omega) (by omega) (fun fs3 ls3 wt3 mk3 vl3 ac3 g => ?_)
      refine nm_r (pk_m1 r) (ih r m fs3 ls3 wt3 mk3 vl3 ac3 (by omega) (by omega) (by omega) (Or.inl (by omega)) (sf_R6_comp h g (fun j => ?_)))
      refine congrArg s ?_
      unfold sf_up sf_cp
      by_cases e : j = r + 1
      · rw [if_pos e, if_neg (by omega), if_pos (by omega)]; omega
      · rw [if_neg e]
        by_cases e2 : r < j ∧ j ≤ p
        · rw [if_pos (by omega), if_pos e2]
        · rw [if_neg (by omega), if_neg e2]
theorem sf_xmv30_l {post : Int32 → SX → Prop} {q p : Nat} {s : Nat → Nat} (hq : q < 12) (hp : p < 12)
    (K : ∀ fs2 ls2 wt2 mk2 vl2 ac2, sf_R6 (fun j => s (sf_dn p (q + 1) (sf_up q p (sf_cp 12 q j)))) fs ls wt mk vl ac fs2 ls2 wt2 mk2 vl2 ac2 → post 0 (df, dl, ct, st, pl, sc, ts, 0, fs2, ls2, wt2, mk2, vl2, ac2, lo, hi, ou, hv, bg, ch, tr, te, pv, lc, rc, wL, wH, ar, dw, dm, dv)) :
    ∀ d i fuel fs2 ls2 wt2 mk2 vl2 ac2, q ≤ i + d → p ≤ i → (i ≤ q ∨ i = p) → d < fuel → sf_R6 (fun j => s (sf_dn p (i + 1) j)) fs ls wt mk vl ac fs2 ls2 wt2 mk2 vl2 ac2 →
    wX_move_30 post (nI p) (nI q) fuel (nI i) df dl ct st pl sc ts cp fs2 ls2 wt2 mk2 vl2 ac2 lo hi ou hv bg ch tr te pv lc rc wL wH ar dw dm dv := by
  intro d
  induction d with
  | zero =>
    intro i fuel fs2 ls2 wt2 mk2 vl2 ac2 hi hip hiq hf h
    cases fuel with
    | zero => omega
    | succ m =>
      refine br_t (nI_le (by omega) (by omega)) ⟨p + 1, ?_⟩
      refine sf_xmv51_l (fs := fs) (ls := ls) (wt := wt) (mk := mk) (vl := vl) (ac := ac) (s := fun j => s (sf_dn p (i + 1) j)) hq hp (fun fs3 ls3 wt3 mk3 vl3 ac3 g => K _ _ _ _ _ _ ?_) p p (p + 1) fs2 ls2 wt2 mk2 vl2 ac2 (by omega) (by omega) (by omega) (Or.inr rfl) ?_
      · have e : (fun j => s (sf_dn p (i + 1) (sf_up q p (sf_cp 12 q j)))) = (fun j => s (sf_dn p (q + 1) (sf_up q p (sf_cp 12 q j)))) := by
          funext j
          refine congrArg s ?_
          generalize sf_up q p (sf_cp 12 q j) = x
          unfold sf_dn
          rcases hiq with e | e
          · have : i = q := by omega
            rw [this]
          · rw [if_neg (by omega), if_neg (by omega)]
        rw [← e]; exact g
      · have e : (fun j => s (sf_dn p (i + 1) (sf_up p p j))) = (fun j => s (sf_dn p (i + 1) j)) := by
          funext j
          unfold sf_up
          rw [if_neg (by omega)]
        show sf_R6 (fun j => s (sf_dn p (i + 1) (sf_up p p j))) fs ls wt mk vl ac fs2 ls2 wt2 mk2 vl2 ac2
        rw [e]; exact h
  | succ d ih =>
    intro i fuel fs2 ls2 wt2 mk2 vl2 ac2 hi hip hiq hf h
    by_cases hd : q ≤ i + d
    · exact ih i fuel fs2 ls2 wt2 mk2 vl2 ac2 hd hip hiq (by omega) h
    cases fuel with
    | zero => omega
    | succ m =>
      refine br_f (nI_ge (by omega) (by omega)) ?_
      rw [nI_1 i]
      refine sf_xcarry (by omega) (by omega) (fun fs3 ls3 wt3 mk3 vl3 ac3 g => ?_)
      refine nm_e (ih (i + 1) m fs3 ls3 wt3 mk3 vl3 ac3 (by omega) (by omega) (Or.inl (by omega)) (by omega) (sf_R6_comp h g (fun j => ?_)))
      refine congrArg s ?_
      unfold sf_dn sf_cp
      by_cases e : j = i
      · rw [if_pos e, if_neg (by omega), if_pos (by omega)]; omega
      · rw [if_neg e]
        by_cases e2 : p ≤ j ∧ j + 1 < i + 1
        · rw [if_pos e2, if_pos (by omega)]
        · rw [if_neg e2, if_neg (by omega)]
end
end
section
/-! intervals: low, high, outside answer as the comparison does -/
def sf_in (l h a : Int32) : Bool := decide (l ≤ a) && decide (a ≤ h)
def sf_Nm (w v l h o : Int32) : Prop := ∃ ob : Bool, o = sf_b ob ∧ (¬ w &&& 7 = 0 → ∀ a, sf_cmp (w &&& 7) a v = (sf_in l h a != ob))
theorem sf_least (a : Int32) : (-2147483648 : Int32) ≤ a := by
  rw [Int32.le_iff_toInt_le, show (-2147483648 : Int32).toInt = -2147483648 by decide]
  have := a.le_toInt; omega
theorem sf_most (a : Int32) : a ≤ (2147483647 : Int32) := by
  rw [Int32.le_iff_toInt_le, show (2147483647 : Int32).toInt = 2147483647 by decide]
  have := a.toInt_lt; omega
theorem sf_pred {a v : Int32} (h : ¬ v = (-2147483648 : Int32)) : a ≤ v - 1 ↔ a < v := by
  have e1 : (1 : Int32).toInt = 1 := by decide
  have e0 : (-2147483648 : Int32).toInt = -2147483648 := by decide
  have hv : v.toInt ≠ -2147483648 := fun z => h (Int32.toInt_inj.mp (z.trans e0.symm))
  have h1 := v.le_toInt
  have h2 := v.toInt_lt
  rw [Int32.le_iff_toInt_le, Int32.lt_iff_toInt_lt, Jvm.Kit.i32_sub (by omega) (by omega), e1]
  omega
theorem sf_succ {a v : Int32} (h : ¬ v = (2147483647 : Int32)) : v + 1 ≤ a ↔ v < a := by
  have e1 : (1 : Int32).toInt = 1 := by decide
  have e0 : (2147483647 : Int32).toInt = 2147483647 := by decide
  have hv : v.toInt ≠ 2147483647 := fun z => h (Int32.toInt_inj.mp (z.trans e0.symm))
  have h1 := v.le_toInt
  have h2 := v.toInt_lt
  rw [Int32.le_iff_toInt_le, Int32.lt_iff_toInt_lt, Jvm.Kit.i32_add (by omega) (by omega), e1]
  omega
theorem sf_inv (v a : Int32) : sf_in v v a = decide (a = v) := by
  unfold sf_in
  by_cases h : a = v
  · subst h; simp
  · rw [decide_eq_false h]
    by_cases h1 : v ≤ a
    · rw [decide_eq_false (p := a ≤ v) (fun z => h (Int32.le_antisymm z h1))]; simp
    · rw [decide_eq_false h1]; rfl
theorem sf_in_none (a : Int32) : sf_in 2147483647 (-2147483648) a = false := by
  unfold sf_in
  by_cases h1 : (2147483647 : Int32) ≤ a
  · rw [decide_eq_false (p := a ≤ -2147483648) (fun z => absurd (Int32.le_trans h1 z) (by decide))]; simp
  · rw [decide_eq_false h1]; rfl
theorem sf_dd {p q : Prop} [Decidable p] [Decidable q] (h : p ↔ q) : decide p = decide q := decide_eq_decide.mpr h
theorem sf_nm0 {w v l h : Int32} (e : w &&& 7 = 0) : sf_Nm w v l h (sf_b false) := ⟨false, rfl, fun z => absurd e z⟩
theorem sf_nm1 {w v : Int32} (e : w &&& 7 = 1) : sf_Nm w v v v (sf_b false) := ⟨false, rfl, fun _ a => by
  rw [sf_inv, e]; unfold sf_cmp; rw [if_neg (by decide), if_pos rfl]; simp⟩
theorem sf_nm2 {w v : Int32} (e : w &&& 7 = 2) : sf_Nm w v v v (sf_b true) := ⟨true, rfl, fun _ a => by
  rw [sf_inv, e]; unfold sf_cmp; rw [if_neg (by decide), if_neg (by decide), if_pos rfl]; simp⟩
theorem sf_nm3 {w v : Int32} (e : w &&& 7 = 3) (hv : ¬ v = -2147483648) : sf_Nm w v (-2147483648) (v - 1) (sf_b false) := ⟨false, rfl, fun _ a => by
  rw [e]; unfold sf_cmp sf_in; rw [if_neg (by decide), if_neg (by decide), if_neg (by decide), if_pos rfl, decide_eq_true (sf_least a), sf_dd (sf_pred hv)]; simp⟩
theorem sf_nm3' {w : Int32} (e : w &&& 7 = 3) : sf_Nm w (-2147483648) 2147483647 (-2147483648) (sf_b false) := ⟨false, rfl, fun _ a => by
  rw [e, sf_in_none]; unfold sf_cmp; rw [if_neg (by decide), if_neg (by decide), if_neg (by decide), if_pos rfl, decide_eq_false (Int32.not_lt.mpr (sf_least a))]; rfl⟩
theorem sf_nm4 {w v : Int32} (e : w &&& 7 = 4) : sf_Nm w v (-2147483648) v (sf_b false) := ⟨false, rfl, fun _ a => by
  rw [e]; unfold sf_cmp sf_in; rw [if_neg (by decide), if_neg (by decide), if_neg (by decide), if_neg (by decide), if_pos rfl, decide_eq_true (sf_least a)]; simp⟩
theorem sf_nm5 {w v : Int32} (e : w &&& 7 = 5) (hv : ¬ v = 2147483647) : sf_Nm w v (v + 1) 2147483647 (sf_b false) := ⟨false, rfl, fun _ a => by
  rw [e]; unfold sf_cmp sf_in; rw [if_neg (by decide), if_neg (by decide), if_neg (by decide), if_neg (by decide), if_neg (by decide), if_pos rfl, decide_eq_true (sf_most a), sf_dd (sf_succ hv)]; simp⟩
theorem sf_nm5' {w : Int32} (e : w &&& 7 = 5) : sf_Nm w 2147483647 2147483647 (-2147483648) (sf_b false) := ⟨false, rfl, fun _ a => by
  rw [e, sf_in_none]; unfold sf_cmp; rw [if_neg (by decide), if_neg (by decide), if_neg (by decide), if_neg (by decide), if_neg (by decide), if_pos rfl, decide_eq_false (Int32.not_lt.mpr (sf_most a))]; rfl⟩
theorem sf_nm6 {w v : Int32} (e : w &&& 7 = 6) : sf_Nm w v v 2147483647 (sf_b false) := ⟨false, rfl, fun _ a => by
  rw [e]; unfold sf_cmp sf_in; rw [if_neg (by decide), if_neg (by decide), if_neg (by decide), if_neg (by decide), if_neg (by decide), if_neg (by decide), decide_eq_true (sf_most a)]; simp⟩
theorem sf_nar0 : vp_nar .boolean 0 = sf_b false := rfl
theorem sf_nar1 : vp_nar .boolean 1 = sf_b true := rfl
theorem sf_w7 : ∀ w, w < 16 → w % 8 ≠ 7 → nI w &&& 7 = 0 ∨ nI w &&& 7 = 1 ∨ nI w &&& 7 = 2 ∨ nI w &&& 7 = 3 ∨ nI w &&& 7 = 4 ∨ nI w &&& 7 = 5 ∨ nI w &&& 7 = 6 := by decide +kernel
/-- what normalise gives: everything but place c is kept, at c the interval is right -/
def sf_N1 (c : Nat) (w v : Int32) (lo hi ou lo' hi' ou' : Nat → Int32) : Prop :=
  (∀ j, j ≠ c → lo' j = lo j ∧ hi' j = hi j ∧ ou' j = ou j) ∧ sf_Nm w v (lo' c) (hi' c) (ou' c)
theorem sf_n1 {c : Nat} {w v l h o : Int32} {lo hi ou lo' hi' ou' : Nat → Int32} (a1 : lo' c = l) (a2 : hi' c = h) (a3 : ou' c = o)
    (k : ∀ j, j ≠ c → lo' j = lo j ∧ hi' j = hi j ∧ ou' j = ou j) (n : sf_Nm w v l h o) : sf_N1 c w v lo hi ou lo' hi' ou' := by
  refine ⟨k, ?_⟩
  rw [a1, a2, a3]; exact n
section
variable {df dl ct st pl sc ts cp : Int32} {fs ls wt mk vl ac lo hi ou hv bg ch tr te pv lc rc wL wH ar dw dm dv : Nat → Int32}
theorem sf_xnum_ok {post : Int32 → Prop} {k : Nat} (hk : k < 32) (hp : post 1) : wpX_isNumber post (nI k) :=
  br_f (nI_pos (by omega)) (br_f (nI_ge (b := 32) hk (by decide)) hp)
theorem sf_xnum_bad {post : Int32 → Prop} {p : Int32} (h : p < 0 ∨ nI 32 ≤ p) (hp : post 0) : wpX_isNumber post p := by
  by_cases h0 : p < 0
  · exact br_t h0 hp
  · rcases h with h | h
    · exact absurd h h0
    · exact br_f h0 (br_t h hp)
theorem sf_xact_ok {post : Int32 → Prop} {k : Nat} (hk : k < 4) (hp : post 1) : wpX_isAction post (nI k) :=
  br_f (nI_pos (by omega)) (br_f (nI_nlt (a := 3) (by omega) (by decide)) hp)
theorem sf_xact_bad {post : Int32 → Prop} {p : Int32} (h : p < 0 ∨ nI 4 ≤ p) (hp : post 0) : wpX_isAction post p := by
  by_cases h0 : p < 0
  · exact br_t h0 hp
  · rcases h with h | h
    · exact absurd h h0
    · obtain ⟨j, hj, rfl⟩ := nI_of h0
      rw [nI_leI (by decide) hj] at h
      exact br_f h0 (br_t (nI_lt (a := 3) (by omega) hj) hp)
theorem sf_xrule_ok {post : Int32 → Prop} {n k : Nat} (hn : n ≤ 12) (hk : k < n) (hp : post 1) : wpX_isRule post (df, dl, nI n, st, pl, sc, ts, cp, fs, ls, wt, mk, vl, ac, lo, hi, ou, hv, bg, ch, tr, te, pv, lc, rc, wL, wH, ar, dw, dm, dv) (nI k) :=
  br_f (nI_pos (by omega)) (br_f (nI_ge hk (by omega)) hp)
theorem sf_xrule_bad {post : Int32 → Prop} {n : Nat} {p : Int32} (h : p < 0 ∨ nI n ≤ p) (hp : post 0) : wpX_isRule post (df, dl, nI n, st, pl, sc, ts, cp, fs, ls, wt, mk, vl, ac, lo, hi, ou, hv, bg, ch, tr, te, pv, lc, rc, wL, wH, ar, dw, dm, dv) p := by
  by_cases h0 : p < 0
  · exact br_t h0 hp
  · rcases h with h | h
    · exact absurd h h0
    · exact br_f h0 (br_t h hp)
theorem sf_xmeets {post : Int32 → Prop} {c w : Nat} (hc : c < 24) (h16 : w < 16) (hw : wt c = nI w) (hN : sf_Nm (wt c) (vl c) (lo c) (hi c) (ou c)) (hp : post (sf_b (sf_met wt mk vl ar c))) : wpX_meets post (df, dl, ct, st, pl, sc, ts, cp, fs, ls, wt, mk, vl, ac, lo, hi, ou, hv, bg, ch, tr, te, pv, lc, rc, wL, wH, ar, dw, dm, dv) (nI c) := by
  have i1 : vp_in (nI c) 26 := vp_in_nI (by omega) (by decide)
  have i2 : vp_in (nI c) 24 := vp_in_nI (by omega) (by decide)
  have hw2 : vp_in (nI (w / 8)) 2 := vp_in_nI (by omega) (by decide)
  obtain ⟨_, _, e3, _⟩ := sf_w16 w h16
  obtain ⟨ob, eo, hN⟩ := hN
  unfold sf_met at hp
  rw [hw] at hp hN
  rw [e3] at hp
  unfold wpX_meets
  simp only [nI_clamp (show c < 2 ^ 31 by omega), hw, e3]
  refine ⟨i1, hw2, i1, nm_e ⟨i1, br_c (fun h0 => ?_) (fun h0 => ⟨i2, ?_⟩)⟩⟩
  · rw [h0] at hp; exact hp
  rw [hN h0] at hp
  generalize ar (nI (w / 8)).toNatClampNeg &&& mk c = a at hp
  unfold wX_meets_59 wX_meets_60
  simp only [nI_clamp (show c < 2 ^ 31 by omega), eo]
  unfold sf_in at hp
  refine br_c (fun e => ⟨i2, ?_⟩) (fun e => ⟨i2, br_c (fun e2 => ⟨i2, ?_⟩) (fun e2 => ⟨i2, ?_⟩)⟩)
  · rw [decide_eq_false (Int32.not_le.mpr e)] at hp
    cases ob with
    | false => exact br_t rfl hp
    | true => exact br_f (by decide) hp
  · rw [decide_eq_true (Int32.not_lt.mp e), decide_eq_false (Int32.not_le.mpr e2)] at hp
    cases ob with
    | false => exact br_t rfl hp
    | true => exact br_f (by decide) hp
  · rw [decide_eq_true (Int32.not_lt.mp e), decide_eq_true (Int32.not_lt.mp e2)] at hp
    cases ob with
    | false => exact br_f (by decide) hp
    | true => exact br_t rfl hp
theorem sf_xholds {post : Int32 → Prop} {n i : Nat} (hn : n ≤ 12) (hW : sf_W16 wt (2 * n)) (hN : ∀ c, c < 2 * n → sf_Nm (wt c) (vl c) (lo c) (hi c) (ou c)) (hi' : i < n)
    (hp : post (sf_b (sf_H wt mk vl ar i))) : wpX_holds post (df, dl, ct, st, pl, sc, ts, cp, fs, ls, wt, mk, vl, ac, lo, hi, ou, hv, bg, ch, tr, te, pv, lc, rc, wL, wH, ar, dw, dm, dv) (nI i) := by
  obtain ⟨w1, a1, _, b1⟩ := hW (2 * i) (by omega)
  obtain ⟨w2, a2, _, b2⟩ := hW (2 * i + 1) (by omega)
  unfold wpX_holds
  simp only [sf_two, nI_1 (2 * i)]
  unfold sf_H at hp
  refine sf_xmeets (by omega) a1 b1 (hN _ (by omega)) (sf_br (fun e1 => ?_) (fun e1 => sf_xmeets (by omega) a2 b2 (hN _ (by omega)) (sf_br (fun e2 => ?_) (fun e2 => ?_))))
  · rw [e1] at hp; exact hp
  · rw [e1, e2] at hp; exact hp
  · rw [e1, e2] at hp; exact hp
variable {lo2 hi2 ou2 : Nat → Int32}
theorem sf_xnorm {post : SX → Prop} {c w : Nat} (hc : c < 24) (h16 : w < 16) (h7 : w % 8 ≠ 7) (hw : wt c = nI w)
    (K : ∀ lo2 hi2 ou2, sf_N1 c (wt c) (vl c) lo hi ou lo2 hi2 ou2 → post (df, dl, ct, st, pl, sc, ts, cp, fs, ls, wt, mk, vl, ac, lo2, hi2, ou2, hv, bg, ch, tr, te, pv, lc, rc, wL, wH, ar, dw, dm, dv)) : wpX_normalise post (df, dl, ct, st, pl, sc, ts, cp, fs, ls, wt, mk, vl, ac, lo, hi, ou, hv, bg, ch, tr, te, pv, lc, rc, wL, wH, ar, dw, dm, dv) (nI c) := by
  have i1 : vp_in (nI c) 26 := vp_in_nI (by omega) (by decide)
  have i2 : vp_in (nI c) 24 := vp_in_nI (by omega) (by decide)
  have hcl := nI_clamp (show c < 2 ^ 31 by omega)
  have h7' := sf_w7 w h16 h7
  have kp : ∀ {f : Nat → Int32} {x : Int32} {j : Nat}, j ≠ c → upd f c x j = f j := fun h => pk_un h
  have kp2 : ∀ {f : Nat → Int32} {x y : Int32} {j : Nat}, j ≠ c → upd (upd f c x) c y j = f j := fun h => (pk_un h).trans (pk_un h)
  have kp3 : ∀ {f : Nat → Int32} {x y z : Int32} {j : Nat}, j ≠ c → upd (upd (upd f c x) c y) c z j = f j := fun h => (pk_un h).trans ((pk_un h).trans (pk_un h))
  unfold wpX_normalise
  simp only [hcl]
  rw [hw] at K ⊢
  generalize nI w = W at *
  generalize vl c = v at *
  unfold wX_normalise_48 wX_normalise_59
  simp only [hcl, sf_nar0, sf_nar1]
  refine ⟨i1, nm_e ⟨i1, nm_e ⟨i2, nm_e ⟨i2, nm_e ?_⟩⟩⟩⟩
  rcases h7' with e | e | e | e | e | e | e
  · refine br_f (by rw [e]; decide) ⟨i2, nm_e ?_⟩
    refine br_f (by rw [e]; decide) (br_f (by rw [e]; decide) (br_f (by rw [e]; decide) (br_f (by rw [e]; decide) (br_f (by rw [e]; decide) (br_f (by rw [e]; decide) (K _ _ _ ?_))))))
    exact sf_n1 pk_us pk_us pk_us (fun j hj => ⟨kp hj, kp hj, kp hj⟩) (sf_nm0 e)
  · refine br_f (by rw [e]; decide) ⟨i2, nm_e ?_⟩
    refine br_t e ⟨i2, nm_e ⟨i2, nm_e (K _ _ _ ?_)⟩⟩
    exact sf_n1 pk_us pk_us pk_us (fun j hj => ⟨kp2 hj, kp2 hj, kp hj⟩) (sf_nm1 e)
  · refine br_t e ⟨i2, nm_e ?_⟩
    refine br_f (by rw [e]; decide) (br_t e ⟨i2, nm_e ⟨i2, nm_e (K _ _ _ ?_)⟩⟩)
    exact sf_n1 pk_us pk_us pk_us (fun j hj => ⟨kp2 hj, kp2 hj, kp hj⟩) (sf_nm2 e)
  · refine br_f (by rw [e]; decide) ⟨i2, nm_e ?_⟩
    refine br_f (by rw [e]; decide) (br_f (by rw [e]; decide) (br_f (by rw [e]; decide) (br_f (by rw [e]; decide) (br_t e ⟨i2, nm_e ?_⟩))))
    refine br_c (fun ev => ⟨i2, nm_e ⟨i2, nm_e (K _ _ _ ?_)⟩⟩) (fun ev => K _ _ _ ?_)
    · subst ev
      exact sf_n1 pk_us pk_us pk_us (fun j hj => ⟨kp2 hj, kp3 hj, kp hj⟩) (sf_nm3' e)
    · exact sf_n1 pk_us pk_us pk_us (fun j hj => ⟨kp hj, kp2 hj, kp hj⟩) (sf_nm3 e ev)
  · refine br_f (by rw [e]; decide) ⟨i2, nm_e ?_⟩
    refine br_f (by rw [e]; decide) (br_f (by rw [e]; decide) (br_t e ⟨i2, nm_e (K _ _ _ ?_)⟩))
    exact sf_n1 pk_us pk_us pk_us (fun j hj => ⟨kp hj, kp2 hj, kp hj⟩) (sf_nm4 e)
  · refine br_f (by rw [e]; decide) ⟨i2, nm_e ?_⟩
    refine br_f (by rw [e]; decide) (br_f (by rw [e]; decide) (br_f (by rw [e]; decide) (br_f (by rw [e]; decide) (br_f (by rw [e]; decide) (br_t e ⟨i2, nm_e ?_⟩)))))
    refine br_c (fun ev => ⟨i2, nm_e ⟨i2, nm_e (K _ _ _ ?_)⟩⟩) (fun ev => K _ _ _ ?_)
    · subst ev
      exact sf_n1 pk_us pk_us pk_us (fun j hj => ⟨kp3 hj, kp2 hj, kp hj⟩) (sf_nm5' e)
    · exact sf_n1 pk_us pk_us pk_us (fun j hj => ⟨kp2 hj, kp hj, kp hj⟩) (sf_nm5 e ev)
  · refine br_f (by rw [e]; decide) ⟨i2, nm_e ?_⟩
    refine br_f (by rw [e]; decide) (br_f (by rw [e]; decide) (br_f (by rw [e]; decide) (br_t e ⟨i2, nm_e (K _ _ _ ?_)⟩)))
    exact sf_n1 pk_us pk_us pk_us (fun j hj => ⟨kp2 hj, kp hj, kp hj⟩) (sf_nm6 e)
end
end
section
/-! the stretches -/
def sf_hm (n : Nat) (F L : Nat → Int32) (k : Nat) : Nat := sf_mk (fun i => sf_has F L i k) n
def sf_Seg (n : Nat) (F L : Nat → Int32) (s : Nat) (b : Nat → Nat) (B : Nat → Int32) : Prop :=
  1 ≤ s ∧ s ≤ 32 ∧ s = sf_ct (sf_st n F L) 32 ∧ b 0 = 0 ∧ b s = 32 ∧ (∀ j, j < s → b j < b (j + 1)) ∧ (∀ j, j < s → b j < 32) ∧ (∀ j, j ≤ s → B j = nI (b j)) ∧
  (∀ j, j < s → ∀ x, b j < x → x < b (j + 1) → sf_st n F L x = false)
def sf_SI (n : Nat) (F L : Nat → Int32) (k s : Nat) (b : Nat → Nat) (B : Nat → Int32) : Prop :=
  s = sf_ct (sf_st n F L) k ∧ (0 < k → 0 < s ∧ b 0 = 0) ∧ (∀ j, j < s → b j < k) ∧ (∀ j, j + 1 < s → b j < b (j + 1)) ∧ (∀ j, j < s → B j = nI (b j)) ∧
  (∀ j, j < s → ∀ x, b j < x → x < k → (j + 1 < s → x < b (j + 1)) → sf_st n F L x = false)
theorem sf_st0 {n : Nat} {F L : Nat → Int32} : sf_st n F L 0 = true := by unfold sf_st; simp
theorem sf_SI_0 {n : Nat} {F L : Nat → Int32} {b : Nat → Nat} {B : Nat → Int32} : sf_SI n F L 0 0 b B :=
  ⟨rfl, fun h => by omega, fun j h => by omega, fun j h => by omega, fun j h => by omega, fun j h => by omega⟩
theorem sf_SI_f {n k s : Nat} {F L : Nat → Int32} {b : Nat → Nat} {B : Nat → Int32} (hk : 0 < k) (e : sf_st n F L k = false) (h : sf_SI n F L k s b B) : sf_SI n F L (k + 1) s b B := by
  obtain ⟨h1, h2, h3, h4, h5, h6⟩ := h
  refine ⟨by rw [sf_ct_f e]; exact h1, fun _ => h2 hk, fun j hj => by have := h3 j hj; omega, h4, h5, fun j hj x a c d => ?_⟩
  by_cases q : x = k
  · rw [q]; exact e
  · exact h6 j hj x a (by omega) d
theorem sf_SI_t {n k s : Nat} {F L : Nat → Int32} {b : Nat → Nat} {B : Nat → Int32} (e : sf_st n F L k = true) (h : sf_SI n F L k s b B) :
    sf_SI n F L (k + 1) (s + 1) (fun j => if j = s then k else b j) (upd B s (nI k)) := by
  obtain ⟨h1, h2, h3, h4, h5, h6⟩ := h
  refine ⟨by rw [sf_ct_t e, ← h1], fun _ => ⟨by omega, ?_⟩, fun j hj => ?_, fun j hj => ?_, fun j hj => ?_, fun j hj x a c d => ?_⟩
  · show (if 0 = s then k else b 0) = 0
    by_cases q : 0 = s
    · rw [if_pos q]
      by_cases hk : 0 < k
      · have := (h2 hk).1; omega
      · omega
    · rw [if_neg q]
      by_cases hk : 0 < k
      · exact (h2 hk).2
      · have := sf_ct_le (Q := sf_st n F L) k; omega
  · show (if j = s then k else b j) < k + 1
    by_cases q : j = s
    · rw [if_pos q]; omega
    · rw [if_neg q]; have := h3 j (by omega); omega
  · show (if j = s then k else b j) < (if j + 1 = s then k else b (j + 1))
    rw [if_neg (show ¬ j = s by omega)]
    by_cases q : j + 1 = s
    · rw [if_pos q]; exact h3 j (by omega)
    · rw [if_neg q]; exact h4 j (by omega)
  · show upd B s (nI k) j = nI (if j = s then k else b j)
    by_cases q : j = s
    · rw [if_pos q, q]; exact pk_us
    · rw [if_neg q, pk_un q]; exact h5 j (by omega)
  · have a' : (if j = s then k else b j) < x := a
    by_cases q : j = s
    · rw [if_pos q] at a'; omega
    · rw [if_neg q] at a'
      by_cases q2 : j + 1 = s
      · have d' : x < (if j + 1 = s then k else b (j + 1)) := d (by omega)
        rw [if_pos q2] at d'
        exact h6 j (by omega) x a' d' (fun z => by omega)
      · have d' : x < (if j + 1 = s then k else b (j + 1)) := d (by omega)
        rw [if_neg q2] at d'
        have := h3 (j + 1) (by omega)
        exact h6 j (by omega) x a' (by omega) (fun _ => d')
theorem sf_SI_e {n s : Nat} {F L : Nat → Int32} {b : Nat → Nat} {B : Nat → Int32} (h : sf_SI n F L 32 s b B) : sf_Seg n F L s (fun j => if j = s then 32 else b j) (upd B s (nI 32)) := by
  obtain ⟨h1, h2, h3, h4, h5, h6⟩ := h
  have hs := h2 (by omega)
  have hle := sf_ct_le (Q := sf_st n F L) 32
  refine ⟨by omega, by omega, h1, ?_, ?_, fun j hj => ?_, fun j hj => ?_, fun j hj => ?_, fun j hj x a c => ?_⟩
  · show (if 0 = s then 32 else b 0) = 0
    rw [if_neg (by omega)]; exact hs.2
  · show (if s = s then 32 else b s) = 32
    rw [if_pos rfl]
  · show (if j = s then 32 else b j) < (if j + 1 = s then 32 else b (j + 1))
    rw [if_neg (show ¬ j = s by omega)]
    by_cases q : j + 1 = s
    · rw [if_pos q]; exact h3 j (by omega)
    · rw [if_neg q]; exact h4 j (by omega)
  · show (if j = s then 32 else b j) < 32
    rw [if_neg (show ¬ j = s by omega)]; exact h3 j hj
  · show upd B s (nI 32) j = nI (if j = s then 32 else b j)
    by_cases q : j = s
    · rw [if_pos q, q]; exact pk_us
    · rw [if_neg q, pk_un q]; exact h5 j (by omega)
  · have a' : (if j = s then 32 else b j) < x := a
    have c' : x < (if j + 1 = s then 32 else b (j + 1)) := c
    rw [if_neg (show ¬ j = s by omega)] at a'
    by_cases q : j + 1 = s
    · rw [if_pos q] at c'
      exact h6 j hj x a' c' (fun z => by omega)
    · rw [if_neg q] at c'
      have := h3 (j + 1) (by omega)
      exact h6 j hj x a' (by omega) (fun _ => c')
theorem sf_mk_f {f : Nat → Bool} {r : Nat} (h : f r = false) : sf_mk f (r + 1) = sf_mk f r := by simp [sf_mk, h]
section
variable {df dl ct st pl sc ts cp : Int32} {fs ls wt mk vl ac lo hi ou hv bg ch tr te pv lc rc wL wH ar dw dm dv : Nat → Int32}
variable {hv2 bg2 : Nat → Int32}
theorem sf_xcut17 {post : SX → Prop} {J : Int32 → (Nat → Int32) → (Nat → Int32) → (Nat → Int32) → (Nat → Int32) → (Nat → Int32) → (Nat → Int32) → (Nat → Int32) → (Nat → Int32) → (Nat → Int32) → (Nat → Int32) → (Nat → Int32) → (Nat → Int32) → (Nat → Int32) → (Nat → Int32) → (Nat → Int32) → (Nat → Int32) → (Nat → Int32) → (Nat → Int32) → (Nat → Int32) → (Nat → Int32) → (Nat → Int32) → (Nat → Int32) → (Nat → Int32) → Prop} {n k : Nat} (hn : n ≤ 12) (hk : k < 32)
    (K : ∀ hv2, hv2 k = nI (sf_hm n fs ls k) → (∀ j, j ≠ k → hv2 j = hv j) → J (nI (k + 1)) fs ls wt mk vl ac lo hi ou hv2 bg ch tr te pv lc rc wL wH ar dw dm dv) : ∀ d r fuel hv2, r + d = n → d < fuel →
    hv2 k = nI (sf_mk (fun i => sf_has fs ls i k) r) → (∀ j, j ≠ k → hv2 j = hv j) → wX_cutStretches_17 post J (nI k) df dl (nI n) st pl sc ts cp fuel (nI r) fs ls wt mk vl ac lo hi ou hv2 bg ch tr te pv lc rc wL wH ar dw dm dv := by
  have i1 : vp_in (nI k) 32 := vp_in_nI (by omega) (by decide)
  intro d
  induction d with
  | zero =>
    intro r fuel hv2 hr hf h1 h2
    cases fuel with
    | zero => omega
    | succ m =>
      have e : r = n := by omega
      subst e
      exact br_t (nI_le (by omega) (by omega)) (nm_r (nI_1 k) (K hv2 h1 h2))
  | succ d ih =>
    intro r fuel hv2 hr hf h1 h2
    cases fuel with
    | zero => omega
    | succ m =>
      have i2 : vp_in (nI r) 13 := vp_in_nI (by omega) (by decide)
      refine br_f (nI_ge (by omega) (by omega)) ?_
      simp only [nI_clamp (show r < 2 ^ 31 by omega), nI_clamp (show k < 2 ^ 31 by omega)]
      refine ⟨i2, br_c (fun e => nm_r (nI_1 r) (ih (r + 1) m hv2 (by omega) (by omega) ?_ h2)) (fun e => ⟨i2, br_c (fun e2 => nm_r (nI_1 r) (ih (r + 1) m hv2 (by omega) (by omega) ?_ h2)) (fun e2 => ⟨i1, i1, nm_e (nm_r (nI_1 r) (ih (r + 1) m _ (by omega) (by omega) ?_ ?_))⟩)⟩)⟩
      · rw [sf_mk_f (by show (decide (fs r ≤ nI k) && decide (nI k ≤ ls r)) = false; rw [decide_eq_false (Int32.not_le.mpr e)]; rfl)]; exact h1
      · rw [sf_mk_f (by show (decide (fs r ≤ nI k) && decide (nI k ≤ ls r)) = false; rw [decide_eq_false (p := nI k ≤ ls r) (Int32.not_le.mpr e2)]; simp)]; exact h1
      · rw [pk_us, h1]
        exact sf_setb (by omega) (by show (decide (fs r ≤ nI k) && decide (nI k ≤ ls r)) = true; rw [decide_eq_true (Int32.not_lt.mp e), decide_eq_true (Int32.not_lt.mp e2)]; rfl)
      · intro j hj
        rw [pk_un hj]; exact h2 j hj
theorem sf_xcut2 {post : SX → Prop} {n : Nat} (hn : n ≤ 12)
    (K : ∀ hv2, (∀ k, k < 32 → hv2 k = nI (sf_hm n fs ls k)) → ∃ m, wX_cutStretches_80 post df dl (nI n) st pl ts cp m 0 0 fs ls wt mk vl ac lo hi ou hv2 bg ch tr te pv lc rc wL wH ar dw dm dv) : ∀ d k fuel hv2, k + d = 32 → d < fuel →
    (∀ j, j < k → hv2 j = nI (sf_hm n fs ls j)) → wX_cutStretches_2 post df dl (nI n) st pl sc ts cp fuel (nI k) fs ls wt mk vl ac lo hi ou hv2 bg ch tr te pv lc rc wL wH ar dw dm dv := by
  intro d
  induction d with
  | zero =>
    intro k fuel hv2 hk hf h
    cases fuel with
    | zero => omega
    | succ m => exact br_t (nI_le (a := 32) (by omega) (by omega)) (K hv2 (fun j hj => h j (by omega)))
  | succ d ih =>
    intro k fuel hv2 hk hf h
    cases fuel with
    | zero => omega
    | succ m =>
      refine br_f (nI_ge (b := 32) (by omega) (by decide)) ?_
      simp only [nI_clamp (show k < 2 ^ 31 by omega)]
      refine ⟨vp_in_nI (by omega) (by decide), nm_e ⟨n + 1, sf_xcut17 hn (by omega) (fun hv3 a c => ih (k + 1) m hv3 (by omega) (by omega) (fun j hj => ?_)) n 0 (n + 1) _ (by omega) (by omega) pk_us (fun _ _ => rfl)⟩⟩
      by_cases q : j = k
      · rw [q]; exact a
      · rw [c j q, pk_un q]; exact h j (by omega)
theorem sf_st_ne {n k : Nat} {F L H : Nat → Int32} (hn : n ≤ 12) (hH : ∀ k, k < 32 → H k = nI (sf_hm n F L k)) (hk : 0 < k) (hk2 : k < 32) : (H k = H (k - 1)) ↔ sf_st n F L k = false := by
  rw [hH k hk2, hH (k - 1) (by omega)]
  have a : sf_hm n F L k < 4096 := sf_mk_le12 hn
  have c : sf_hm n F L (k - 1) < 4096 := sf_mk_le12 hn
  rw [nI_eq (by omega) (by omega)]
  unfold sf_st
  rw [decide_eq_false (by omega)]
  unfold sf_hm
  simp
theorem sf_xcut80 {post : SX → Prop} {n : Nat} (hn : n ≤ 12) (hH : ∀ k, k < 32 → hv k = nI (sf_hm n fs ls k))
    (K : ∀ s b bg2, sf_Seg n fs ls s b bg2 → post (df, dl, nI n, st, pl, nI s, ts, cp, fs, ls, wt, mk, vl, ac, lo, hi, ou, hv, bg2, ch, tr, te, pv, lc, rc, wL, wH, ar, dw, dm, dv)) : ∀ d k fuel s b bg2, k + d = 32 → d < fuel →
    sf_SI n fs ls k s b bg2 → wX_cutStretches_80 post df dl (nI n) st pl ts cp fuel (nI k) (nI s) fs ls wt mk vl ac lo hi ou hv bg2 ch tr te pv lc rc wL wH ar dw dm dv := by
  intro d
  induction d with
  | zero =>
    intro k fuel s b bg2 hk hf h
    cases fuel with
    | zero => omega
    | succ m =>
      have e : k = 32 := by omega
      subst e
      have hs : s ≤ 32 := by rw [h.1]; exact sf_ct_le 32
      refine br_t (nI_le (a := 32) (by omega) (by omega)) ?_
      simp only [nI_clamp (show s < 2 ^ 31 by omega)]
      exact ⟨vp_in_nI (by omega) (by decide), nm_e (K s _ _ (sf_SI_e h))⟩
  | succ d ih =>
    intro k fuel s b bg2 hk hf h
    cases fuel with
    | zero => omega
    | succ m =>
      have hs : s ≤ k := by rw [h.1]; exact sf_ct_le k
      have go : sf_st n fs ls k = true → wX_cutStretches_107 post (wX_cutStretches_80 post df dl (nI n) st pl ts cp m) (nI k) df dl (nI n) st pl (nI s) ts cp fs ls wt mk vl ac lo hi ou hv bg2 ch tr te pv lc rc wL wH ar dw dm dv := by
        intro e
        unfold wX_cutStretches_107
        simp only [nI_clamp (show s < 2 ^ 31 by omega)]
        exact ⟨vp_in_nI (by omega) (by decide), nm_e (nm_r (nI_1 s) (nm_r (nI_1 k) (ih (k + 1) m (s + 1) _ _ (by omega) (by omega) (sf_SI_t e h))))⟩
      refine br_f (nI_ge (b := 32) (by omega) (by decide)) ?_
      by_cases k0 : k = 0
      · subst k0
        exact br_t rfl (go sf_st0)
      · have ek : nI k - 1 = nI (k - 1) := pk_sub (b := 1) (by omega)
        refine br_f (nI_ne0 (by omega) (by omega)) ?_
        simp only [ek, nI_clamp (show k < 2 ^ 31 by omega), nI_clamp (show k - 1 < 2 ^ 31 by omega)]
        refine ⟨vp_in_nI (by omega) (by decide), vp_in_nI (by omega) (by decide), br_c (fun e => nm_r (nI_1 k) (ih (k + 1) m s b bg2 (by omega) (by omega) (sf_SI_f (by omega) ((sf_st_ne hn hH (by omega) (by omega)).mp e) h))) (fun e => go ?_)⟩
        cases q : sf_st n fs ls k with
        | true => rfl
        | false => exact absurd ((sf_st_ne hn hH (by omega) (by omega)).mpr q) e
theorem sf_xcut {post : SX → Prop} {n : Nat} (hn : n ≤ 12)
    (K : ∀ s b hv2 bg2, (∀ k, k < 32 → hv2 k = nI (sf_hm n fs ls k)) → sf_Seg n fs ls s b bg2 → post (df, dl, nI n, st, pl, nI s, ts, cp, fs, ls, wt, mk, vl, ac, lo, hi, ou, hv2, bg2, ch, tr, te, pv, lc, rc, wL, wH, ar, dw, dm, dv)) : wpX_cutStretches post (df, dl, nI n, st, pl, sc, ts, cp, fs, ls, wt, mk, vl, ac, lo, hi, ou, hv, bg, ch, tr, te, pv, lc, rc, wL, wH, ar, dw, dm, dv) :=
  ⟨33, sf_xcut2 hn (fun hv3 h => ⟨33, sf_xcut80 hn h (fun s b bg3 g => K s b hv3 bg3 h g) 32 0 33 0 (fun _ => 0) _ (by omega) (by omega) sf_SI_0⟩) 32 0 33 _ (by omega) (by omega) (fun j hj => by omega)⟩
end
end
section
/-! chains of tests -/
def sf_Ch (R E : Nat → Int32) (T : Nat) : List Nat → Int32 → Prop
  | [], x => x = -1
  | r :: l, x => ∃ t, t < T ∧ x = nI t ∧ R t = nI r ∧ sf_Ch R E T l (E t)
def sf_Agr (T : Nat) (R E R' E' : Nat → Int32) : Prop := ∀ t, t < T → R' t = R t ∧ E' t = E t
theorem sf_Ch_ext {R E R' E' : Nat → Int32} {T T' : Nat} (ht : T ≤ T') (h : sf_Agr T R E R' E') : ∀ l x, sf_Ch R E T l x → sf_Ch R' E' T' l x := by
  intro l
  induction l with
  | nil => intro x c; exact c
  | cons r l ih =>
    intro x c
    obtain ⟨t, a, b, c, d⟩ := c
    have e := h t a
    refine ⟨t, by omega, b, e.1.trans c, ?_⟩
    rw [e.2]; exact ih _ d
theorem sf_Agr_rfl {T : Nat} {R E : Nat → Int32} : sf_Agr T R E R E := fun _ _ => ⟨rfl, rfl⟩
theorem sf_Agr_tr {T T' : Nat} {R E R' E' R2 E2 : Nat → Int32} (ht : T ≤ T') (h : sf_Agr T R E R' E') (g : sf_Agr T' R' E' R2 E2) : sf_Agr T R E R2 E2 :=
  fun t a => ⟨(g t (by omega)).1.trans (h t a).1, (g t (by omega)).2.trans (h t a).2⟩
def sf_Good (n : Nat) (h p : Nat → Bool) (l : List Nat) : Prop :=
  l.length ≤ 12 ∧ (∀ r, r ∈ l → r < n) ∧ ∀ H : Nat → Bool, (∀ r, r < n → p r = true → H r = true) → l.find? H = sf_fd (fun j => h j && H j) 0 n
theorem sf_good {n : Nat} {h p U : Nat → Bool} (hn : n ≤ 12) (u : sf_Use n h p U) : sf_Good n h p (sf_ul U 0 n) := by
  refine ⟨Nat.le_trans (sf_ul_len n 0) hn, fun r hr => ?_, fun H hH => ?_⟩
  · have := sf_ul_mem n 0 r hr; omega
  · rw [sf_ul_find]; exact sf_use_fd u hH
theorem sf_subm1 (x : Int32) : x + (-1) = x - 1 := (Int32.sub_eq_add_neg x 1).symm
section
variable {df dl ct st pl sc ts cp : Int32} {fs ls wt mk vl ac lo hi ou hv bg ch tr te pv lc rc wL wH ar dw dm dv : Nat → Int32}
variable {tr2 te2 : Nat → Int32}
theorem sf_xtest_l {post : Int32 → SX → Prop} {T : Nat} {x y : Int32} (hT : T < 400)
    (K1 : ∀ t, t < T → tr t = x → te t = y → post (nI t) (df, dl, ct, st, pl, sc, nI T, cp, fs, ls, wt, mk, vl, ac, lo, hi, ou, hv, bg, ch, tr, te, pv, lc, rc, wL, wH, ar, dw, dm, dv)) (K2 : post (nI T) (df, dl, ct, st, pl, sc, nI (T + 1), cp, fs, ls, wt, mk, vl, ac, lo, hi, ou, hv, bg, ch, upd tr T x, upd te T y, pv, lc, rc, wL, wH, ar, dw, dm, dv)) : ∀ d t fuel, t + d = T → d < fuel →
    wX_test_2 post x y df dl ct st pl sc (nI T) cp fs ls wt mk vl ac lo hi ou hv bg ch tr te pv lc rc wL wH ar dw dm dv fuel (nI t) := by
  intro d
  induction d with
  | zero =>
    intro t fuel ht hf
    cases fuel with
    | zero => omega
    | succ m =>
      have iT : vp_in (nI T) 400 := vp_in_nI hT (by decide)
      refine br_t (nI_le (by omega) (by omega)) (br_f ?_ ?_)
      · have e : (400 : Int32) = nI 400 := by decide
        rw [e, nI_eq (by omega) (by decide)]; omega
      · simp only [nI_clamp (show T < 2 ^ 31 by omega)]
        refine ⟨iT, nm_e ⟨iT, nm_e (nm_r (nI_1 T) ?_)⟩⟩
        rw [nI_pred]; exact K2
  | succ d ih =>
    intro t fuel ht hf
    cases fuel with
    | zero => omega
    | succ m =>
      have it : vp_in (nI t) 400 := vp_in_nI (by omega) (by decide)
      refine br_f (nI_ge (by omega) (by omega)) ?_
      simp only [nI_clamp (show t < 2 ^ 31 by omega)]
      exact ⟨it, br_c (fun e => ⟨it, br_c (fun e2 => K1 t (by omega) e e2) (fun e2 => nm_r (nI_1 t) (ih (t + 1) m (by omega) (by omega)))⟩) (fun e => nm_r (nI_1 t) (ih (t + 1) m (by omega) (by omega)))⟩
theorem sf_xtest {post : Int32 → SX → Prop} {T r : Nat} {l : List Nat} {x : Int32} (hT : T < 400) (hc : sf_Ch tr te T l x)
    (K : ∀ T2 tr2 te2 y, T ≤ T2 → T2 ≤ T + 1 → sf_Agr T tr te tr2 te2 → sf_Ch tr2 te2 T2 (r :: l) y → post y (df, dl, ct, st, pl, sc, nI T2, cp, fs, ls, wt, mk, vl, ac, lo, hi, ou, hv, bg, ch, tr2, te2, pv, lc, rc, wL, wH, ar, dw, dm, dv)) : wpX_test post (df, dl, ct, st, pl, sc, nI T, cp, fs, ls, wt, mk, vl, ac, lo, hi, ou, hv, bg, ch, tr, te, pv, lc, rc, wL, wH, ar, dw, dm, dv) (nI r) x := by
  refine ⟨T + 1, sf_xtest_l hT (fun t ht e1 e2 => K T tr te (nI t) (by omega) (by omega) sf_Agr_rfl ⟨t, ht, rfl, e1, by rw [e2]; exact hc⟩) (K (T + 1) _ _ (nI T) (by omega) (by omega) ?_ ?_) T 0 (T + 1) (by omega) (by omega)⟩
  · exact fun t ht => ⟨pk_un (by omega), pk_un (by omega)⟩
  · refine ⟨T, by omega, rfl, pk_us, ?_⟩
    rw [pk_us]
    exact sf_Ch_ext (by omega) (fun t ht => ⟨pk_un (by omega), pk_un (by omega)⟩) l x hc
theorem sf_xchain_l {post : Int32 → SX → Prop} {n mu T0 : Nat} (hn : n ≤ 12) (hm : mu < 4096)
    (K : ∀ T2 tr2 te2 y, T0 ≤ T2 → T2 ≤ T0 + n → sf_Agr T0 tr te tr2 te2 → sf_Ch tr2 te2 T2 (sf_ul (fun r => mu.testBit r) 0 n) y → post y (df, dl, nI n, st, pl, sc, nI T2, cp, fs, ls, wt, mk, vl, ac, lo, hi, ou, hv, bg, ch, tr2, te2, pv, lc, rc, wL, wH, ar, dw, dm, dv)) (hT0 : T0 + n < 400) :
    ∀ d fuel T tr2 te2 x, d ≤ n → d < fuel → T0 ≤ T → T + d ≤ T0 + n → sf_Agr T0 tr te tr2 te2 → sf_Ch tr2 te2 T (sf_ul (fun r => mu.testBit r) d (n - d)) x →
    wX_buildChain_40 post (nI mu) fuel x (nI d - 1) df dl (nI n) st pl sc (nI T) cp fs ls wt mk vl ac lo hi ou hv bg ch tr2 te2 pv lc rc wL wH ar dw dm dv := by
  intro d
  induction d with
  | zero =>
    intro fuel T tr2 te2 x hd hf h1 h2 h3 h4
    cases fuel with
    | zero => omega
    | succ m => exact br_t (by decide) (K T tr2 te2 x h1 (by omega) h3 h4)
  | succ d ih =>
    intro fuel T tr2 te2 x hd hf h1 h2 h3 h4
    cases fuel with
    | zero => omega
    | succ m =>
      have en : n - d = (n - (d + 1)) + 1 := by omega
      rw [nI_pred]
      refine br_f (nI_pos (by omega)) (br_c (fun e => ?_) (fun e => nm_r (sf_subm1 _) (ih m T tr2 te2 x (by omega) (by omega) h1 (by omega) h3 ?_)))
      · refine sf_xtest (by omega) h4 (fun T3 tr3 te3 y a1 a2 a3 a4 => ?_)
        refine nm_r (sf_subm1 _) (ih m T3 tr3 te3 y (by omega) (by omega) (by omega) (by omega) (sf_Agr_tr h1 h3 a3) ?_)
        have ub : mu.testBit d = true := (sf_bit hm (by omega)).mp e
        rw [en]; simp only [sf_ul, ub, if_true]; exact a4
      · have ub : mu.testBit d = false := sf_nt (fun z => e ((sf_bit hm (by omega)).mpr z))
        rw [en]; simp only [sf_ul, ub]; exact h4
theorem sf_xchain {post : Int32 → SX → Prop} {n T0 : Nat} {h p : Nat → Bool} (hn : n ≤ 12) (hT0 : T0 + n < 400)
    (K : ∀ T2 tr2 te2 y l, T0 ≤ T2 → T2 ≤ T0 + n → sf_Agr T0 tr te tr2 te2 → sf_Ch tr2 te2 T2 l y → sf_Good n h p l → post y (df, dl, nI n, st, nI (sf_mk p n), sc, nI T2, cp, fs, ls, wt, mk, vl, ac, lo, hi, ou, hv, bg, ch, tr2, te2, pv, lc, rc, wL, wH, ar, dw, dm, dv)) :
    wpX_buildChain post (df, dl, nI n, st, nI (sf_mk p n), sc, nI T0, cp, fs, ls, wt, mk, vl, ac, lo, hi, ou, hv, bg, ch, tr, te, pv, lc, rc, wL, wH, ar, dw, dm, dv) (nI (sf_mk h n)) := by
  have ha : sf_mk h n &&& sf_mk p n < 4096 := Nat.lt_of_le_of_lt Nat.and_le_left (sf_mk_le12 hn)
  have hh : sf_mk h n < 4096 := sf_mk_le12 hn
  have fin : ∀ mu, mu < 4096 → sf_Use n h p (fun r => mu.testBit r) → wX_buildChain_27 post (nI mu) df dl (nI n) st (nI (sf_mk p n)) sc (nI T0) cp fs ls wt mk vl ac lo hi ou hv bg ch tr te pv lc rc wL wH ar dw dm dv := by
    intro mu hm u
    exact nm_e ⟨n + 1, sf_xchain_l hn hm (fun T2 tr2 te2 y a1 a2 a3 a4 => K T2 tr2 te2 y _ a1 a2 a3 a4 (sf_good hn u)) hT0 n (n + 1) T0 tr te (-1) (by omega) (by omega) (by omega) (by omega) sf_Agr_rfl (by rw [Nat.sub_self]; exact rfl)⟩
  unfold wpX_buildChain
  simp only [nx_and]
  refine nm_e (nm_e ?_)
  by_cases z : sf_mk h n &&& sf_mk p n = 0
  · rw [z]
    refine br_t sf_low0 (fin _ hh ⟨fun r hr => ?_, fun r hr h1 _ => ?_⟩)
    · have hr' : (sf_mk h n).testBit r = true := hr
      rw [sf_mk_tb] at hr'; simpa using hr'
    · show (sf_mk h n).testBit r = true
      rw [sf_mk_tb, decide_eq_true hr, h1]; rfl
  · obtain ⟨i, hi12, e1, e2⟩ := sf_lowb _ ha z
    obtain ⟨m1, m2, m3⟩ := sf_lowm i hi12
    obtain ⟨t1, t2⟩ := sf_lowt e2
    rw [e1]
    refine br_f m2 ?_
    rw [m1, pk_andN (by omega) (i + 1) m3]
    have tb : ∀ r, ((sf_mk h n) % 2 ^ (i + 1)).testBit r = (decide (r < i + 1) && (decide (r < n) && h r)) := by
      intro r; rw [Nat.testBit_mod_two_pow, sf_mk_tb]
    rw [Nat.testBit_and, sf_mk_tb, sf_mk_tb] at t1
    refine fin _ (Nat.lt_of_le_of_lt (Nat.mod_le _ _) hh) ⟨fun r hr => ?_, fun r hr h1 h2 => ?_⟩
    · have hr' := (tb r).symm.trans hr
      simp at hr'
      exact ⟨hr'.2.1, hr'.2.2⟩
    · show ((sf_mk h n) % 2 ^ (i + 1)).testBit r = true
      rw [tb, decide_eq_true hr, h1]
      have : r < i + 1 := by
        apply Nat.lt_of_not_le
        intro q
        simp at t1
        have := h2 i (by omega) t1.1.2
        exact sf_tf t1.2.2 this
      rw [decide_eq_true this]; rfl
end
section
variable {df dl ct st pl sc ts cp : Int32} {fs ls wt mk vl ac lo hi ou hv bg ch tr te pv lc rc wL wH ar dw dm dv : Nat → Int32}
theorem sf_xfollow_l {post : Int32 → Prop} {n T : Nat} (hn : n ≤ 12) (hT : T ≤ 400) (hW : sf_W16 wt (2 * n)) (hN : ∀ c, c < 2 * n → sf_Nm (wt c) (vl c) (lo c) (hi c) (ou c)) : ∀ l k fuel x, l.length + k ≤ 12 → l.length < fuel → (∀ r, r ∈ l → r < n) →
    sf_Ch tr te T l x → post (sf_o (-1) (l.find? (sf_H wt mk vl ar))) → wX_follow_4 post df dl ct st pl sc ts cp fs ls wt mk vl ac lo hi ou hv bg ch tr te pv lc rc wL wH ar dw dm dv fuel x (nI k) := by
  intro l
  induction l with
  | nil =>
    intro k fuel x h1 h2 h3 h4 hp
    cases fuel with
    | zero => simp at h2
    | succ m =>
      have e : x = -1 := h4
      exact br_c (fun _ => hp) (fun _ => br_t e hp)
  | cons r l ih =>
    intro k fuel x h1 h2 h3 h4 hp
    simp only [List.length_cons] at h1 h2
    cases fuel with
    | zero => omega
    | succ m =>
      obtain ⟨t, a1, a2, a3, a4⟩ := h4
      have it : vp_in (nI t) 400 := vp_in_nI (by omega) (by decide)
      have hr := h3 r (List.mem_cons_self)
      refine br_f (nI_ge (b := 12) (by omega) (by decide)) ?_
      rw [a2]
      refine br_f ?_ ?_
      · intro z
        have z' := congrArg Int32.toInt z
        rw [nI_toInt (by omega), show (-1 : Int32).toInt = -1 by decide] at z'
        omega
      · simp only [nI_clamp (show t < 2 ^ 31 by omega), a3]
        refine ⟨it, sf_xholds hn hW hN hr (sf_br (fun e => ⟨it, nm_e (nm_r (nI_1 k) (ih (k + 1) m _ (by omega) (by omega) (fun q hq => h3 q (List.mem_cons_of_mem _ hq)) a4 ?_))⟩) (fun e => ⟨it, ?_⟩))⟩
        · rw [List.find?_cons_of_neg (by rw [e]; decide)] at hp; exact hp
        · rw [List.find?_cons_of_pos e] at hp; exact hp
theorem sf_xfollow {post : Int32 → Prop} {n T : Nat} {l : List Nat} {x : Int32} {h : Nat → Bool} (hn : n ≤ 12) (hT : T ≤ 400) (hW : sf_W16 wt (2 * n)) (hN : ∀ c, c < 2 * n → sf_Nm (wt c) (vl c) (lo c) (hi c) (ou c))
    (hg : sf_Good n h (sf_pl wt) l) (hc : sf_Ch tr te T l x) (hp : post (sf_o (-1) (sf_fd (fun j => h j && sf_H wt mk vl ar j) 0 n))) : wpX_follow post (df, dl, ct, st, pl, sc, ts, cp, fs, ls, wt, mk, vl, ac, lo, hi, ou, hv, bg, ch, tr, te, pv, lc, rc, wL, wH, ar, dw, dm, dv) x := by
  have e := hg.2.2 (sf_H wt mk vl ar) (fun r _ hr => by
    unfold sf_pl at hr
    simp only [Bool.and_eq_true, decide_eq_true_eq] at hr
    unfold sf_H sf_met
    rw [hr.1, hr.2]; rfl)
  rw [← e] at hp
  exact ⟨l.length + 1, sf_xfollow_l hn hT hW hN l 0 (l.length + 1) x (by have := hg.1; omega) (by omega) hg.2.1 hc hp⟩
end
end
section
/-! the comparison tree: a condition a node; the queue by a sum -/
def sf_sm (f : Nat → Nat) : Nat → Nat
  | 0 => 0
  | m + 1 => sf_sm f m + f m
theorem sf_sm_eq {f g : Nat → Nat} : ∀ m, (∀ x, x < m → f x = g x) → sf_sm f m = sf_sm g m := by
  intro m
  induction m with
  | zero => intro _; rfl
  | succ m ih => intro h; simp only [sf_sm, ih (fun x hx => h x (by omega)), h m (by omega)]
theorem sf_sm_ge {f : Nat → Nat} {a : Nat} : ∀ d, (∀ x, a ≤ x → x < a + d → 1 ≤ f x) → sf_sm f a + d ≤ sf_sm f (a + d) := by
  intro d
  induction d with
  | zero => intro _; exact Nat.le_refl _
  | succ d ih =>
    intro h
    have e := ih (fun x h1 h2 => h x h1 (by omega))
    have e2 := h (a + d) (by omega) (by omega)
    rw [← Nat.add_assoc a d 1]
    simp only [sf_sm]
    omega
def sf_Nd (made : Nat) (b p q : Nat → Nat) (P C D : Nat → Int32) (x : Nat) : Prop :=
  (q x = p x + 1 ∧ P x = -1 ∧ C x = nI (p x)) ∨
  (∃ l, l + 1 < made ∧ p x + 2 ≤ q x ∧ P x = nI (b ((p x + q x) / 2)) ∧ C x = nI l ∧ D x = nI (l + 1) ∧ p l = p x ∧ q l = (p x + q x) / 2 ∧ p (l + 1) = (p x + q x) / 2 ∧ q (l + 1) = q x)
def sf_Tree (s : Nat) (b : Nat → Nat) (P C D : Nat → Int32) : Prop :=
  ∃ made p q, 1 ≤ made ∧ made ≤ 63 ∧ p 0 = 0 ∧ q 0 = s ∧ ∀ x, x < made → p x < q x ∧ q x ≤ s ∧ sf_Nd made b p q P C D x
def sf_len (p q : Nat → Nat) (x : Nat) : Nat := 2 * (q x - p x) - 1
def sf_TI (s made node : Nat) (b p q : Nat → Nat) (P C D U V : Nat → Int32) : Prop :=
  1 ≤ made ∧ node ≤ made ∧ p 0 = 0 ∧ q 0 = s ∧ (∀ x, x < made → p x < q x ∧ q x ≤ s ∧ U x = nI (p x) ∧ V x = nI (q x)) ∧ (∀ x, x < node → sf_Nd made b p q P C D x) ∧
  node + sf_sm (sf_len p q) made = 2 * s - 1 + sf_sm (sf_len p q) node
theorem sf_TI_made {s made node : Nat} {b p q : Nat → Nat} {P C D U V : Nat → Int32} (h : sf_TI s made node b p q P C D U V) : made ≤ 2 * s - 1 := by
  obtain ⟨h1, h2, h3, h4, h5, h6, h7⟩ := h
  obtain ⟨d, rfl⟩ : ∃ d, made = node + d := ⟨made - node, by omega⟩
  have := sf_sm_ge (f := sf_len p q) (a := node) d (fun x a c => by have := (h5 x c).1; unfold sf_len; omega)
  omega
theorem sf_TI_room {s made node : Nat} {b p q : Nat → Nat} {P C D U V : Nat → Int32} (h : sf_TI s made node b p q P C D U V) (hs : s ≤ 32) (hn : node < made) (h2 : p node + 2 ≤ q node) : made ≤ 61 := by
  obtain ⟨h1, _, h3, h4, h5, h6, h7⟩ := h
  obtain ⟨d, rfl⟩ : ∃ d, made = (node + 1) + d := ⟨made - (node + 1), by omega⟩
  have g := sf_sm_ge (f := sf_len p q) (a := node + 1) d (fun x a c => by have := (h5 x c).1; unfold sf_len; omega)
  have e : sf_sm (sf_len p q) (node + 1) = sf_sm (sf_len p q) node + sf_len p q node := rfl
  have e2 : 3 ≤ sf_len p q node := by unfold sf_len; omega
  omega
theorem sf_TI_0 {s : Nat} {b : Nat → Nat} {P C D U V : Nat → Int32} (hs : 1 ≤ s) : sf_TI s 1 0 b (fun _ => 0) (fun _ => s) P C D (upd U 0 0) (upd V 0 (nI s)) := by
  refine ⟨by omega, by omega, rfl, rfl, fun x hx => ?_, fun x hx => by omega, ?_⟩
  · have : x = 0 := by omega
    subst this
    exact ⟨hs, Nat.le_refl s, pk_us, pk_us⟩
  · show 0 + (0 + (2 * (s - 0) - 1)) = 2 * s - 1 + 0
    omega
theorem sf_TI_leaf {s made node : Nat} {b p q : Nat → Nat} {P C D U V : Nat → Int32} (h : sf_TI s made node b p q P C D U V) (hn : node < made) (h2 : q node = p node + 1) :
    sf_TI s made (node + 1) b p q (upd P node (-1)) (upd C node (nI (p node))) D U V := by
  obtain ⟨h1, _, h3, h4, h5, h6, h7⟩ := h
  refine ⟨h1, by omega, h3, h4, h5, fun x hx => ?_, ?_⟩
  · by_cases e : x = node
    · subst e
      exact Or.inl ⟨h2, pk_us, pk_us⟩
    · have := h6 x (by omega)
      unfold sf_Nd at this ⊢
      rw [pk_un e, pk_un e]; exact this
  · have e : sf_sm (sf_len p q) (node + 1) = sf_sm (sf_len p q) node + sf_len p q node := rfl
    have e2 : sf_len p q node = 1 := by unfold sf_len; omega
    omega
theorem sf_ex2 (p : Nat → Nat) (k a c : Nat) : ∃ p' : Nat → Nat, (∀ x, x < k → p' x = p x) ∧ p' k = a ∧ p' (k + 1) = c := by
  refine ⟨fun x => if x = k then a else if x = k + 1 then c else p x, fun x hx => ?_, ?_, ?_⟩
  · show (if x = k then a else if x = k + 1 then c else p x) = p x
    rw [if_neg (by omega), if_neg (by omega)]
  · show (if k = k then a else if k = k + 1 then c else p k) = a
    rw [if_pos rfl]
  · show (if k + 1 = k then a else if k + 1 = k + 1 then c else p (k + 1)) = c
    rw [if_neg (by omega), if_pos rfl]
theorem sf_TI_split {s made node m : Nat} {b p q p' q' : Nat → Nat} {P C D U V : Nat → Int32} (h : sf_TI s made node b p q P C D U V) (hn : node < made) (h2 : p node + 2 ≤ q node) (hm : (p node + q node) / 2 = m)
    (hp : ∀ x, x < made → p' x = p x) (p0 : p' made = p node) (p1 : p' (made + 1) = m) (hq : ∀ x, x < made → q' x = q x) (q0 : q' made = m) (q1 : q' (made + 1) = q node) :
    sf_TI s (made + 2) (node + 1) b p' q' (upd P node (nI (b m))) (upd C node (nI made)) (upd D node (nI (made + 1)))
      (upd (upd U made (nI (p node))) (made + 1) (nI m)) (upd (upd V made (nI m)) (made + 1) (nI (q node))) := by
  obtain ⟨h1, _, h3, h4, h5, h6, h7⟩ := h
  have hnode := h5 node hn
  refine ⟨by omega, by omega, by rw [hp 0 (by omega)]; exact h3, by rw [hq 0 (by omega)]; exact h4, fun x hx => ?_, fun x hx => ?_, ?_⟩
  · by_cases e : x < made
    · rw [hp x e, hq x e, pk_un (by omega), pk_un (by omega), pk_un (by omega), pk_un (by omega)]
      exact h5 x e
    · by_cases e2 : x = made
      · subst e2
        rw [p0, q0]
        refine ⟨by omega, by omega, ?_, ?_⟩
        · rw [pk_un (by omega)]; exact pk_us
        · rw [pk_un (by omega)]; exact pk_us
      · have : x = made + 1 := by omega
        subst this
        rw [p1, q1]
        exact ⟨by omega, by omega, pk_us, pk_us⟩
  · by_cases e : x = node
    · subst e
      refine Or.inr ⟨made, by omega, ?_⟩
      rw [hp x (by omega), hq x (by omega), p0, q0, p1, q1, hm]
      exact ⟨h2, pk_us, pk_us, pk_us, rfl, rfl, rfl, rfl⟩
    · rcases h6 x (by omega) with a | ⟨l, l1, a⟩
      · refine Or.inl ?_
        rw [hp x (by omega), hq x (by omega), pk_un e, pk_un e]; exact a
      · refine Or.inr ⟨l, by omega, ?_⟩
        rw [hp x (by omega), hq x (by omega), pk_un e, pk_un e, pk_un e, hp l (by omega), hq l (by omega), hp (l + 1) (by omega), hq (l + 1) (by omega)]; exact a
  · have lx : ∀ x, x < made → sf_len p' q' x = sf_len p q x := fun x hx => by unfold sf_len; rw [hp x hx, hq x hx]
    have e1 : sf_sm (sf_len p' q') made = sf_sm (sf_len p q) made := sf_sm_eq made lx
    have e2 : sf_sm (sf_len p' q') (node + 1) = sf_sm (sf_len p q) (node + 1) := sf_sm_eq (node + 1) (fun x hx => lx x (by omega))
    have e3 : sf_sm (sf_len p q) (node + 1) = sf_sm (sf_len p q) node + sf_len p q node := rfl
    have e4 : sf_sm (sf_len p' q') (made + 2) = sf_sm (sf_len p' q') made + sf_len p' q' made + sf_len p' q' (made + 1) := rfl
    have e5 : sf_len p' q' made = 2 * (m - p node) - 1 := by unfold sf_len; rw [p0, q0]
    have e6 : sf_len p' q' (made + 1) = 2 * (q node - m) - 1 := by unfold sf_len; rw [p1, q1]
    have e7 : sf_len p q node = 2 * (q node - p node) - 1 := rfl
    omega
theorem sf_TI_end {s made : Nat} {b p q : Nat → Nat} {P C D U V : Nat → Int32} (hs : s ≤ 32) (h : sf_TI s made made b p q P C D U V) : sf_Tree s b P C D := by
  have hm := sf_TI_made h
  obtain ⟨h1, _, h3, h4, h5, h6, h7⟩ := h
  exact ⟨made, p, q, h1, by omega, h3, h4, fun x hx => ⟨(h5 x hx).1, (h5 x hx).2.1, h6 x hx⟩⟩
theorem sf_nim1 {k : Nat} (h : k < 2 ^ 31) : ¬ nI k = (-1 : Int32) := by
  intro z
  have z' := congrArg Int32.toInt z
  rw [nI_toInt h, show (-1 : Int32).toInt = -1 by decide] at z'
  omega
section
variable {df dl ct st pl sc ts cp : Int32} {fs ls wt mk vl ac lo hi ou hv bg ch tr te pv lc rc wL wH ar dw dm dv : Nat → Int32}
variable {pv2 lc2 rc2 wL2 wH2 : Nat → Int32}
theorem sf_xtree_l {post : SX → Prop} {s : Nat} {b : Nat → Nat} (hs : s ≤ 32) (hB : ∀ j, j ≤ s → bg j = nI (b j))
    (K : ∀ pv2 lc2 rc2 wL2 wH2, sf_Tree s b pv2 lc2 rc2 → post (df, dl, ct, st, pl, sc, ts, cp, fs, ls, wt, mk, vl, ac, lo, hi, ou, hv, bg, ch, tr, te, pv2, lc2, rc2, wL2, wH2, ar, dw, dm, dv)) : ∀ d made node fuel p q pv2 lc2 rc2 wL2 wH2, node + d = 63 → d < fuel →
    sf_TI s made node b p q pv2 lc2 rc2 wL2 wH2 → wX_buildTree_21 post df dl ct st pl sc ts cp fuel (nI made) (nI node) fs ls wt mk vl ac lo hi ou hv bg ch tr te pv2 lc2 rc2 wL2 wH2 ar dw dm dv := by
  intro d
  induction d with
  | zero =>
    intro made node fuel p q pv2 lc2 rc2 wL2 wH2 h1 h2 h
    cases fuel with
    | zero => omega
    | succ m =>
      have hm := sf_TI_made h
      have hnm := h.2.1
      have e : node = made := by omega
      subst e
      exact br_t (nI_le (a := 63) (by omega) (by omega)) (K _ _ _ _ _ (sf_TI_end hs h))
  | succ d ih =>
    intro made node fuel p q pv2 lc2 rc2 wL2 wH2 h1 h2 h
    cases fuel with
    | zero => omega
    | succ m =>
      have hm := sf_TI_made h
      have hnm := h.2.1
      refine br_f (nI_ge (b := 63) (by omega) (by decide)) ?_
      by_cases e : node = made
      · subst e
        exact br_t (nI_le (by omega) (by omega)) (K _ _ _ _ _ (sf_TI_end hs h))
      have hlt : node < made := by omega
      obtain ⟨c1, c2, c3, c4⟩ := h.2.2.2.2.1 node hlt
      have i1 : vp_in (nI node) 64 := vp_in_nI (by omega) (by decide)
      have leaf : q node = p node + 1 → wX_buildTree_61 post (wX_buildTree_21 post df dl ct st pl sc ts cp m) (nI made) (nI node) (nI (p node)) df dl ct st pl sc ts cp fs ls wt mk vl ac lo hi ou hv bg ch tr te pv2 lc2 rc2 wL2 wH2 ar dw dm dv := by
        intro e2
        unfold wX_buildTree_61
        simp only [nI_clamp (show node < 2 ^ 31 by omega)]
        exact ⟨i1, nm_e ⟨i1, nm_e (nm_r (nI_1 node) (ih made (node + 1) m p q _ _ _ _ _ (by omega) (by omega) (sf_TI_leaf h hlt e2)))⟩⟩
      refine br_f (nI_ge (by omega) (by omega)) ?_
      simp only [nI_clamp (show node < 2 ^ 31 by omega), c3, c4]
      refine ⟨i1, nm_e ⟨i1, nm_e ?_⟩⟩
      rw [pk_sub (by omega)]
      by_cases e2 : q node - p node < 2
      · exact br_t (nI_lt (b := 2) (by omega) (by decide)) (leaf (by omega))
      · have hr := sf_TI_room h hs hlt (by omega)
        have em : (nI (p node) + nI (q node)) >>> ((1 : Int32) &&& 31) = nI ((p node + q node) / 2) := by
          rw [nI_add]; exact pk_shrN (by omega) _ 1 (by decide)
        have i2 : vp_in (nI ((p node + q node) / 2)) 33 := vp_in_nI (by omega) (by decide)
        have i3 : vp_in (nI made) 64 := vp_in_nI (by omega) (by decide)
        have i4 : vp_in (nI (made + 1)) 64 := vp_in_nI (by omega) (by decide)
        have hb := hB ((p node + q node) / 2) (by omega)
        refine br_f (nI_nlt (b := 2) (by omega) (by omega)) (br_t (nI_le (b := 62) (by omega) (by decide)) (nm_r em ?_))
        simp only [nI_1 made, nI_clamp (show (p node + q node) / 2 < 2 ^ 31 by omega), nI_clamp (show made < 2 ^ 31 by omega), nI_clamp (show made + 1 < 2 ^ 31 by omega), hb]
        refine ⟨i2, i1, nm_e ⟨i1, nm_e ⟨i3, nm_e ⟨i3, nm_e ⟨i1, nm_e ⟨i4, nm_e ⟨i4, nm_e (nm_r (nI_add made 2) (nm_r (nI_1 node) ?_))⟩⟩⟩⟩⟩⟩⟩
        obtain ⟨p', a1, a2, a3⟩ := sf_ex2 p made (p node) ((p node + q node) / 2)
        obtain ⟨q', d1, d2, d3⟩ := sf_ex2 q made ((p node + q node) / 2) (q node)
        exact ih (made + 2) (node + 1) m p' q' _ _ _ _ _ (by omega) (by omega) (sf_TI_split h hlt (by omega) rfl a1 a2 a3 d1 d2 d3)
theorem sf_xtree {post : SX → Prop} {s : Nat} {b : Nat → Nat} (h1 : 1 ≤ s) (hs : s ≤ 32) (hB : ∀ j, j ≤ s → bg j = nI (b j))
    (K : ∀ pv2 lc2 rc2 wL2 wH2, sf_Tree s b pv2 lc2 rc2 → post (df, dl, ct, st, pl, nI s, ts, cp, fs, ls, wt, mk, vl, ac, lo, hi, ou, hv, bg, ch, tr, te, pv2, lc2, rc2, wL2, wH2, ar, dw, dm, dv)) : wpX_buildTree post (df, dl, ct, st, pl, nI s, ts, cp, fs, ls, wt, mk, vl, ac, lo, hi, ou, hv, bg, ch, tr, te, pv, lc, rc, wL, wH, ar, dw, dm, dv) :=
  nm_e (nm_e ⟨64, sf_xtree_l hs hB K 63 1 0 64 (fun _ => 0) (fun _ => s) _ _ _ _ _ (by omega) (by omega) (sf_TI_0 h1)⟩)
theorem sf_xsof_l {post : Int32 → Prop} {s num made : Nat} {b p q : Nat → Nat} (hs : s ≤ 32) (hm : made ≤ 63) (hb32 : ∀ j, j ≤ s → b j ≤ 32) (hnum : num < 32)
    (ht : ∀ x, x < made → p x < q x ∧ q x ≤ s ∧ sf_Nd made b p q pv lc rc x)
    (K : ∀ j, j < s → b j ≤ num → num < b (j + 1) → post (nI j)) : ∀ d x k fuel, x < made → k + d ≤ 8 → d < fuel → q x - p x ≤ 2 ^ d → b (p x) ≤ num → num < b (q x) →
    wX_stretchOf_4 post (nI num) df dl ct st pl sc ts cp fs ls wt mk vl ac lo hi ou hv bg ch tr te pv lc rc wL wH ar dw dm dv fuel (nI x) (nI k) := by
  have leaf : ∀ x k m, x < made → k ≤ 8 → q x = p x + 1 → pv x = -1 → lc x = nI (p x) → b (p x) ≤ num → num < b (q x) → wX_stretchOf_4 post (nI num) df dl ct st pl sc ts cp fs ls wt mk vl ac lo hi ou hv bg ch tr te pv lc rc wL wH ar dw dm dv (m + 1) (nI x) (nI k) := by
    intro x k m hx hk e1 e2 e3 b1 b2
    have ix : vp_in (nI x) 64 := vp_in_nI (by omega) (by decide)
    have hj : post (nI (p x)) := K (p x) (by have := (ht x hx).2.1; omega) b1 (by rw [← e1]; exact b2)
    have ecl := nI_clamp (show x < 2 ^ 31 by omega)
    refine br_c (fun _ => ⟨ix, ?_⟩) (fun _ => ⟨ix, br_t ?_ ⟨ix, ?_⟩⟩)
    · rw [ecl, e3]; exact hj
    · rw [ecl]; exact e2
    · rw [ecl, e3]; exact hj
  intro d
  induction d with
  | zero =>
    intro x k fuel hx hk hf hl b1 b2
    cases fuel with
    | zero => omega
    | succ m =>
      have h0 := (ht x hx).1
      have hl' : q x - p x ≤ 1 := hl
      rcases (ht x hx).2.2 with ⟨e1, e2, e3⟩ | ⟨l, l1, l2, _⟩
      · exact leaf x k m hx (by omega) e1 e2 e3 b1 b2
      · omega
  | succ d ih =>
    intro x k fuel hx hk hf hl b1 b2
    cases fuel with
    | zero => omega
    | succ m =>
      have h0 := (ht x hx).1
      have h00 := (ht x hx).2.1
      rcases (ht x hx).2.2 with ⟨e1, e2, e3⟩ | ⟨l, l1, l2, l3, l4, l5, l6, l7, l8, l9⟩
      · exact leaf x k m hx (by omega) e1 e2 e3 b1 b2
      · have ix : vp_in (nI x) 64 := vp_in_nI (by omega) (by decide)
        have hmid := hb32 ((p x + q x) / 2) (by omega)
        have hl' : q x - p x ≤ 2 * 2 ^ d := by rw [Nat.pow_succ] at hl; omega
        refine br_f (nI_ge (b := 8) (by omega) (by decide)) ?_
        simp only [nI_clamp (show x < 2 ^ 31 by omega), l3]
        refine ⟨ix, br_f (sf_nim1 (by omega)) ⟨ix, ?_⟩⟩
        by_cases hc : b ((p x + q x) / 2) ≤ num
        · refine br_t (nI_le hc (by omega)) ⟨ix, nm_r l5 (nm_r (nI_1 k) (ih (l + 1) (k + 1) m (by omega) (by omega) (by omega) ?_ ?_ ?_))⟩
          · rw [l8, l9]; generalize 2 ^ d = D at *; omega
          · rw [l8]; exact hc
          · rw [l9]; exact b2
        · refine br_f (nI_ge (by omega) (by omega)) ⟨ix, nm_r l4 (nm_r (nI_1 k) (ih l (k + 1) m (by omega) (by omega) (by omega) ?_ ?_ ?_))⟩
          · rw [l6, l7]; generalize 2 ^ d = D at *; omega
          · rw [l6]; exact b1
          · rw [l7]; omega
end
end
section
/-- the compiled data are right for the rules -/
def sf_Comp (n : Nat) (F L W V : Nat → Int32) (pl sc : Int32) (lo hi ou hv bg ch tr te pv lc rc : Nat → Int32) : Prop :=
  (∀ c, c < 2 * n → sf_Nm (W c) (V c) (lo c) (hi c) (ou c)) ∧ pl = nI (sf_mk (sf_pl W) n) ∧ (∀ k, k < 32 → hv k = nI (sf_hm n F L k)) ∧
  ∃ s b T, sc = nI s ∧ sf_Seg n F L s b bg ∧ T ≤ 400 ∧ (∀ j, j < s → ∃ l, sf_Ch tr te T l (ch j) ∧ sf_Good n (fun i => sf_has F L i (b j)) (sf_pl W) l) ∧ sf_Tree s b pv lc rc
section
variable {df dl ct st pl sc ts cp : Int32} {fs ls wt mk vl ac lo hi ou hv bg ch tr te pv lc rc wL wH ar dw dm dv : Nat → Int32}
variable {pl2 sc2 ts2 cp2 : Int32} {lo2 hi2 ou2 hv2 bg2 ch2 tr2 te2 pv2 lc2 rc2 wL2 wH2 : Nat → Int32}
theorem sf_xcomp103 {post : SX → Prop} {n s : Nat} {b : Nat → Nat} (hn : n ≤ 12) (hH : ∀ k, k < 32 → hv k = nI (sf_hm n fs ls k)) (hS : sf_Seg n fs ls s b bg)
    (K : ∀ T ch2 tr2 te2 pv2 lc2 rc2 wL2 wH2, T ≤ 400 → (∀ j, j < s → ∃ l, sf_Ch tr2 te2 T l (ch2 j) ∧ sf_Good n (fun i => sf_has fs ls i (b j)) (sf_pl wt) l) → sf_Tree s b pv2 lc2 rc2 →
      post (df, dl, nI n, st, nI (sf_mk (sf_pl wt) n), nI s, nI T, cp, fs, ls, wt, mk, vl, ac, lo, hi, ou, hv, bg, ch2, tr2, te2, pv2, lc2, rc2, wL2, wH2, ar, dw, dm, dv)) : ∀ d x fuel T ch2 tr2 te2, x + d = s → d < fuel → T ≤ 12 * x →
    (∀ j, j < x → ∃ l, sf_Ch tr2 te2 T l (ch2 j) ∧ sf_Good n (fun i => sf_has fs ls i (b j)) (sf_pl wt) l) →
    wX_compile_103 post fuel (nI x) df dl (nI n) st (nI (sf_mk (sf_pl wt) n)) (nI s) (nI T) cp fs ls wt mk vl ac lo hi ou hv bg ch2 tr2 te2 pv lc rc wL wH ar dw dm dv := by
  obtain ⟨s1, s2, s3, s4, s5, s6, s7, s8, s9⟩ := hS
  intro d
  induction d with
  | zero =>
    intro x fuel T ch2 tr2 te2 h1 h2 h3 h4
    cases fuel with
    | zero => omega
    | succ m =>
      have e : x = s := by omega
      subst e
      refine br_t (nI_le (by omega) (by omega)) ?_
      exact sf_xtree s1 s2 s8 (fun pv3 lc3 rc3 wL3 wH3 h => K T ch2 tr2 te2 pv3 lc3 rc3 wL3 wH3 (by omega) h4 h)
  | succ d ih =>
    intro x fuel T ch2 tr2 te2 h1 h2 h3 h4
    cases fuel with
    | zero => omega
    | succ m =>
      have hb := s7 x (by omega)
      have eb := s8 x (by omega)
      have eh := hH (b x) hb
      refine br_f (nI_ge (by omega) (by omega)) ?_
      simp only [nI_clamp (show x < 2 ^ 31 by omega), eb, nI_clamp (show b x < 2 ^ 31 by omega), eh]
      refine ⟨vp_in_nI (by omega) (by decide), vp_in_nI (by omega) (by decide), ?_⟩
      unfold sf_hm
      refine sf_xchain (h := fun i => sf_has fs ls i (b x)) (p := sf_pl wt) hn (by omega) (fun T3 tr3 te3 y l a1 a2 a3 a4 a5 => ?_)
      refine ⟨vp_in_nI (by omega) (by decide), nm_e (nm_r (nI_1 x) (ih (x + 1) m T3 _ tr3 te3 (by omega) (by omega) (by omega) (fun j hj => ?_)))⟩
      by_cases e : j = x
      · subst e
        refine ⟨l, ?_, a5⟩
        rw [pk_us]; exact a4
      · obtain ⟨l', c1, c2⟩ := h4 j (by omega)
        refine ⟨l', ?_, c2⟩
        rw [pk_un e]; exact sf_Ch_ext a1 a3 l' _ c1
theorem sf_xcomp20 {post : SX → Prop} {n : Nat} (hn : n ≤ 12) (hW : sf_W16 wt (2 * n))
    (K : ∀ pl2 sc2 ts2 lo2 hi2 ou2 hv2 bg2 ch2 tr2 te2 pv2 lc2 rc2 wL2 wH2, sf_Comp n fs ls wt vl pl2 sc2 lo2 hi2 ou2 hv2 bg2 ch2 tr2 te2 pv2 lc2 rc2 → post (df, dl, nI n, st, pl2, sc2, ts2, cp, fs, ls, wt, mk, vl, ac, lo2, hi2, ou2, hv2, bg2, ch2, tr2, te2, pv2, lc2, rc2, wL2, wH2, ar, dw, dm, dv)) : ∀ d r fuel lo2 hi2 ou2, r + d = n → d < fuel →
    (∀ c, c < 2 * r → sf_Nm (wt c) (vl c) (lo2 c) (hi2 c) (ou2 c)) → wX_compile_20 post fuel (nI r) df dl (nI n) st (nI (sf_mk (sf_pl wt) r)) sc ts cp fs ls wt mk vl ac lo2 hi2 ou2 hv bg ch tr te pv lc rc wL wH ar dw dm dv := by
  intro d
  induction d with
  | zero =>
    intro r fuel lo2 hi2 ou2 h1 h2 h3
    cases fuel with
    | zero => omega
    | succ m =>
      have e : r = n := by omega
      subst e
      refine br_t (nI_le (by omega) (by omega)) ?_
      refine sf_xcut hn (fun s b hv3 bg3 a1 a2 => ?_)
      have hs1 := a2.1
      have hs2 := a2.2.1
      refine ⟨s + 1, sf_xcomp103 hn a1 a2 (fun T ch3 tr3 te3 pv3 lc3 rc3 wL3 wH3 c1 c2 c3 => K _ _ _ _ _ _ _ _ _ _ _ _ _ _ _ _ ⟨h3, rfl, a1, s, b, T, rfl, a2, c1, c2, c3⟩) s 0 (s + 1) 0 _ _ _ (by omega) (by omega) (by omega) (fun j hj => by omega)⟩
  | succ d ih =>
    intro r fuel lo2 hi2 ou2 h1 h2 h3
    cases fuel with
    | zero => omega
    | succ m =>
      obtain ⟨w1, a1, a1', b1⟩ := hW (2 * r) (by omega)
      obtain ⟨w2, a2, a2', b2⟩ := hW (2 * r + 1) (by omega)
      refine br_f (nI_ge (by omega) (by omega)) ?_
      simp only [sf_two, nI_1 (2 * r)]
      refine sf_xnorm (by omega) a1 a1' b1 (fun lo3 hi3 ou3 c1 => ?_)
      dsimp only
      refine sf_xnorm (by omega) a2 a2' b2 (fun lo4 hi4 ou4 c2 => ?_)
      have fin : ∀ c, c < 2 * (r + 1) → sf_Nm (wt c) (vl c) (lo4 c) (hi4 c) (ou4 c) := by
        intro c hc
        by_cases e : c = 2 * r + 1
        · subst e; exact c2.2
        · obtain ⟨q1, q2, q3⟩ := c2.1 c e
          rw [q1, q2, q3]
          by_cases e2 : c = 2 * r
          · subst e2; exact c1.2
          · obtain ⟨q4, q5, q6⟩ := c1.1 c e2
            rw [q4, q5, q6]
            exact h3 c (by omega)
      have go := ih (r + 1) m lo4 hi4 ou4 (by omega) (by omega) fin
      dsimp only
      simp only [nI_clamp (show 2 * r < 2 ^ 31 by omega), nI_clamp (show 2 * r + 1 < 2 ^ 31 by omega)]
      refine ⟨vp_in_nI (by omega) (by decide), br_c (fun z1 => ⟨vp_in_nI (by omega) (by decide), br_c (fun z2 => nm_r (sf_setb (by omega) ?_) (nm_r (nI_1 r) go)) (fun z2 => nm_r (nI_1 r) ?_)⟩) (fun z1 => nm_r (nI_1 r) ?_)⟩
      · unfold sf_pl; rw [decide_eq_true z1, decide_eq_true z2]; rfl
      · rw [sf_mk_f (by unfold sf_pl; rw [decide_eq_false (p := wt (2 * r + 1) &&& 7 = 0) z2]; simp)] at go; exact go
      · rw [sf_mk_f (by unfold sf_pl; rw [decide_eq_false z1]; rfl)] at go; exact go
theorem sf_xcompile {post : SX → Prop} {n : Nat} (hn : n ≤ 12) (hW : sf_W16 wt (2 * n)) (hC : ¬ cp = 0 → sf_Comp n fs ls wt vl pl sc lo hi ou hv bg ch tr te pv lc rc)
    (K : ∀ pl2 sc2 ts2 cp2 lo2 hi2 ou2 hv2 bg2 ch2 tr2 te2 pv2 lc2 rc2 wL2 wH2, ¬ cp2 = 0 → sf_Comp n fs ls wt vl pl2 sc2 lo2 hi2 ou2 hv2 bg2 ch2 tr2 te2 pv2 lc2 rc2 → post (df, dl, nI n, st, pl2, sc2, ts2, cp2, fs, ls, wt, mk, vl, ac, lo2, hi2, ou2, hv2, bg2, ch2, tr2, te2, pv2, lc2, rc2, wL2, wH2, ar, dw, dm, dv)) : wpX_compile post (df, dl, nI n, st, pl, sc, ts, cp, fs, ls, wt, mk, vl, ac, lo, hi, ou, hv, bg, ch, tr, te, pv, lc, rc, wL, wH, ar, dw, dm, dv) :=
  br_c (fun _ => ⟨n + 1, sf_xcomp20 hn hW (fun pl2 sc2 ts2 lo2 hi2 ou2 hv2 bg2 ch2 tr2 te2 pv2 lc2 rc2 wL2 wH2 h => K pl2 sc2 ts2 1 lo2 hi2 ou2 hv2 bg2 ch2 tr2 te2 pv2 lc2 rc2 wL2 wH2 (by decide) h) n 0 (n + 1) _ _ _ (by omega) (by omega) (fun c hc => by omega)⟩)
    (fun z => K _ _ _ _ _ _ _ _ _ _ _ _ _ _ _ _ _ z (hC z))
end
end
section
/-! a stretch has one answer -/
theorem sf_st_has {n k : Nat} {F L : Nat → Int32} (h : sf_st n F L k = false) : ∀ i, i < n → sf_has F L i k = sf_has F L i (k - 1) := by
  unfold sf_st at h
  simp only [Bool.or_eq_false_iff, Bool.not_eq_false'] at h
  have e := of_decide_eq_true h.2
  exact sf_mk_eq.mp e
theorem sf_seg_has {n s j : Nat} {F L B : Nat → Int32} {b : Nat → Nat} (hS : sf_Seg n F L s b B) (hj : j < s) : ∀ x, b j ≤ x → x < b (j + 1) → ∀ i, i < n → sf_has F L i x = sf_has F L i (b j) := by
  obtain ⟨s1, s2, s3, s4, s5, s6, s7, s8, s9⟩ := hS
  intro x
  induction x with
  | zero =>
    intro h1 _ i _
    have : b j = 0 := by omega
    rw [this]
  | succ x ih =>
    intro h1 h2 i hi
    by_cases e : b j = x + 1
    · rw [e]
    · have q := sf_st_has (s9 j hj (x + 1) (by omega) h2) i hi
      rw [q]
      exact ih (by omega) (by omega) i hi
theorem sf_seg_fm {n s j : Nat} {F L B W M V G : Nat → Int32} {b : Nat → Nat} (hS : sf_Seg n F L s b B) (hj : j < s) {x : Nat} (h1 : b j ≤ x) (h2 : x < b (j + 1)) : sf_fm n F L W M V G x = sf_fm n F L W M V G (b j) := by
  unfold sf_fm
  refine sf_fd_eq n 0 (fun i _ hi => ?_)
  rw [sf_seg_has hS hj x h1 h2 i (by omega)]
theorem sf_seg_hm {n s j : Nat} {F L B : Nat → Int32} {b : Nat → Nat} (hS : sf_Seg n F L s b B) (hj : j < s) {x : Nat} (h1 : b j ≤ x) (h2 : x < b (j + 1)) : sf_hm n F L x = sf_hm n F L (b j) :=
  sf_mk_eq.mpr (fun i hi => sf_seg_has hS hj x h1 h2 i hi)
theorem sf_seg_le {n s : Nat} {F L B : Nat → Int32} {b : Nat → Nat} (hS : sf_Seg n F L s b B) : ∀ j, j ≤ s → b j ≤ 32 := by
  intro j hj
  by_cases e : j = s
  · rw [e, hS.2.2.2.2.1]; exact Nat.le_refl _
  · have := hS.2.2.2.2.2.2.1 j (by omega); omega
theorem sf_cw_n {a : Int32} {f t p q : Nat} {vd : Nat → Int32} (hpq : p ≤ q) (h : ∀ x, p ≤ x → x < q → x < f ∨ t < x ∨ vd x ≠ a) : sf_ct (sf_cw a f t vd) q = sf_ct (sf_cw a f t vd) p := by
  refine sf_ctN hpq (fun x h1 h2 => ?_)
  unfold sf_cw
  rcases h x h1 h2 with e | e | e
  · rw [decide_eq_false (by omega)]; rfl
  · rw [decide_eq_false (p := x ≤ t) (by omega)]; simp
  · rw [decide_eq_false e]; simp
theorem sf_cw_a {a : Int32} {f t p q : Nat} {vd : Nat → Int32} (hpq : p ≤ q) (hf : f ≤ p) (ht : q ≤ t + 1) (h : ∀ x, p ≤ x → x < q → vd x = a) : sf_ct (sf_cw a f t vd) q = sf_ct (sf_cw a f t vd) p + (q - p) := by
  refine sf_ctA hpq (fun x h1 h2 => ?_)
  unfold sf_cw
  rw [decide_eq_true (show f ≤ x by omega), decide_eq_true (show x ≤ t by omega), decide_eq_true (h x h1 h2)]; rfl
theorem sf_sh_f {F L W : Nat → Int32} {pos k : Nat} : sf_sh F L W pos k = false ↔ ∀ r, r < pos → sf_has F L r k = true → sf_pl W r = false := by
  unfold sf_sh
  rcases sf_fd_is (P := fun i => sf_has F L i k && sf_pl W i) pos 0 with ⟨q, _, a, c, _, e⟩ | ⟨g, e⟩
  · rw [e]
    constructor
    · intro z; cases z
    · intro z
      simp only [Bool.and_eq_true] at c
      exact (sf_tf c.2 (z q (by omega) c.1)).elim
  · rw [e]
    constructor
    · intro _ r hr hh
      have := g r (by omega) (by omega)
      simp only [hh, Bool.true_and] at this
      exact this
    · intro _; rfl
theorem sf_vis_eq {n pos x y : Nat} {F L W : Nat → Int32} (hp : pos < n) (h : ∀ i, i < n → sf_has F L i x = sf_has F L i y) : sf_vis F L W pos x = sf_vis F L W pos y := by
  have e : sf_sh F L W pos x = sf_sh F L W pos y := by
    unfold sf_sh
    rw [sf_fd_eq pos 0 (fun i _ hi => by rw [h i (by omega)])]
  unfold sf_vis
  rw [h pos hp, e]
theorem sf_before {h p : Nat → Bool} {n pos : Nat} (hn : n ≤ 12) (hp : pos < n) : (nI (sf_mk h n) &&& (nI (sf_mk p n) &&& (((1 : Int32) <<< (nI pos &&& 31)) - 1)) = 0) ↔ ∀ r, r < pos → h r = true → p r = false := by
  have hpw : 2 ^ pos < 2 ^ 12 := Nat.pow_lt_pow_right (by decide) (by omega)
  have hpp := Nat.two_pow_pos pos
  have e1 : nI (2 ^ pos) - 1 = nI (2 ^ pos - 1) := pk_sub (b := 1) (by omega)
  have hh : sf_mk h n < 4096 := sf_mk_le12 hn
  have hq : sf_mk p n < 4096 := sf_mk_le12 hn
  rw [sf_1sh pos (by omega), e1, pk_andN (by omega) pos (pk_tn (by omega)), nx_and]
  have hb : sf_mk h n &&& sf_mk p n % 2 ^ pos < 4096 := Nat.lt_of_le_of_lt Nat.and_le_left hh
  have e0 : (0 : Int32) = nI 0 := by decide
  rw [e0, nI_eq (by omega) (by decide)]
  constructor
  · intro z r hr hhr
    have t := congrArg (fun m => Nat.testBit m r) z
    simp only [Nat.testBit_and, Nat.testBit_mod_two_pow, sf_mk_tb, Nat.zero_testBit] at t
    rw [hhr, decide_eq_true hr, decide_eq_true (show r < n by omega)] at t
    simpa using t
  · intro g
    apply Nat.eq_of_testBit_eq
    intro r
    simp only [Nat.testBit_and, Nat.testBit_mod_two_pow, sf_mk_tb, Nat.zero_testBit]
    by_cases hr : r < pos
    · cases hh1 : h r with
      | false => simp
      | true => rw [g r hr hh1]; simp
    · rw [decide_eq_false hr]; simp
section
variable {df dl ct st pl sc ts cp : Int32} {fs ls wt mk vl ac lo hi ou hv bg ch tr te pv lc rc wL wH ar dw dm dv : Nat → Int32}
theorem sf_xsof {post : Int32 → Prop} {n s num : Nat} {b : Nat → Nat} (hS : sf_Seg n fs ls s b bg) (ht : sf_Tree s b pv lc rc) (hnum : num < 32)
    (K : ∀ j, j < s → b j ≤ num → num < b (j + 1) → post (nI j)) : wpX_stretchOf post (df, dl, ct, st, pl, sc, ts, cp, fs, ls, wt, mk, vl, ac, lo, hi, ou, hv, bg, ch, tr, te, pv, lc, rc, wL, wH, ar, dw, dm, dv) (nI num) := by
  obtain ⟨made, p, q, t1, t2, t3, t4, t5⟩ := ht
  have hle := sf_seg_le hS
  obtain ⟨s1, s2, s3, s4, s5, s6, s7, s8, s9⟩ := hS
  refine ⟨6, sf_xsof_l s2 t2 hle hnum t5 K 5 0 0 6 (by omega) (by omega) (by omega) ?_ ?_ ?_⟩
  · rw [t3, t4]; exact s2
  · rw [t3, s4]; omega
  · rw [t4, s5]; exact hnum
theorem sf_xvd {post : Int32 → Prop} {n s T j : Nat} {b : Nat → Nat} (hn : n ≤ 12) (hW : sf_W16 wt (2 * n)) (hN : ∀ c, c < 2 * n → sf_Nm (wt c) (vl c) (lo c) (hi c) (ou c)) (hs : s ≤ 32) (hT : T ≤ 400)
    (hC : ∀ j, j < s → ∃ l, sf_Ch tr te T l (ch j) ∧ sf_Good n (fun i => sf_has fs ls i (b j)) (sf_pl wt) l) (hj : j < s) (hp : post (sf_vd ac st (sf_fm n fs ls wt mk vl ar (b j)))) : wpX_verdict post (df, dl, ct, st, pl, sc, ts, cp, fs, ls, wt, mk, vl, ac, lo, hi, ou, hv, bg, ch, tr, te, pv, lc, rc, wL, wH, ar, dw, dm, dv) (nI j) := by
  obtain ⟨l, c1, c2⟩ := hC j hj
  unfold wpX_verdict
  simp only [nI_clamp (show j < 2 ^ 31 by omega)]
  have key : ∀ o : Option Nat, (∀ i, o = some i → i < n) → post (sf_vd ac st o) → (sf_o (-1) o = -1 → post st) ∧ (¬ sf_o (-1) o = -1 → (vp_in (sf_o (-1) o) 13 ∧ post (ac (sf_o (-1) o).toNatClampNeg))) := by
    intro o ho hq
    cases o with
    | none => exact br_t rfl hq
    | some i =>
      have := ho i rfl
      refine br_f (sf_nim1 (k := i) (by omega)) ⟨vp_in_nI (n := i) (by omega) (by decide), ?_⟩
      show post (ac (nI i).toNatClampNeg)
      rw [nI_clamp (by omega)]; exact hq
  exact ⟨vp_in_nI (by omega) (by decide), sf_xfollow hn hT hW hN c2 c1 (key _ (fun i h => sf_fm_lt h) hp)⟩
theorem sf_xmtd {post : Int32 → Prop} {n s T j : Nat} {b : Nat → Nat} (hn : n ≤ 12) (hW : sf_W16 wt (2 * n)) (hN : ∀ c, c < 2 * n → sf_Nm (wt c) (vl c) (lo c) (hi c) (ou c)) (hT : T ≤ 400)
    (hC : ∀ j, j < s → ∃ l, sf_Ch tr te T l (ch j) ∧ sf_Good n (fun i => sf_has fs ls i (b j)) (sf_pl wt) l) (hj : j < s) (hp : post (sf_o (-1) (sf_fm n fs ls wt mk vl ar (b j)))) : wpX_follow post (df, dl, ct, st, pl, sc, ts, cp, fs, ls, wt, mk, vl, ac, lo, hi, ou, hv, bg, ch, tr, te, pv, lc, rc, wL, wH, ar, dw, dm, dv) (ch j) := by
  obtain ⟨l, c1, c2⟩ := hC j hj
  exact sf_xfollow hn hT hW hN c2 c1 hp
theorem sf_xcw107 {post : Int32 → SX → Prop} {J : Int32 → Int32 → Prop} {n s T j c fr tt : Nat} {b : Nat → Nat} {a x2 x3 : Int32} (hn : n ≤ 12) (hW : sf_W16 wt (2 * n)) (hN : ∀ c, c < 2 * n → sf_Nm (wt c) (vl c) (lo c) (hi c) (ou c)) (hs : s ≤ 32) (hT : T ≤ 400)
    (hC : ∀ j, j < s → ∃ l, sf_Ch tr te T l (ch j) ∧ sf_Good n (fun i => sf_has fs ls i (b j)) (sf_pl wt) l) (hj : j < s) (hfr : fr ≤ 32) (htt : tt ≤ 32)
    (K1 : tt < fr → J (nI c) (nI (j + 1))) (K2 : fr ≤ tt → sf_vd ac st (sf_fm n fs ls wt mk vl ar (b j)) = a → J (nI (c + (tt - fr + 1))) (nI (j + 1)))
    (K3 : ¬ sf_vd ac st (sf_fm n fs ls wt mk vl ar (b j)) = a → J (nI c) (nI (j + 1))) : wX_countWith_107 post J a x2 x3 (nI c) (nI j) (nI fr) (nI tt) df dl ct st pl sc ts cp fs ls wt mk vl ac lo hi ou hv bg ch tr te pv lc rc wL wH ar dw dm dv := by
  unfold wX_countWith_107
  by_cases h : tt < fr
  · exact br_t (nI_lt h (by omega)) (nm_r (nI_1 j) (K1 h))
  · refine br_f (nI_nlt (by omega) (by omega)) (sf_xvd hn hW hN hs hT hC hj (br_c (fun e => nm_r (e' := nI (c + (tt - fr + 1))) ?_ (nm_r (nI_1 j) (K2 (by omega) e))) (fun e => nm_r (nI_1 j) (K3 e))))
    rw [pk_sub (by omega), nI_1, nI_add]
theorem sf_xcw_l {post : Int32 → SX → Prop} {n s T f t : Nat} {b : Nat → Nat} {a : Int32} (hn : n ≤ 12) (hW : sf_W16 wt (2 * n)) (hN : ∀ c, c < 2 * n → sf_Nm (wt c) (vl c) (lo c) (hi c) (ou c)) (hT : T ≤ 400) (hS : sf_Seg n fs ls s b bg)
    (hC : ∀ j, j < s → ∃ l, sf_Ch tr te T l (ch j) ∧ sf_Good n (fun i => sf_has fs ls i (b j)) (sf_pl wt) l) (hft : f ≤ t) (ht : t < 32)
    (hp : post (nI (sf_ct (sf_cw a f t (fun k => sf_vd ac st (sf_fm n fs ls wt mk vl ar k))) 32)) (df, dl, ct, st, pl, nI s, ts, cp, fs, ls, wt, mk, vl, ac, lo, hi, ou, hv, bg, ch, tr, te, pv, lc, rc, wL, wH, ar, dw, dm, dv)) : ∀ d j fuel, j + d = s → d < fuel →
    wX_countWith_44 post a (nI f) (nI t) df dl ct st pl (nI s) ts cp fs ls wt mk vl ac lo hi ou hv bg ch tr te pv lc rc wL wH ar dw dm dv fuel (nI (sf_ct (sf_cw a f t (fun k => sf_vd ac st (sf_fm n fs ls wt mk vl ar k))) (b j))) (nI j) := by
  have hle := sf_seg_le hS
  have hfm := fun j (hj : j < s) x h1 h2 => sf_seg_fm (W := wt) (M := mk) (V := vl) (G := ar) (x := x) hS hj h1 h2
  obtain ⟨s1, s2, s3, s4, s5, s6, s7, s8, s9⟩ := hS
  intro d
  induction d with
  | zero =>
    intro j fuel h1 h2
    cases fuel with
    | zero => omega
    | succ m =>
      have e : j = s := by omega
      subst e
      rw [s5]
      exact br_t (nI_le (by omega) (by omega)) hp
  | succ d ih =>
    intro j fuel h1 h2
    cases fuel with
    | zero => omega
    | succ m =>
      have hj : j < s := by omega
      have b1 := s6 j hj
      have b2 := hle (j + 1) (by omega)
      have e1 := s8 j (by omega)
      have e2 := s8 (j + 1) (by omega)
      have em : nI (b (j + 1)) - 1 = nI (b (j + 1) - 1) := pk_sub (b := 1) (by omega)
      have go := ih (j + 1) m (by omega) (by omega)
      have vx : ∀ x, b j ≤ x → x < b (j + 1) → sf_vd ac st (sf_fm n fs ls wt mk vl ar x) = sf_vd ac st (sf_fm n fs ls wt mk vl ar (b j)) := fun x g1 g2 => by rw [hfm j hj x g1 g2]
      have cw : ∀ fr tt, b j ≤ fr → f ≤ fr → (fr = b j ∨ fr = f) → tt < b (j + 1) → tt ≤ t → (tt + 1 = b (j + 1) ∨ tt = t) → wX_countWith_107 post (wX_countWith_44 post a (nI f) (nI t) df dl ct st pl (nI s) ts cp fs ls wt mk vl ac lo hi ou hv bg ch tr te pv lc rc wL wH ar dw dm dv m) a (nI f) (nI t) (nI (sf_ct (sf_cw a f t (fun k => sf_vd ac st (sf_fm n fs ls wt mk vl ar k))) (b j))) (nI j) (nI fr) (nI tt) df dl ct st pl (nI s) ts cp fs ls wt mk vl ac lo hi ou hv bg ch tr te pv lc rc wL wH ar dw dm dv := by
        intro fr tt r1 r2 r3 q1 q2 q3
        refine sf_xcw107 hn hW hN s2 hT hC hj (by omega) (by omega) (fun h => ?_) (fun h e => ?_) (fun e => ?_)
        · rw [← sf_cw_n (q := b (j + 1)) (by omega) (fun x g1 g2 => by omega)]
          exact go
        · have c1 := sf_cw_n (a := a) (f := f) (t := t) (vd := fun k => sf_vd ac st (sf_fm n fs ls wt mk vl ar k)) (p := b j) (q := fr) (by omega) (fun x g1 g2 => by omega)
          have c2 := sf_cw_a (a := a) (f := f) (t := t) (vd := fun k => sf_vd ac st (sf_fm n fs ls wt mk vl ar k)) (p := fr) (q := tt + 1) (by omega) r2 (by omega) (fun x g1 g2 => (vx x (by omega) (by omega)).trans e)
          have c3 := sf_cw_n (a := a) (f := f) (t := t) (vd := fun k => sf_vd ac st (sf_fm n fs ls wt mk vl ar k)) (p := tt + 1) (q := b (j + 1)) (by omega) (fun x g1 g2 => by omega)
          have c4 : sf_ct (sf_cw a f t (fun k => sf_vd ac st (sf_fm n fs ls wt mk vl ar k))) (b j) + (tt - fr + 1) = sf_ct (sf_cw a f t (fun k => sf_vd ac st (sf_fm n fs ls wt mk vl ar k))) (b (j + 1)) := by omega
          rw [c4]; exact go
        · rw [← sf_cw_n (q := b (j + 1)) (by omega) (fun x g1 g2 => Or.inr (Or.inr (fun z => e ((vx x g1 g2).symm.trans z))))]
          exact go
      have c75 : ∀ fr, b j ≤ fr → f ≤ fr → (fr = b j ∨ fr = f) → wX_countWith_75 post (wX_countWith_44 post a (nI f) (nI t) df dl ct st pl (nI s) ts cp fs ls wt mk vl ac lo hi ou hv bg ch tr te pv lc rc wL wH ar dw dm dv m) a (nI f) (nI t) (nI (sf_ct (sf_cw a f t (fun k => sf_vd ac st (sf_fm n fs ls wt mk vl ar k))) (b j))) (nI j) (nI fr) df dl ct st pl (nI s) ts cp fs ls wt mk vl ac lo hi ou hv bg ch tr te pv lc rc wL wH ar dw dm dv := by
        intro fr r1 r2 r3
        unfold wX_countWith_75
        simp only [nI_1 j, nI_clamp (show j + 1 < 2 ^ 31 by omega), e2, em]
        refine ⟨vp_in_nI (by omega) (by decide), ?_⟩
        by_cases q : t ≤ b (j + 1) - 1
        · exact br_t (nI_le q (by omega)) (cw fr t r1 r2 r3 (by omega) (by omega) (Or.inr rfl))
        · exact br_f (nI_ge (by omega) (by omega)) ⟨vp_in_nI (by omega) (by decide), cw fr (b (j + 1) - 1) r1 r2 r3 (by omega) (by omega) (Or.inl (by omega))⟩
      have ij : vp_in (nI j) 33 := vp_in_nI (by omega) (by decide)
      refine br_f (nI_ge (by omega) (by omega)) ?_
      simp only [nI_clamp (show j < 2 ^ 31 by omega), e1]
      refine ⟨ij, ?_⟩
      by_cases q : b j ≤ f
      · exact br_t (nI_le q (by omega)) (c75 f q (by omega) (Or.inr rfl))
      · exact br_f (nI_ge (by omega) (by omega)) ⟨ij, c75 (b j) (by omega) (by omega) (Or.inl rfl)⟩
theorem sf_xnw_l {post : Int32 → SX → Prop} {n s T f : Nat} {b : Nat → Nat} {a : Int32} (hn : n ≤ 12) (hW : sf_W16 wt (2 * n)) (hN : ∀ c, c < 2 * n → sf_Nm (wt c) (vl c) (lo c) (hi c) (ou c)) (hT : T ≤ 400) (hS : sf_Seg n fs ls s b bg)
    (hC : ∀ j, j < s → ∃ l, sf_Ch tr te T l (ch j) ∧ sf_Good n (fun i => sf_has fs ls i (b j)) (sf_pl wt) l) (hf : f < 32)
    (hp : post (sf_o (-3) (sf_fd (fun k => decide (sf_vd ac st (sf_fm n fs ls wt mk vl ar k) = a)) f (32 - f))) (df, dl, ct, st, pl, nI s, ts, cp, fs, ls, wt, mk, vl, ac, lo, hi, ou, hv, bg, ch, tr, te, pv, lc, rc, wL, wH, ar, dw, dm, dv)) : ∀ d j fuel, j + d = s → d < fuel → (j < s → f < b (j + 1)) →
    (∀ x, f ≤ x → x < b j → ¬ sf_vd ac st (sf_fm n fs ls wt mk vl ar x) = a) → wX_nextWith_32 post a (nI f) df dl ct st pl (nI s) ts cp fs ls wt mk vl ac lo hi ou hv bg ch tr te pv lc rc wL wH ar dw dm dv fuel (nI j) := by
  have hle := sf_seg_le hS
  have hfm := fun j (hj : j < s) x h1 h2 => sf_seg_fm (W := wt) (M := mk) (V := vl) (G := ar) (x := x) hS hj h1 h2
  obtain ⟨s1, s2, s3, s4, s5, s6, s7, s8, s9⟩ := hS
  intro d
  induction d with
  | zero =>
    intro j fuel h1 h2 h3 h4
    cases fuel with
    | zero => omega
    | succ m =>
      have e : j = s := by omega
      subst e
      rw [sf_fd_none (32 - f) f (fun x g1 g2 => decide_eq_false (h4 x g1 (by omega)))] at hp
      exact br_t (nI_le (by omega) (by omega)) hp
  | succ d ih =>
    intro j fuel h1 h2 h3 h4
    cases fuel with
    | zero => omega
    | succ m =>
      have hj : j < s := by omega
      have b1 := s6 j hj
      have b2 := hle (j + 1) (by omega)
      have e1 := s8 j (by omega)
      have h3' := h3 hj
      have ij : vp_in (nI j) 33 := vp_in_nI (by omega) (by decide)
      have vx : ∀ x, b j ≤ x → x < b (j + 1) → sf_vd ac st (sf_fm n fs ls wt mk vl ar x) = sf_vd ac st (sf_fm n fs ls wt mk vl ar (b j)) := fun x g1 g2 => by rw [hfm j hj x g1 g2]
      refine br_f (nI_ge (by omega) (by omega)) (sf_xvd hn hW hN s2 hT hC hj (br_c (fun e => ⟨ij, ?_⟩) (fun e => nm_r (nI_1 j) (ih (j + 1) m (by omega) (by omega) (fun q => ?_) (fun x g1 g2 => ?_)))))
      · simp only [nI_clamp (show j < 2 ^ 31 by omega), e1]
        by_cases q : b j ≤ f
        · rw [sf_fd_some (32 - f) f f (by omega) (by omega) (decide_eq_true ((vx f q h3').trans e)) (fun y g1 g2 => by omega)] at hp
          exact br_t (nI_le q (by omega)) hp
        · rw [sf_fd_some (32 - f) f (b j) (by omega) (by omega) (decide_eq_true e) (fun y g1 g2 => decide_eq_false (h4 y g1 g2))] at hp
          exact br_f (nI_ge (by omega) (by omega)) ⟨ij, hp⟩
      · have := s6 (j + 1) q; omega
      · by_cases q : x < b j
        · exact h4 x g1 q
        · exact fun z => e ((vx x (by omega) g2).symm.trans z)
theorem sf_xmg_l {post : Int32 → SX → Prop} {n k : Nat} (hn : n ≤ 12) (hW : sf_W16 wt (2 * n)) (hN : ∀ c, c < 2 * n → sf_Nm (wt c) (vl c) (lo c) (hi c) (ou c)) (hk : k < 32) (hH : hv k = nI (sf_hm n fs ls k))
    (hp : post (nI (sf_ct (fun j => sf_has fs ls j k && sf_H wt mk vl ar j) n)) (df, dl, nI n, st, pl, sc, ts, cp, fs, ls, wt, mk, vl, ac, lo, hi, ou, hv, bg, ch, tr, te, pv, lc, rc, wL, wH, ar, dw, dm, dv)) : ∀ d i fuel, i + d = n → d < fuel →
    wX_matching_17 post (nI k) df dl (nI n) st pl sc ts cp fs ls wt mk vl ac lo hi ou hv bg ch tr te pv lc rc wL wH ar dw dm dv fuel (nI (sf_ct (fun j => sf_has fs ls j k && sf_H wt mk vl ar j) i)) (nI i) := by
  intro d
  induction d with
  | zero =>
    intro i fuel h1 h2
    cases fuel with
    | zero => omega
    | succ m =>
      have e : i = n := by omega
      subst e
      exact br_t (nI_le (by omega) (by omega)) hp
  | succ d ih =>
    intro i fuel h1 h2
    cases fuel with
    | zero => omega
    | succ m =>
      have go := ih (i + 1) m (by omega) (by omega)
      have hb : ((nI (sf_hm n fs ls k) >>> (nI i &&& 31)) &&& 1 = 1) ↔ sf_has fs ls i k = true := by
        unfold sf_hm
        rw [sf_bit (sf_mk_le12 hn) (by omega)]
        rw [sf_mk_tb, decide_eq_true (show i < n by omega)]; simp
      refine br_f (nI_ge (by omega) (by omega)) ?_
      simp only [nI_clamp (show k < 2 ^ 31 by omega), hH]
      refine ⟨vp_in_nI hk (by decide), br_c (fun e => sf_xholds hn hW hN (by omega) (sf_br (fun e2 => nm_r (nI_1 i) ?_) (fun e2 => nm_r (nI_1 _) (nm_r (nI_1 i) ?_)))) (fun e => nm_r (nI_1 i) ?_)⟩
      · rw [sf_ct_f (by rw [e2]; simp)] at go; exact go
      · rw [sf_ct_t (by rw [e2, hb.mp e]; rfl)] at go; exact go
      · rw [sf_ct_f (by rw [sf_nt (fun z => e (hb.mpr z))]; rfl)] at go; exact go
theorem sf_xhid_l {post : Int32 → SX → Prop} {n s pos : Nat} {b : Nat → Nat} (hn : n ≤ 12) (hpos : pos < n) (hH : ∀ k, k < 32 → hv k = nI (sf_hm n fs ls k)) (hS : sf_Seg n fs ls s b bg)
    (hp : post (sf_hid fs ls wt pos) (df, dl, ct, st, pl, nI s, ts, cp, fs, ls, wt, mk, vl, ac, lo, hi, ou, hv, bg, ch, tr, te, pv, lc, rc, wL, wH, ar, dw, dm, dv)) : ∀ d j fuel, j + d = s → d < fuel → (∀ x, x < b j → sf_vis fs ls wt pos x = false) →
    wX_hidden_27 post (nI pos) (nI (sf_mk (sf_pl wt) n) &&& (((1 : Int32) <<< (nI pos &&& 31)) - 1)) df dl ct st pl (nI s) ts cp fs ls wt mk vl ac lo hi ou hv bg ch tr te pv lc rc wL wH ar dw dm dv fuel (nI j) := by
  have hha := fun j (hj : j < s) x h1 h2 => sf_seg_has hS hj x h1 h2
  obtain ⟨s1, s2, s3, s4, s5, s6, s7, s8, s9⟩ := hS
  intro d
  induction d with
  | zero =>
    intro j fuel h1 h2 h3
    cases fuel with
    | zero => omega
    | succ m =>
      have e : j = s := by omega
      subst e
      rw [sf_hid1 (fun k hk => h3 k (by omega))] at hp
      exact br_t (nI_le (by omega) (by omega)) hp
  | succ d ih =>
    intro j fuel h1 h2 h3
    cases fuel with
    | zero => omega
    | succ m =>
      have hj : j < s := by omega
      have hb := s7 j hj
      have e1 := s8 j (by omega)
      have eh := hH (b j) hb
      have hbit : ((nI (sf_hm n fs ls (b j)) >>> (nI pos &&& 31)) &&& 1 = 1) ↔ sf_has fs ls pos (b j) = true := by
        unfold sf_hm
        rw [sf_bit (sf_mk_le12 hn) (by omega)]
        rw [sf_mk_tb, decide_eq_true hpos]; simp
      have hbef : (nI (sf_hm n fs ls (b j)) &&& (nI (sf_mk (sf_pl wt) n) &&& (((1 : Int32) <<< (nI pos &&& 31)) - 1)) = 0) ↔ sf_sh fs ls wt pos (b j) = false := by
        rw [sf_sh_f]; exact sf_before hn hpos
      have next : sf_vis fs ls wt pos (b j) = false → wX_hidden_27 post (nI pos) (nI (sf_mk (sf_pl wt) n) &&& (((1 : Int32) <<< (nI pos &&& 31)) - 1)) df dl ct st pl (nI s) ts cp fs ls wt mk vl ac lo hi ou hv bg ch tr te pv lc rc wL wH ar dw dm dv m (nI (j + 1)) := by
        intro e
        refine ih (j + 1) m (by omega) (by omega) (fun x hx => ?_)
        by_cases q : x < b j
        · exact h3 x q
        · rw [sf_vis_eq hpos (hha j hj x (by omega) hx)]; exact e
      refine br_f (nI_ge (by omega) (by omega)) ?_
      simp only [nI_clamp (show j < 2 ^ 31 by omega), e1, nI_clamp (show b j < 2 ^ 31 by omega), eh]
      refine ⟨vp_in_nI (by omega) (by decide), vp_in_nI (by omega) (by decide), nm_e (br_c (fun z1 => br_c (fun z2 => ?_) (fun z2 => nm_r (nI_1 j) (next ?_))) (fun z1 => nm_r (nI_1 j) (next ?_)))⟩
      · have hv' : sf_vis fs ls wt pos (b j) = true := by
          unfold sf_vis; rw [hbit.mp z1, hbef.mp z2]; rfl
        rw [sf_hid0 hb hv'] at hp; exact hp
      · unfold sf_vis
        cases q : sf_sh fs ls wt pos (b j) with
        | false => exact absurd (hbef.mpr q) z2
        | true => simp
      · unfold sf_vis
        rw [sf_nt (fun z => z1 (hbit.mpr z))]; rfl
theorem sf_xop_l {post : Int32 → SX → Prop} {n s : Nat} {b : Nat → Nat} (hn : n ≤ 12) (hH : ∀ k, k < 32 → hv k = nI (sf_hm n fs ls k)) (hS : sf_Seg n fs ls s b bg)
    (hp : post (nI (sf_ct (sf_emp n fs ls) 32)) (df, dl, ct, st, pl, nI s, ts, cp, fs, ls, wt, mk, vl, ac, lo, hi, ou, hv, bg, ch, tr, te, pv, lc, rc, wL, wH, ar, dw, dm, dv)) : ∀ d j fuel, j + d = s → d < fuel →
    wX_open_8 post df dl ct st pl (nI s) ts cp fs ls wt mk vl ac lo hi ou hv bg ch tr te pv lc rc wL wH ar dw dm dv fuel (nI (sf_ct (sf_emp n fs ls) (b j))) (nI j) := by
  have hle := sf_seg_le hS
  have hhm := fun j (hj : j < s) x h1 h2 => sf_seg_hm (x := x) hS hj h1 h2
  obtain ⟨s1, s2, s3, s4, s5, s6, s7, s8, s9⟩ := hS
  intro d
  induction d with
  | zero =>
    intro j fuel h1 h2
    cases fuel with
    | zero => omega
    | succ m =>
      have e : j = s := by omega
      subst e
      rw [s5]
      exact br_t (nI_le (by omega) (by omega)) hp
  | succ d ih =>
    intro j fuel h1 h2
    cases fuel with
    | zero => omega
    | succ m =>
      have hj : j < s := by omega
      have b1 := s6 j hj
      have b2 := hle (j + 1) (by omega)
      have hb := s7 j hj
      have e1 := s8 j (by omega)
      have e2 := s8 (j + 1) (by omega)
      have eh := hH (b j) hb
      have go := ih (j + 1) m (by omega) (by omega)
      have hz : (nI (sf_hm n fs ls (b j)) = 0) ↔ sf_hm n fs ls (b j) = 0 := by
        have q : sf_hm n fs ls (b j) < 4096 := sf_mk_le12 hn
        have e0 : (0 : Int32) = nI 0 := by decide
        rw [e0, nI_eq (by omega) (by decide)]
      refine br_f (nI_ge (by omega) (by omega)) ?_
      simp only [nI_1 j, nI_clamp (show j < 2 ^ 31 by omega), nI_clamp (show j + 1 < 2 ^ 31 by omega), e1, e2, nI_clamp (show b j < 2 ^ 31 by omega), eh, hz]
      have ij : vp_in (nI j) 33 := vp_in_nI (by omega) (by decide)
      refine ⟨ij, vp_in_nI (by omega) (by decide), br_c (fun z => ⟨vp_in_nI (by omega) (by decide), ij, nm_r (e' := nI (sf_ct (sf_emp n fs ls) (b (j + 1)))) ?_ (nm_e go)⟩) (fun z => nm_e ?_)⟩
      · rw [pk_sub (by omega), nI_add, sf_ctA (p := b j) (q := b (j + 1)) (by omega) (fun x g1 g2 => ?_)]
        exact decide_eq_true ((hhm j hj x g1 g2).trans z)
      · rw [sf_ctN (Q := sf_emp n fs ls) (p := b j) (q := b (j + 1)) (by omega) (fun x g1 g2 => decide_eq_false (fun y => z ((hhm j hj x g1 g2).symm.trans y)))] at go
        exact go
end
end
section
/-! the relation -/
def sf_Ru (n : Nat) (f l w m v a f' l' w' m' v' a' : Nat → Int32) : Prop :=
  (∀ i, i < n → f i = f' i ∧ l i = l' i ∧ a i = a' i ∧ ∃ q, q < 32 ∧ f' i = nI q) ∧ (∀ c, c < 2 * n → w c = w' c ∧ m c = m' c ∧ v c = v' c ∧ ∃ q, q < 16 ∧ q % 8 ≠ 7 ∧ w' c = nI q)
def sf_Dr (df dl : Int32) (dw dm dv f' l' w' m' v' : Nat → Int32) : Prop :=
  (f' 12 = df ∧ l' 12 = dl ∧ ∃ q, q < 32 ∧ df = nI q) ∧ (∀ c, c < 2 → w' (24 + c) = dw c ∧ m' (24 + c) = dm c ∧ v' (24 + c) = dv c ∧ ∃ q, q < 16 ∧ q % 8 ≠ 7 ∧ dw c = nI q)
def sf_Rel (n : Nat) (df dl ct st pl sc ts cp : Int32) (fs ls wt mk vl ac lo hi ou hv bg ch tr te pv lc rc wL wH ar dw dm dv : Nat → Int32) (rl ot : Int32) (fF fL fA fW fM fV aY : Nat → Int32) : Prop :=
  n ≤ 12 ∧ ct = nI n ∧ rl = nI n ∧ ot = st ∧ aY = ar ∧ sf_Ru n fs ls wt mk vl ac fF fL fW fM fV fA ∧ sf_Dr df dl dw dm dv fF fL fW fM fV ∧ (¬ cp = 0 → sf_Comp n fs ls wt vl pl sc lo hi ou hv bg ch tr te pv lc rc)
/-- the relation at the head of a turn whose first cell is k -/
def i_Rel (k : Nat) (u : SX) (v : SY) : Prop := match u, v with
  | (df, dl, ct, st, pl, sc, ts, cp, fs, ls, wt, mk0, vl, ac, lo, hi, ou, hv, bg, ch, tr, te, pv, lc, rc, wL, wH, ar, dw, dm, dv), (rl, ot, fF, fL, fA, fW, fM, fV, aY) => ∃ n, sf_Rel n df dl ct st pl sc ts cp fs ls wt mk0 vl ac lo hi ou hv bg ch tr te pv lc rc wL wH ar dw dm dv rl ot fF fL fA fW fM fV aY
theorem sf_el {P : SX → SY → Prop} {k : Nat} {u : SX} {v : SY} (h : ∀ n df dl st pl sc ts cp fs ls wt mk vl ac lo hi ou hv bg ch tr te pv lc rc wL wH ar dw dm dv fF fL fA fW fM fV, n ≤ 12 →
    sf_Ru n fs ls wt mk vl ac fF fL fW fM fV fA → sf_Dr df dl dw dm dv fF fL fW fM fV → (¬ cp = 0 → sf_Comp n fs ls wt vl pl sc lo hi ou hv bg ch tr te pv lc rc) → P (df, dl, nI n, st, pl, sc, ts, cp, fs, ls, wt, mk, vl, ac, lo, hi, ou, hv, bg, ch, tr, te, pv, lc, rc, wL, wH, ar, dw, dm, dv) (nI n, st, fF, fL, fA, fW, fM, fV, ar)) (I : i_Rel k u v) : P u v :=
  match u, v, I with
  | (df, dl, ct, st, pl, sc, ts, cp, fs, ls, wt, mk0, vl, ac, lo, hi, ou, hv, bg, ch, tr, te, pv, lc, rc, wL, wH, ar, dw, dm, dv), (rl, ot, fF, fL, fA, fW, fM, fV, aY), ⟨n, h1, h2, h3, h4, h5, h6, h7, h8⟩ => by
    subst h2 h3 h4 h5
    exact h n _ _ _ _ _ _ _ _ _ _ _ _ _ _ _ _ _ _ _ _ _ _ _ _ _ _ _ _ _ _ _ _ _ _ _ _ h1 h6 h7 h8
section
variable {df dl ct st pl sc ts cp : Int32} {fs ls wt mk vl ac lo hi ou hv bg ch tr te pv lc rc wL wH ar dw dm dv : Nat → Int32}
variable {fF fL fA fW fM fV : Nat → Int32}
theorem sf_ri {k n : Nat} (hn : n ≤ 12) (hR : sf_Ru n fs ls wt mk vl ac fF fL fW fM fV fA) (hD : sf_Dr df dl dw dm dv fF fL fW fM fV) (hC : ¬ cp = 0 → sf_Comp n fs ls wt vl pl sc lo hi ou hv bg ch tr te pv lc rc) : i_Rel k (df, dl, nI n, st, pl, sc, ts, cp, fs, ls, wt, mk, vl, ac, lo, hi, ou, hv, bg, ch, tr, te, pv, lc, rc, wL, wH, ar, dw, dm, dv) (nI n, st, fF, fL, fA, fW, fM, fV, ar) :=
  ⟨n, hn, rfl, rfl, rfl, rfl, hR, hD, hC⟩
end
theorem i_up {k : Nat} {u : SX} {v : SY} (h : i_Rel k u v) : i_Rel (k + 5) u v := h
theorem i_vc0 : wpX_init (fun u => wpY_init (fun v => i_Rel 0 u v)) := by
  refine nm_e (sf_ri (n := 0) (by decide) ⟨fun i hi => by omega, fun c hc => by omega⟩ ⟨⟨rfl, pk_us, 0, by decide, rfl⟩, fun c hc => ⟨rfl, rfl, rfl, 0, by decide, by decide, rfl⟩⟩ (fun z => absurd rfl z))
/-! what agrees below n gives the same answers -/
section
variable {n : Nat} {f l w m v a f' l' w' m' v' a' g : Nat → Int32}
theorem sf_ag_W (h : sf_Ru n f l w m v a f' l' w' m' v' a') : sf_W16 w (2 * n) ∧ sf_W16 w' (2 * n) :=
  ⟨fun c hc => by obtain ⟨e, _, _, q, h1, h2, h3⟩ := h.2 c hc; exact ⟨q, h1, h2, e.trans h3⟩, fun c hc => (h.2 c hc).2.2.2⟩
theorem sf_ag_has (h : sf_Ru n f l w m v a f' l' w' m' v' a') {i k : Nat} (hi : i < n) : sf_has f l i k = sf_has f' l' i k := by
  obtain ⟨e1, e2, _⟩ := h.1 i hi
  unfold sf_has; rw [e1, e2]
theorem sf_ag_H (h : sf_Ru n f l w m v a f' l' w' m' v' a') {i : Nat} (hi : i < n) : sf_H w m v g i = sf_H w' m' v' g i := by
  obtain ⟨e1, e2, e3, _⟩ := h.2 (2 * i) (by omega)
  obtain ⟨e4, e5, e6, _⟩ := h.2 (2 * i + 1) (by omega)
  unfold sf_H sf_met; rw [e1, e2, e3, e4, e5, e6]
theorem sf_ag_pl (h : sf_Ru n f l w m v a f' l' w' m' v' a') {i : Nat} (hi : i < n) : sf_pl w i = sf_pl w' i := by
  obtain ⟨e1, _⟩ := h.2 (2 * i) (by omega)
  obtain ⟨e4, _⟩ := h.2 (2 * i + 1) (by omega)
  unfold sf_pl; rw [e1, e4]
theorem sf_ag_fm (h : sf_Ru n f l w m v a f' l' w' m' v' a') (k : Nat) : sf_fm n f l w m v g k = sf_fm n f' l' w' m' v' g k :=
  sf_fd_eq n 0 (fun i _ hi => by rw [sf_ag_has h (by omega), sf_ag_H h (by omega)])
theorem sf_ag_vd (h : sf_Ru n f l w m v a f' l' w' m' v' a') (d : Int32) (k : Nat) : sf_vd a d (sf_fm n f l w m v g k) = sf_vd a' d (sf_fm n f' l' w' m' v' g k) := by
  rw [sf_ag_fm h k]
  cases e : sf_fm n f' l' w' m' v' g k with
  | none => rfl
  | some i => exact (h.1 i (sf_fm_lt e)).2.2.1
theorem sf_ag_vdf (h : sf_Ru n f l w m v a f' l' w' m' v' a') (d : Int32) : (fun k => sf_vd a d (sf_fm n f l w m v g k)) = (fun k => sf_vd a' d (sf_fm n f' l' w' m' v' g k)) := funext (sf_ag_vd h d)
theorem sf_ag_hm (h : sf_Ru n f l w m v a f' l' w' m' v' a') (k : Nat) : sf_mk (fun i => sf_has f l i k) n = sf_mk (fun i => sf_has f' l' i k) n :=
  sf_mk_eq.mpr (fun _ hi => sf_ag_has h hi)
theorem sf_ag_st (h : sf_Ru n f l w m v a f' l' w' m' v' a') : sf_st n f l = sf_st n f' l' := funext (fun k => by unfold sf_st; rw [sf_ag_hm h k, sf_ag_hm h (k - 1)])
theorem sf_ag_emp (h : sf_Ru n f l w m v a f' l' w' m' v' a') : sf_emp n f l = sf_emp n f' l' := funext (fun k => by unfold sf_emp; rw [sf_ag_hm h k])
theorem sf_ag_hid (h : sf_Ru n f l w m v a f' l' w' m' v' a') {pos : Nat} (hp : pos < n) : sf_hid f l w pos = sf_hid f' l' w' pos := by
  have e : sf_vis f l w pos = sf_vis f' l' w' pos := funext (fun k => by
    unfold sf_vis sf_sh
    rw [sf_ag_has h hp, sf_fd_eq pos 0 (fun i _ hi => by rw [sf_ag_has h (i := i) (by omega), sf_ag_pl h (by omega)])])
  unfold sf_hid; rw [e]
end
end
section
section
variable {df dl ct st pl sc ts cp : Int32} {fs ls wt mk vl ac lo hi ou hv bg ch tr te pv lc rc wL wH ar dw dm dv : Nat → Int32}
variable {fF fL fA fW fM fV : Nat → Int32} {k n : Nat}
theorem sf_vc_range (hn : n ≤ 12) (hR : sf_Ru n fs ls wt mk vl ac fF fL fW fM fV fA) (hD : sf_Dr df dl dw dm dv fF fL fW fM fV) (hC : ¬ cp = 0 → sf_Comp n fs ls wt vl pl sc lo hi ou hv bg ch tr te pv lc rc) (v1 v2 : Int32) :
    wpX_range (fun r u' => wpY_range (fun r' v' => r' = r ∧ i_Rel (k + 5) u' v') (nI n, st, fF, fL, fA, fW, fM, fV, ar) v1 v2) (df, dl, nI n, st, pl, sc, ts, cp, fs, ls, wt, mk, vl, ac, lo, hi, ou, hv, bg, ch, tr, te, pv, lc, rc, wL, wH, ar, dw, dm, dv) v1 v2 := by
  unfold wpX_range
  rcases pk_ix v1 (n := 32) (by decide) with h | h | ⟨f, hf, rfl⟩
  · refine sf_xnum_bad (Or.inl h) (br_t rfl ?_)
    unfold wpY_range
    exact sf_ynum_bad (Or.inl h) (br_f (by decide) ⟨rfl, sf_ri hn hR hD hC⟩)
  · refine sf_xnum_bad (Or.inr h) (br_t rfl ?_)
    unfold wpY_range
    exact sf_ynum_bad (Or.inr h) (br_f (by decide) ⟨rfl, sf_ri hn hR hD hC⟩)
  refine sf_xnum_ok hf (br_f (by decide) ?_)
  rcases pk_ix v2 (n := 32) (by decide) with h | h | ⟨l, hl, rfl⟩
  · refine sf_xnum_bad (Or.inl h) (br_t rfl ?_)
    unfold wpY_range
    exact sf_ynum_ok hf (br_t rfl (sf_ynum_bad (Or.inl h) (br_f (by decide) ⟨rfl, sf_ri hn hR hD hC⟩)))
  · refine sf_xnum_bad (Or.inr h) (br_t rfl ?_)
    unfold wpY_range
    exact sf_ynum_ok hf (br_t rfl (sf_ynum_bad (Or.inr h) (br_f (by decide) ⟨rfl, sf_ri hn hR hD hC⟩)))
  refine sf_xnum_ok hl (br_f (by decide) (br_c (fun e => ?_) (fun e => ?_)))
  · unfold wpY_range
    refine sf_ynum_ok hf (br_t rfl (sf_ynum_ok hl (br_t rfl (br_t e (nm_e (nm_e ⟨rfl, sf_ri hn ⟨fun i hi' => ?_, hR.2⟩ ⟨⟨pk_us, pk_us, f, hf, rfl⟩, hD.2⟩ hC⟩))))))
    rw [pk_un (by omega), pk_un (by omega)]; exact hR.1 i hi'
  · unfold wpY_range
    exact sf_ynum_ok hf (br_t rfl (sf_ynum_ok hl (br_t rfl (br_f e ⟨rfl, sf_ri hn hR hD hC⟩))))
theorem sf_vc_cond_ok (hn : n ≤ 12) (hR : sf_Ru n fs ls wt mk vl ac fF fL fW fM fV fA) (hD : sf_Dr df dl dw dm dv fF fL fW fM fV) (hC : ¬ cp = 0 → sf_Comp n fs ls wt vl pl sc lo hi ou hv bg ch tr te pv lc rc) {s : Nat} (hs : s < 2) (v2 v3 v4 : Int32) :
    wX_condition_11 (fun r u' => wpY_condition (fun r' v' => r' = r ∧ i_Rel (k + 5) u' v') (nI n, st, fF, fL, fA, fW, fM, fV, ar) (nI s) v2 v3 v4) (nI s) v2 v3 v4 df dl (nI n) st pl sc ts cp fs ls wt mk vl ac lo hi ou hv bg ch tr te pv lc rc wL wH ar dw dm dv := by
  have y0 : ¬ nI s < 0 := nI_pos (by omega)
  have y1 : nI s ≤ 1 := nI_le (b := 1) (by omega) (by decide)
  have is : vp_in (nI s) 2 := vp_in_nI hs (by decide)
  have es : (24 : Int32) + nI s = nI (24 + s) := nI_add 24 s
  have is2 : vp_in (nI (24 + s)) 28 := vp_in_nI (by omega) (by decide)
  unfold wX_condition_11
  simp only [nI_clamp (show s < 2 ^ 31 by omega)]
  refine br_c (fun e => ?_) (fun e => br_c (fun e2 => ?_) (fun e2 => ?_))
  · unfold wpY_condition
    exact br_f y0 (br_t y1 (br_t e ⟨rfl, sf_ri hn hR hD hC⟩))
  · unfold wpY_condition
    exact br_f y0 (br_t y1 (br_f e (br_t e2 ⟨rfl, sf_ri hn hR hD hC⟩)))
  obtain ⟨w, hw, rfl⟩ := nI_of e
  have hw16 : w < 16 := by
    apply Nat.lt_of_not_le
    intro z
    exact e2 (nI_lt (a := 15) (by omega) hw)
  obtain ⟨w1, _, _, w4⟩ := sf_w16 w hw16
  refine br_c (fun e3 => ?_) (fun e3 => ?_)
  · unfold wpY_condition
    simp only [w1]
    exact br_f y0 (br_t y1 (br_f e (br_f e2 ⟨by decide, br_t e3 ⟨by trivial, sf_ri hn hR hD hC⟩⟩)))
  · have w7 : w % 8 ≠ 7 := by
      intro z
      rw [w4, z] at e3
      exact e3 rfl
    refine ⟨is, nm_e ⟨is, nm_e ⟨is, nm_e ?_⟩⟩⟩
    unfold wpY_condition
    simp only [w1, es, nI_clamp (show 24 + s < 2 ^ 31 by omega)]
    refine br_f y0 (br_t y1 (br_f e (br_f e2 ⟨by decide, br_f e3 ⟨is2, nm_e ⟨is2, nm_e ⟨is2, nm_e ⟨by trivial, sf_ri hn ⟨hR.1, fun c hc => ?_⟩ ⟨hD.1, fun c hc => ?_⟩ hC⟩⟩⟩⟩⟩)))
    · rw [pk_un (by omega), pk_un (by omega), pk_un (by omega)]; exact hR.2 c hc
    · by_cases q : c = s
      · subst q
        exact ⟨by rw [pk_us, pk_us], by rw [pk_us, pk_us], by rw [pk_us, pk_us], w, hw16, w7, pk_us⟩
      · obtain ⟨d1, d2, d3, d4⟩ := hD.2 c hc
        refine ⟨(pk_un (by omega)).trans (d1.trans (pk_un q).symm), (pk_un (by omega)).trans (d2.trans (pk_un q).symm), (pk_un (by omega)).trans (d3.trans (pk_un q).symm), ?_⟩
        rw [pk_un q]; exact d4
theorem sf_vc_condition (hn : n ≤ 12) (hR : sf_Ru n fs ls wt mk vl ac fF fL fW fM fV fA) (hD : sf_Dr df dl dw dm dv fF fL fW fM fV) (hC : ¬ cp = 0 → sf_Comp n fs ls wt vl pl sc lo hi ou hv bg ch tr te pv lc rc) (v1 v2 v3 v4 : Int32) :
    wpX_condition (fun r u' => wpY_condition (fun r' v' => r' = r ∧ i_Rel (k + 5) u' v') (nI n, st, fF, fL, fA, fW, fM, fV, ar) v1 v2 v3 v4) (df, dl, nI n, st, pl, sc, ts, cp, fs, ls, wt, mk, vl, ac, lo, hi, ou, hv, bg, ch, tr, te, pv, lc, rc, wL, wH, ar, dw, dm, dv) v1 v2 v3 v4 := by
  unfold wpX_condition
  rcases pk_ix v1 (n := 2) (by decide) with h | h | ⟨s, hs, rfl⟩
  · refine br_f (fun z => by subst z; exact absurd h (by decide)) (br_f (fun z => by subst z; exact absurd h (by decide)) ?_)
    unfold wpY_condition
    exact br_t h ⟨rfl, sf_ri hn hR hD hC⟩
  · refine br_f (fun z => by subst z; exact absurd h (by decide)) (br_f (fun z => by subst z; exact absurd h (by decide)) ?_)
    unfold wpY_condition
    have h0 : ¬ v1 < 0 := Int32.not_lt.mpr (Int32.le_trans (by decide) h)
    have h1 : ¬ v1 ≤ 1 := fun z => absurd (Int32.le_trans h z) (by decide)
    exact br_f h0 (br_f h1 ⟨rfl, sf_ri hn hR hD hC⟩)
  · refine br_c (fun _ => sf_vc_cond_ok hn hR hD hC hs v2 v3 v4) (fun z => br_t ?_ (sf_vc_cond_ok hn hR hD hC hs v2 v3 v4))
    have : s = 1 := by
      by_cases q : s = 0
      · subst q; exact absurd rfl z
      · omega
    subst this; rfl
theorem sf_vc_change (hn : n ≤ 12) (hR : sf_Ru n fs ls wt mk vl ac fF fL fW fM fV fA) (hD : sf_Dr df dl dw dm dv fF fL fW fM fV) (hC : ¬ cp = 0 → sf_Comp n fs ls wt vl pl sc lo hi ou hv bg ch tr te pv lc rc) (v1 v2 : Int32) :
    wpX_change (fun r u' => wpY_change (fun r' v' => r' = r ∧ i_Rel (k + 5) u' v') (nI n, st, fF, fL, fA, fW, fM, fV, ar) v1 v2) (df, dl, nI n, st, pl, sc, ts, cp, fs, ls, wt, mk, vl, ac, lo, hi, ou, hv, bg, ch, tr, te, pv, lc, rc, wL, wH, ar, dw, dm, dv) v1 v2 := by
  unfold wpX_change
  rcases pk_ix v1 (n := n) (by omega) with h | h | ⟨p, hp, rfl⟩
  · refine sf_xrule_bad (Or.inl h) (br_t rfl ?_)
    unfold wpY_change
    exact sf_yrule_bad hn (Or.inl h) (br_f (by decide) ⟨rfl, sf_ri hn hR hD hC⟩)
  · refine sf_xrule_bad (Or.inr h) (br_t rfl ?_)
    unfold wpY_change
    exact sf_yrule_bad hn (Or.inr h) (br_f (by decide) ⟨rfl, sf_ri hn hR hD hC⟩)
  refine sf_xrule_ok hn hp (br_f (by decide) ?_)
  rcases pk_ix v2 (n := 4) (by decide) with h | h | ⟨a, ha, rfl⟩
  · refine sf_xact_bad (Or.inl h) (br_t rfl ?_)
    unfold wpY_change
    exact sf_yrule_ok hn hp (br_t rfl (sf_yact_bad (Or.inl h) (br_f (by decide) ⟨rfl, sf_ri hn hR hD hC⟩)))
  · refine sf_xact_bad (Or.inr h) (br_t rfl ?_)
    unfold wpY_change
    exact sf_yrule_ok hn hp (br_t rfl (sf_yact_bad (Or.inr h) (br_f (by decide) ⟨rfl, sf_ri hn hR hD hC⟩)))
  refine sf_xact_ok ha (br_f (by decide) ?_)
  have i1 : vp_in (nI p) 13 := vp_in_nI (by omega) (by decide)
  have i2 : vp_in (nI p) 14 := vp_in_nI (by omega) (by decide)
  simp only [nI_clamp (show p < 2 ^ 31 by omega)]
  refine ⟨i1, nm_e ⟨i1, nm_e ?_⟩⟩
  unfold wpY_change
  simp only [nI_clamp (show p < 2 ^ 31 by omega)]
  refine sf_yrule_ok hn hp (br_t rfl (sf_yact_ok ha (br_t rfl ⟨i2, nm_e ⟨i2, nm_e ⟨((hR.1 p hp).2.2.1).symm, sf_ri hn ⟨fun i hi' => ?_, hR.2⟩ hD hC⟩⟩⟩)))
  obtain ⟨a1, a2, a3, a4⟩ := hR.1 i hi'
  refine ⟨a1, a2, ?_, a4⟩
  by_cases q : i = p
  · subst q; rw [pk_us, pk_us]
  · rw [pk_un q, pk_un q]; exact a3
theorem sf_vc_fallback (hn : n ≤ 12) (hR : sf_Ru n fs ls wt mk vl ac fF fL fW fM fV fA) (hD : sf_Dr df dl dw dm dv fF fL fW fM fV) (hC : ¬ cp = 0 → sf_Comp n fs ls wt vl pl sc lo hi ou hv bg ch tr te pv lc rc) (v1 : Int32) :
    wpX_fallback (fun r u' => wpY_fallback (fun r' v' => r' = r ∧ i_Rel (k + 5) u' v') (nI n, st, fF, fL, fA, fW, fM, fV, ar) v1) (df, dl, nI n, st, pl, sc, ts, cp, fs, ls, wt, mk, vl, ac, lo, hi, ou, hv, bg, ch, tr, te, pv, lc, rc, wL, wH, ar, dw, dm, dv) v1 := by
  unfold wpX_fallback
  rcases pk_ix v1 (n := 4) (by decide) with h | h | ⟨a, ha, rfl⟩
  · refine sf_xact_bad (Or.inl h) (br_t rfl ?_)
    unfold wpY_fallback
    exact sf_yact_bad (Or.inl h) (br_f (by decide) ⟨rfl, sf_ri hn hR hD hC⟩)
  · refine sf_xact_bad (Or.inr h) (br_t rfl ?_)
    unfold wpY_fallback
    exact sf_yact_bad (Or.inr h) (br_f (by decide) ⟨rfl, sf_ri hn hR hD hC⟩)
  refine sf_xact_ok ha (br_f (by decide) ?_)
  unfold wpY_fallback
  exact sf_yact_ok ha (br_t rfl ⟨rfl, sf_ri hn hR hD hC⟩)
theorem sf_vc_rules (hn : n ≤ 12) (hR : sf_Ru n fs ls wt mk vl ac fF fL fW fM fV fA) (hD : sf_Dr df dl dw dm dv fF fL fW fM fV) (hC : ¬ cp = 0 → sf_Comp n fs ls wt vl pl sc lo hi ou hv bg ch tr te pv lc rc) :
    wpX_rules (fun r => wpY_rules (fun r' => r' = r ∧ i_Rel (k + 5) (df, dl, nI n, st, pl, sc, ts, cp, fs, ls, wt, mk, vl, ac, lo, hi, ou, hv, bg, ch, tr, te, pv, lc, rc, wL, wH, ar, dw, dm, dv) (nI n, st, fF, fL, fA, fW, fM, fV, ar)) (nI n, st, fF, fL, fA, fW, fM, fV, ar)) (df, dl, nI n, st, pl, sc, ts, cp, fs, ls, wt, mk, vl, ac, lo, hi, ou, hv, bg, ch, tr, te, pv, lc, rc, wL, wH, ar, dw, dm, dv) :=
  And.intro rfl (sf_ri hn hR hD hC)
theorem sf_vc_argument (hn : n ≤ 12) (hR : sf_Ru n fs ls wt mk vl ac fF fL fW fM fV fA) (hD : sf_Dr df dl dw dm dv fF fL fW fM fV) (hC : ¬ cp = 0 → sf_Comp n fs ls wt vl pl sc lo hi ou hv bg ch tr te pv lc rc) (v1 v2 : Int32) :
    wpX_argument (fun r u' => wpY_argument (fun r' v' => r' = r ∧ i_Rel (k + 5) u' v') (nI n, st, fF, fL, fA, fW, fM, fV, ar) v1 v2) (df, dl, nI n, st, pl, sc, ts, cp, fs, ls, wt, mk, vl, ac, lo, hi, ou, hv, bg, ch, tr, te, pv, lc, rc, wL, wH, ar, dw, dm, dv) v1 v2 := by
  unfold wpX_argument
  rcases pk_ix v1 (n := 2) (by decide) with h | h | ⟨s, hs, rfl⟩
  · refine br_f (fun z => by subst z; exact absurd h (by decide)) (br_f (fun z => by subst z; exact absurd h (by decide)) ?_)
    unfold wpY_argument
    exact br_t h ⟨rfl, sf_ri hn hR hD hC⟩
  · refine br_f (fun z => by subst z; exact absurd h (by decide)) (br_f (fun z => by subst z; exact absurd h (by decide)) ?_)
    unfold wpY_argument
    have h0 : ¬ v1 < 0 := Int32.not_lt.mpr (Int32.le_trans (by decide) h)
    have h1 : ¬ v1 ≤ 1 := fun z => absurd (Int32.le_trans h z) (by decide)
    exact br_f h0 (br_f h1 ⟨rfl, sf_ri hn hR hD hC⟩)
  · have y0 : ¬ nI s < 0 := nI_pos (by omega)
    have y1 : nI s ≤ 1 := nI_le (b := 1) (by omega) (by decide)
    have is : vp_in (nI s) 2 := vp_in_nI hs (by decide)
    refine br_c (fun _ => ⟨is, nm_e ?_⟩) (fun z => br_t ?_ ⟨is, nm_e ?_⟩)
    · unfold wpY_argument
      exact br_f y0 (br_t y1 ⟨is, nm_e ⟨rfl, sf_ri hn hR hD hC⟩⟩)
    · have : s = 1 := by
        by_cases q : s = 0
        · subst q; exact absurd rfl z
        · omega
      subst this; rfl
    · unfold wpY_argument
      exact br_f y0 (br_t y1 ⟨is, nm_e ⟨rfl, sf_ri hn hR hD hC⟩⟩)
end
end
section
theorem sf_cp_t {a b : Nat} : sf_cp a b b = a := if_pos rfl
theorem sf_cp_f {a b j : Nat} (h : j ≠ b) : sf_cp a b j = j := if_neg h
theorem sf_up_t {i n j : Nat} (h : i < j) (h2 : j ≤ n) : sf_up i n j = j - 1 := if_pos ⟨h, h2⟩
theorem sf_up_f {i n j : Nat} (h : j ≤ i ∨ n < j) : sf_up i n j = j := if_neg (by omega)
theorem sf_dn_t {p i j : Nat} (h : p ≤ j) (h2 : j + 1 < i) : sf_dn p i j = j + 1 := if_pos ⟨h, h2⟩
theorem sf_dn_f {p i j : Nat} (h : j < p ∨ i ≤ j + 1) : sf_dn p i j = j := if_neg (by omega)
section
variable {n n' : Nat} {f l w m v a f' l' w' m' v' a' f2 l2 w2 m2 v2 a2 f3 l3 w3 m3 v3 a3 : Nat → Int32} {df dl : Int32} {dw dm dv : Nat → Int32}
theorem sf_R6_Ru {s t : Nat → Nat} (hR : sf_Ru n f l w m v a f' l' w' m' v' a') (g : sf_R6 s f l w m v a f2 l2 w2 m2 v2 a2) (g' : sf_R6 t f' l' w' m' v' a' f3 l3 w3 m3 v3 a3)
    (h : ∀ i, i < n' → s i = t i ∧ t i < n) : sf_Ru n' f2 l2 w2 m2 v2 a2 f3 l3 w3 m3 v3 a3 := by
  refine ⟨fun i hi => ?_, fun c hc => ?_⟩
  · obtain ⟨e, ht⟩ := h i hi
    obtain ⟨a1, b1, c1⟩ := g.1 i
    obtain ⟨a4, b4, c4⟩ := g'.1 i
    rw [a1, b1, c1, a4, b4, c4, e]
    exact hR.1 _ ht
  · obtain ⟨e, ht⟩ := h (c / 2) (by omega)
    obtain ⟨a1, b1, c1⟩ := g.2 c
    obtain ⟨a4, b4, c4⟩ := g'.2 c
    have e2 : sf_t s c = sf_t t c := by unfold sf_t; rw [e]
    rw [a1, b1, c1, a4, b4, c4, e2]
    exact hR.2 _ (by unfold sf_t; omega)
theorem sf_R6_Dr {t : Nat → Nat} (hD : sf_Dr df dl dw dm dv f' l' w' m' v') (g' : sf_R6 t f' l' w' m' v' a' f3 l3 w3 m3 v3 a3) (h : t 12 = 12) : sf_Dr df dl dw dm dv f3 l3 w3 m3 v3 := by
  refine ⟨?_, fun c hc => ?_⟩
  · obtain ⟨a4, b4, _⟩ := g'.1 12
    rw [a4, b4, h]; exact hD.1
  · obtain ⟨a4, b4, c4⟩ := g'.2 (24 + c)
    have e : sf_t t (24 + c) = 24 + c := by
      have e1 : (24 + c) / 2 = 12 := by omega
      unfold sf_t
      rw [e1, h]; omega
    rw [a4, b4, c4, e]; exact hD.2 c hc
theorem sf_put_c {p c : Nat} {g x : Nat → Int32} (h : c / 2 = p) : upd (upd g (2 * p + 0) (x 0)) (2 * p + 1) (x 1) c = x (c % 2) := by
  by_cases e : c % 2 = 1
  · have : c = 2 * p + 1 := by omega
    rw [e, this]; exact pk_us
  · have : c = 2 * p + 0 := by omega
    have e2 : c % 2 = 0 := by omega
    rw [e2, this, pk_un (by omega)]; exact pk_us
theorem sf_put_n {p c : Nat} {g x : Nat → Int32} (h : c / 2 ≠ p) : upd (upd g (2 * p + 0) (x 0)) (2 * p + 1) (x 1) c = g c := by
  rw [pk_un (by omega), pk_un (by omega)]
theorem sf_put_Ru {p : Nat} {act : Int32} (hn : n ≤ 11) (hp : p ≤ n) (hR : sf_Ru n f l w m v a f' l' w' m' v' a') (hD : sf_Dr df dl dw dm dv f' l' w' m' v') (g : sf_R6 (sf_up p n) f l w m v a f2 l2 w2 m2 v2 a2)
    (g' : sf_R6 (fun j => sf_up p n (sf_cp 12 p j)) f' l' w' m' v' (upd a' 12 act) f3 l3 w3 m3 v3 a3) :
    sf_Ru (n + 1) (upd f2 p df) (upd l2 p dl) (upd (upd w2 (2 * p + 0) (dw 0)) (2 * p + 1) (dw 1)) (upd (upd m2 (2 * p + 0) (dm 0)) (2 * p + 1) (dm 1)) (upd (upd v2 (2 * p + 0) (dv 0)) (2 * p + 1) (dv 1)) (upd a2 p act) f3 l3 w3 m3 v3 a3 := by
  have k12 : sf_up p n (sf_cp 12 p p) = 12 := by rw [sf_cp_t]; exact sf_up_f (by omega)
  have kn : ∀ i, i ≤ n → i ≠ p → sf_up p n (sf_cp 12 p i) = sf_up p n i ∧ sf_up p n i < n := by
    intro i hi hip
    rw [sf_cp_f hip]
    refine ⟨rfl, ?_⟩
    by_cases e : p < i
    · rw [sf_up_t e hi]; omega
    · rw [sf_up_f (by omega)]; omega
  refine ⟨fun i hi => ?_, fun c hc => ?_⟩
  · obtain ⟨a4, b4, c4⟩ := g'.1 i
    by_cases e : i = p
    · subst e
      have a4' : f3 i = f' (sf_up i n (sf_cp 12 i i)) := a4
      have b4' : l3 i = l' (sf_up i n (sf_cp 12 i i)) := b4
      have c4' : a3 i = upd a' 12 act (sf_up i n (sf_cp 12 i i)) := c4
      rw [k12] at a4' b4' c4'
      obtain ⟨d1, d2, q, d3, d4⟩ := hD.1
      rw [a4', b4', c4', pk_us, pk_us, pk_us, pk_us, d1, d2]
      exact ⟨rfl, rfl, rfl, q, d3, d4⟩
    · obtain ⟨e1, e2⟩ := kn i (by omega) e
      obtain ⟨a1, b1, c1⟩ := g.1 i
      have a4' : f3 i = f' (sf_up p n (sf_cp 12 p i)) := a4
      have b4' : l3 i = l' (sf_up p n (sf_cp 12 p i)) := b4
      have c4' : a3 i = upd a' 12 act (sf_up p n (sf_cp 12 p i)) := c4
      rw [e1] at a4' b4' c4'
      rw [pk_un (by omega)] at c4'
      rw [a4', b4', c4', pk_un e, pk_un e, pk_un e, a1, b1, c1]
      exact hR.1 _ e2
  · obtain ⟨a4, b4, c4⟩ := g'.2 c
    by_cases e : c / 2 = p
    · have et : sf_t (fun j => sf_up p n (sf_cp 12 p j)) c = 24 + c % 2 := by
        show 2 * sf_up p n (sf_cp 12 p (c / 2)) + c % 2 = 24 + c % 2
        rw [e, k12]
      rw [sf_put_c e, sf_put_c e, sf_put_c e, a4, b4, c4, et]
      obtain ⟨d1, d2, d3, q, d4, d5, d6⟩ := hD.2 (c % 2) (by omega)
      exact ⟨d1.symm, d2.symm, d3.symm, q, d4, d5, d1.trans d6⟩
    · obtain ⟨e1, e2⟩ := kn (c / 2) (by omega) e
      obtain ⟨a1, b1, c1⟩ := g.2 c
      have et : sf_t (fun j => sf_up p n (sf_cp 12 p j)) c = sf_t (sf_up p n) c := by
        show 2 * sf_up p n (sf_cp 12 p (c / 2)) + c % 2 = 2 * sf_up p n (c / 2) + c % 2
        rw [e1]
      rw [sf_put_n e, sf_put_n e, sf_put_n e, a4, b4, c4, et, a1, b1, c1]
      exact hR.2 _ (by unfold sf_t; omega)
theorem sf_mv_eq {n p q j : Nat} (hn : n ≤ 12) (hp : p < n) (hq : q < n) (hj : j < n) :
    sf_cp p 12 (sf_dn p (q + 1) (sf_up q p (sf_cp 12 q j))) = sf_cp p 13 (sf_dn p n (sf_up q (n - 1) (sf_cp 13 q j))) ∧ sf_cp p 13 (sf_dn p n (sf_up q (n - 1) (sf_cp 13 q j))) < n := by
  by_cases e : j = q
  · subst e
    rw [sf_cp_t, sf_cp_t, sf_up_f (by omega), sf_up_f (by omega), sf_dn_f (by omega), sf_dn_f (by omega), sf_cp_t, sf_cp_t]
    exact ⟨rfl, hp⟩
  · rw [sf_cp_f e, sf_cp_f e]
    by_cases h : j < q
    · rw [sf_up_f (by omega), sf_up_f (by omega)]
      by_cases h2 : p ≤ j
      · rw [sf_dn_t h2 (by omega), sf_dn_t h2 (by omega), sf_cp_f (by omega), sf_cp_f (by omega)]
        exact ⟨rfl, by omega⟩
      · rw [sf_dn_f (by omega), sf_dn_f (by omega), sf_cp_f (by omega), sf_cp_f (by omega)]
        exact ⟨rfl, by omega⟩
    · rw [sf_up_t (i := q) (n := n - 1) (by omega) (by omega)]
      by_cases h2 : j ≤ p
      · rw [sf_up_t (by omega) h2, sf_dn_f (by omega), sf_dn_f (by omega), sf_cp_f (by omega), sf_cp_f (by omega)]
        exact ⟨rfl, by omega⟩
      · rw [sf_up_f (by omega), sf_dn_f (by omega), sf_dn_t (by omega) (by omega), sf_cp_f (by omega), sf_cp_f (by omega)]
        exact ⟨by omega, by omega⟩
end
section
variable {df dl ct st pl sc ts cp : Int32} {fs ls wt mk vl ac lo hi ou hv bg ch tr te pv lc rc wL wH ar dw dm dv : Nat → Int32}
variable {fF fL fA fW fM fV : Nat → Int32} {k n : Nat}
theorem sf_vc_put (hn : n ≤ 12) (hR : sf_Ru n fs ls wt mk vl ac fF fL fW fM fV fA) (hD : sf_Dr df dl dw dm dv fF fL fW fM fV) (hC : ¬ cp = 0 → sf_Comp n fs ls wt vl pl sc lo hi ou hv bg ch tr te pv lc rc) (v1 v2 : Int32) :
    wpX_put (fun r u' => wpY_put (fun r' v' => r' = r ∧ i_Rel (k + 5) u' v') (nI n, st, fF, fL, fA, fW, fM, fV, ar) v1 v2) (df, dl, nI n, st, pl, sc, ts, cp, fs, ls, wt, mk, vl, ac, lo, hi, ou, hv, bg, ch, tr, te, pv, lc, rc, wL, wH, ar, dw, dm, dv) v1 v2 := by
  unfold wpX_put
  rcases pk_ix v1 (n := n + 1) (by omega) with h | h | ⟨p, hp, rfl⟩
  · refine br_t h ?_
    unfold wpY_put
    exact br_t h ⟨rfl, sf_ri hn hR hD hC⟩
  · have h0 : ¬ v1 < 0 := Int32.not_lt.mpr (Int32.le_trans (nI_pos' (by omega)) h)
    have h1 : ¬ v1 ≤ nI n := fun z => absurd (Int32.le_trans h z) (nI_ge (by omega) (by omega))
    refine br_f h0 (br_f h1 ?_)
    unfold wpY_put
    exact br_f h0 (br_f h1 ⟨rfl, sf_ri hn hR hD hC⟩)
  have y0 : ¬ nI p < 0 := nI_pos (by omega)
  have y1 : nI p ≤ nI n := nI_le (by omega) (by omega)
  refine br_f y0 (br_t y1 ?_)
  rcases pk_ix v2 (n := 4) (by decide) with h | h | ⟨a, ha, rfl⟩
  · refine sf_xact_bad (Or.inl h) (br_t rfl ?_)
    unfold wpY_put
    exact br_f y0 (br_t y1 (sf_yact_bad (Or.inl h) (br_f (by decide) ⟨rfl, sf_ri hn hR hD hC⟩)))
  · refine sf_xact_bad (Or.inr h) (br_t rfl ?_)
    unfold wpY_put
    exact br_f y0 (br_t y1 (sf_yact_bad (Or.inr h) (br_f (by decide) ⟨rfl, sf_ri hn hR hD hC⟩)))
  refine sf_xact_ok ha (br_f (by decide) ?_)
  by_cases e : n = 12
  · subst e
    refine br_t rfl ?_
    unfold wpY_put
    exact br_f y0 (br_t y1 (sf_yact_ok ha (br_t rfl (br_f (by decide) ⟨rfl, sf_ri hn hR hD hC⟩))))
  · have ne : ¬ nI n = 12 := by
      have e12 : (12 : Int32) = nI 12 := by decide
      rw [e12, nI_eq (by omega) (by decide)]; exact e
    refine br_f ne ⟨n - p + 1, sf_xput_l (by omega) (by omega) (fun fs2 ls2 wt2 mk2 vl2 ac2 g => ?_) (n - p) n (n - p + 1) _ _ _ _ _ _ (by omega) (by omega) (by omega) (sf_R6_id (fun j => sf_up_f (by omega)))⟩
    unfold wpY_put
    refine br_f y0 (br_t y1 (sf_yact_ok ha (br_t rfl (br_t (nI_lt (b := 12) (by omega) (by decide)) (nm_e (sf_yins (q := 12) (by omega) (by omega) (by decide) (fun fF3 fL3 fW3 fM3 fV3 fA3 g' => ?_)))))))
    exact ⟨rfl, sf_ri (by omega) (sf_put_Ru (by omega) (by omega) hR hD g g') (sf_R6_Dr hD g' (by show sf_up p n (sf_cp 12 p 12) = 12; rw [sf_cp_f (by omega)]; exact sf_up_f (by omega))) (fun z => absurd rfl z)⟩
theorem sf_vc_remove (hn : n ≤ 12) (hR : sf_Ru n fs ls wt mk vl ac fF fL fW fM fV fA) (hD : sf_Dr df dl dw dm dv fF fL fW fM fV) (hC : ¬ cp = 0 → sf_Comp n fs ls wt vl pl sc lo hi ou hv bg ch tr te pv lc rc) (v1 : Int32) :
    wpX_remove (fun r u' => wpY_remove (fun r' v' => r' = r ∧ i_Rel (k + 5) u' v') (nI n, st, fF, fL, fA, fW, fM, fV, ar) v1) (df, dl, nI n, st, pl, sc, ts, cp, fs, ls, wt, mk, vl, ac, lo, hi, ou, hv, bg, ch, tr, te, pv, lc, rc, wL, wH, ar, dw, dm, dv) v1 := by
  unfold wpX_remove
  rcases pk_ix v1 (n := n) (by omega) with h | h | ⟨p, hp, rfl⟩
  · refine sf_xrule_bad (Or.inl h) (br_t rfl ?_)
    unfold wpY_remove
    exact sf_yrule_bad hn (Or.inl h) (br_f (by decide) ⟨rfl, sf_ri hn hR hD hC⟩)
  · refine sf_xrule_bad (Or.inr h) (br_t rfl ?_)
    unfold wpY_remove
    exact sf_yrule_bad hn (Or.inr h) (br_f (by decide) ⟨rfl, sf_ri hn hR hD hC⟩)
  refine sf_xrule_ok hn hp (br_f (by decide) ?_)
  simp only [nI_clamp (show p < 2 ^ 31 by omega)]
  refine ⟨vp_in_nI (by omega) (by decide), nm_e (nm_r (nI_1 p) ⟨n + 1, sf_xrem_l hn hp (fun fs2 ls2 wt2 mk2 vl2 ac2 g => ?_) (n - (p + 1)) (p + 1) (n + 1) _ _ _ _ _ _ (by omega) (by omega) (by omega) (sf_R6_id (fun j => sf_dn_f (by omega)))⟩)⟩
  unfold wpY_remove
  simp only [nI_clamp (show p < 2 ^ 31 by omega)]
  refine sf_yrule_ok hn hp (br_t rfl ⟨vp_in_nI (by omega) (by decide), nm_e (sf_ytake hn hp (fun fF3 fL3 fW3 fM3 fV3 fA3 g' => ?_))⟩)
  refine ⟨((hR.1 p hp).2.2.1).symm, sf_ri (by omega) (sf_R6_Ru hR g g' (fun i hi' => ⟨rfl, ?_⟩)) (sf_R6_Dr hD g' (sf_dn_f (by omega))) (fun z => absurd rfl z)⟩
  unfold sf_dn
  split <;> omega
theorem sf_vc_move (hn : n ≤ 12) (hR : sf_Ru n fs ls wt mk vl ac fF fL fW fM fV fA) (hD : sf_Dr df dl dw dm dv fF fL fW fM fV) (hC : ¬ cp = 0 → sf_Comp n fs ls wt vl pl sc lo hi ou hv bg ch tr te pv lc rc) (v1 v2 : Int32) :
    wpX_move (fun r u' => wpY_move (fun r' v' => r' = r ∧ i_Rel (k + 5) u' v') (nI n, st, fF, fL, fA, fW, fM, fV, ar) v1 v2) (df, dl, nI n, st, pl, sc, ts, cp, fs, ls, wt, mk, vl, ac, lo, hi, ou, hv, bg, ch, tr, te, pv, lc, rc, wL, wH, ar, dw, dm, dv) v1 v2 := by
  unfold wpX_move
  rcases pk_ix v1 (n := n) (by omega) with h | h | ⟨p, hp, rfl⟩
  · refine sf_xrule_bad (Or.inl h) (br_t rfl ?_)
    unfold wpY_move
    exact sf_yrule_bad hn (Or.inl h) (br_f (by decide) ⟨rfl, sf_ri hn hR hD hC⟩)
  · refine sf_xrule_bad (Or.inr h) (br_t rfl ?_)
    unfold wpY_move
    exact sf_yrule_bad hn (Or.inr h) (br_f (by decide) ⟨rfl, sf_ri hn hR hD hC⟩)
  refine sf_xrule_ok hn hp (br_f (by decide) ?_)
  rcases pk_ix v2 (n := n) (by omega) with h | h | ⟨q, hq, rfl⟩
  · refine sf_xrule_bad (Or.inl h) (br_t rfl ?_)
    unfold wpY_move
    exact sf_yrule_ok hn hp (br_t rfl (sf_yrule_bad hn (Or.inl h) (br_f (by decide) ⟨rfl, sf_ri hn hR hD hC⟩)))
  · refine sf_xrule_bad (Or.inr h) (br_t rfl ?_)
    unfold wpY_move
    exact sf_yrule_ok hn hp (br_t rfl (sf_yrule_bad hn (Or.inr h) (br_f (by decide) ⟨rfl, sf_ri hn hR hD hC⟩)))
  refine sf_xrule_ok hn hq (br_f (by decide) ?_)
  refine sf_xcarry (b := 12) (by omega) (by decide) (fun fs2 ls2 wt2 mk2 vl2 ac2 g0 => ⟨13, ?_⟩)
  have e0 : (fun j => sf_cp p 12 (sf_dn p (p + 1) j)) = sf_cp p 12 := funext (fun j => by rw [sf_dn_f (by omega)])
  refine sf_xmv30_l (s := sf_cp p 12) (by omega) (by omega) (fun fs3 ls3 wt3 mk3 vl3 ac3 g => ?_) 12 p 13 fs2 ls2 wt2 mk2 vl2 ac2 (by omega) (by omega) (Or.inr rfl) (by omega) (by rw [e0]; exact g0)
  unfold wpY_move
  refine sf_yrule_ok hn hp (br_t rfl (sf_yrule_ok hn hq (br_t rfl (sf_ycopy (b := 13) (by omega) (by decide) (fun fF3 fL3 fW3 fM3 fV3 fA3 g1 => ?_)))))
  refine sf_ytake hn hp (fun fF4 fL4 fW4 fM4 fV4 fA4 g2 => ?_)
  refine sf_yins (q := 13) (by omega) (by omega) (by decide) (fun fF5 fL5 fW5 fM5 fV5 fA5 g3 => ?_)
  have en : n - 1 + 1 = n := by omega
  rw [en]
  have g' := sf_R6_comp (t := fun j => sf_cp p 13 (sf_dn p n (sf_up q (n - 1) (sf_cp 13 q j)))) (sf_R6_comp (t := fun j => sf_cp p 13 (sf_dn p n j)) g1 g2 (fun _ => rfl)) g3 (fun _ => rfl)
  refine ⟨rfl, sf_ri hn (sf_R6_Ru hR g g' (fun i hi' => sf_mv_eq hn hp hq hi')) (sf_R6_Dr hD g' ?_) (fun z => absurd rfl z)⟩
  show sf_cp p 13 (sf_dn p n (sf_up q (n - 1) (sf_cp 13 q 12))) = 12
  rw [sf_cp_f (b := q) (by omega), sf_up_f (by omega), sf_dn_f (by omega), sf_cp_f (by omega)]
end
end
section
section
variable {df dl ct st pl sc ts cp : Int32} {fs ls wt mk vl ac lo hi ou hv bg ch tr te pv lc rc wL wH ar dw dm dv : Nat → Int32}
variable {fF fL fA fW fM fV : Nat → Int32} {k n : Nat}
theorem sf_vc_decide (hn : n ≤ 12) (hR : sf_Ru n fs ls wt mk vl ac fF fL fW fM fV fA) (hD : sf_Dr df dl dw dm dv fF fL fW fM fV) (hC : ¬ cp = 0 → sf_Comp n fs ls wt vl pl sc lo hi ou hv bg ch tr te pv lc rc) (v1 : Int32) :
    wpX_decide (fun r u' => wpY_decide (fun r' => r' = r ∧ i_Rel (k + 5) u' (nI n, st, fF, fL, fA, fW, fM, fV, ar)) (nI n, st, fF, fL, fA, fW, fM, fV, ar) v1) (df, dl, nI n, st, pl, sc, ts, cp, fs, ls, wt, mk, vl, ac, lo, hi, ou, hv, bg, ch, tr, te, pv, lc, rc, wL, wH, ar, dw, dm, dv) v1 := by
  have hW := sf_ag_W hR
  unfold wpX_decide
  rcases pk_ix v1 (n := 32) (by decide) with h | h | ⟨f, hf, rfl⟩
  · refine sf_xnum_bad (Or.inl h) (br_t rfl ?_)
    unfold wpY_decide
    exact sf_ynum_bad (Or.inl h) (br_f (by decide) ⟨rfl, sf_ri hn hR hD hC⟩)
  · refine sf_xnum_bad (Or.inr h) (br_t rfl ?_)
    unfold wpY_decide
    exact sf_ynum_bad (Or.inr h) (br_f (by decide) ⟨rfl, sf_ri hn hR hD hC⟩)
  refine sf_xnum_ok hf (br_f (by decide) (sf_xcompile hn hW.1 hC (fun pl2 sc2 ts2 cp2 lo2 hi2 ou2 hv2 bg2 ch2 tr2 te2 pv2 lc2 rc2 wL2 wH2 hz hC2 => ?_)))
  have hC3 := hC2
  obtain ⟨hN, hP, hH, s, b, T, rfl, hS, hT, hCh, hTr⟩ := hC2
  have hRel : i_Rel (k + 5) (df, dl, nI n, st, pl2, nI s, ts2, cp2, fs, ls, wt, mk, vl, ac, lo2, hi2, ou2, hv2, bg2, ch2, tr2, te2, pv2, lc2, rc2, wL2, wH2, ar, dw, dm, dv) (nI n, st, fF, fL, fA, fW, fM, fV, ar) := sf_ri hn hR hD (fun _ => hC3)
  dsimp only
  refine sf_xsof hS hTr hf (fun j hj b1 b2 => sf_xvd hn hW.1 hN hS.2.1 hT hCh hj ?_)
  rw [← sf_seg_fm hS hj b1 b2, sf_ag_vd hR]
  unfold wpY_decide
  exact sf_ynum_ok hf (br_t rfl (sf_yvd hn hW.2 ⟨rfl, hRel⟩))
theorem sf_vc_matched (hn : n ≤ 12) (hR : sf_Ru n fs ls wt mk vl ac fF fL fW fM fV fA) (hD : sf_Dr df dl dw dm dv fF fL fW fM fV) (hC : ¬ cp = 0 → sf_Comp n fs ls wt vl pl sc lo hi ou hv bg ch tr te pv lc rc) (v1 : Int32) :
    wpX_matched (fun r u' => wpY_matched (fun r' => r' = r ∧ i_Rel (k + 5) u' (nI n, st, fF, fL, fA, fW, fM, fV, ar)) (nI n, st, fF, fL, fA, fW, fM, fV, ar) v1) (df, dl, nI n, st, pl, sc, ts, cp, fs, ls, wt, mk, vl, ac, lo, hi, ou, hv, bg, ch, tr, te, pv, lc, rc, wL, wH, ar, dw, dm, dv) v1 := by
  have hW := sf_ag_W hR
  unfold wpX_matched
  rcases pk_ix v1 (n := 32) (by decide) with h | h | ⟨f, hf, rfl⟩
  · refine sf_xnum_bad (Or.inl h) (br_t rfl ?_)
    unfold wpY_matched
    exact sf_ynum_bad (Or.inl h) (br_f (by decide) ⟨rfl, sf_ri hn hR hD hC⟩)
  · refine sf_xnum_bad (Or.inr h) (br_t rfl ?_)
    unfold wpY_matched
    exact sf_ynum_bad (Or.inr h) (br_f (by decide) ⟨rfl, sf_ri hn hR hD hC⟩)
  refine sf_xnum_ok hf (br_f (by decide) (sf_xcompile hn hW.1 hC (fun pl2 sc2 ts2 cp2 lo2 hi2 ou2 hv2 bg2 ch2 tr2 te2 pv2 lc2 rc2 wL2 wH2 hz hC2 => ?_)))
  have hC3 := hC2
  obtain ⟨hN, hP, hH, s, b, T, rfl, hS, hT, hCh, hTr⟩ := hC2
  have hRel : i_Rel (k + 5) (df, dl, nI n, st, pl2, nI s, ts2, cp2, fs, ls, wt, mk, vl, ac, lo2, hi2, ou2, hv2, bg2, ch2, tr2, te2, pv2, lc2, rc2, wL2, wH2, ar, dw, dm, dv) (nI n, st, fF, fL, fA, fW, fM, fV, ar) := sf_ri hn hR hD (fun _ => hC3)
  have hY : ∀ o r, sf_fm n fF fL fW fM fV ar f = o → sf_o (-2) o = r → wpY_matched (fun r' => r' = r ∧ i_Rel (k + 5) (df, dl, nI n, st, pl2, nI s, ts2, cp2, fs, ls, wt, mk, vl, ac, lo2, hi2, ou2, hv2, bg2, ch2, tr2, te2, pv2, lc2, rc2, wL2, wH2, ar, dw, dm, dv) (nI n, st, fF, fL, fA, fW, fM, fV, ar)) (nI n, st, fF, fL, fA, fW, fM, fV, ar) (nI f) := by
    intro o r e1 e2
    unfold wpY_matched
    exact sf_ynum_ok hf (br_t rfl (sf_yfm hn hW.2 ⟨by rw [e1, e2], hRel⟩))
  dsimp only
  refine sf_xsof hS hTr hf (fun j hj b1 b2 => ?_)
  have hs32 := hS.2.1
  rw [nI_clamp (show j < 2 ^ 31 by omega)]
  refine ⟨vp_in_nI (by omega) (by decide), sf_xmtd hn hW.1 hN hT hCh hj ?_⟩
  rw [← sf_seg_fm hS hj b1 b2, sf_ag_fm hR]
  cases e : sf_fm n fF fL fW fM fV ar f with
  | none => exact br_t rfl (hY none (-2) e rfl)
  | some i =>
    have := sf_fm_lt e
    exact br_f (sf_nim1 (k := i) (by omega)) (hY (some i) (nI i) e rfl)
theorem sf_vc_countWith (hn : n ≤ 12) (hR : sf_Ru n fs ls wt mk vl ac fF fL fW fM fV fA) (hD : sf_Dr df dl dw dm dv fF fL fW fM fV) (hC : ¬ cp = 0 → sf_Comp n fs ls wt vl pl sc lo hi ou hv bg ch tr te pv lc rc) (v1 v2 v3 : Int32) :
    wpX_countWith (fun r u' => wpY_countWith (fun r' => r' = r ∧ i_Rel (k + 5) u' (nI n, st, fF, fL, fA, fW, fM, fV, ar)) (nI n, st, fF, fL, fA, fW, fM, fV, ar) v1 v2 v3) (df, dl, nI n, st, pl, sc, ts, cp, fs, ls, wt, mk, vl, ac, lo, hi, ou, hv, bg, ch, tr, te, pv, lc, rc, wL, wH, ar, dw, dm, dv) v1 v2 v3 := by
  have hW := sf_ag_W hR
  unfold wpX_countWith
  rcases pk_ix v2 (n := 32) (by decide) with h | h | ⟨f, hf, rfl⟩
  · refine sf_xnum_bad (Or.inl h) (br_t rfl ?_)
    unfold wpY_countWith
    exact sf_ynum_bad (Or.inl h) (br_f (by decide) ⟨rfl, sf_ri hn hR hD hC⟩)
  · refine sf_xnum_bad (Or.inr h) (br_t rfl ?_)
    unfold wpY_countWith
    exact sf_ynum_bad (Or.inr h) (br_f (by decide) ⟨rfl, sf_ri hn hR hD hC⟩)
  refine sf_xnum_ok hf (br_f (by decide) ?_)
  rcases pk_ix v3 (n := 32) (by decide) with h | h | ⟨t, ht, rfl⟩
  · refine sf_xnum_bad (Or.inl h) (br_t rfl ?_)
    unfold wpY_countWith
    exact sf_ynum_ok hf (br_t rfl (sf_ynum_bad (Or.inl h) (br_f (by decide) ⟨rfl, sf_ri hn hR hD hC⟩)))
  · refine sf_xnum_bad (Or.inr h) (br_t rfl ?_)
    unfold wpY_countWith
    exact sf_ynum_ok hf (br_t rfl (sf_ynum_bad (Or.inr h) (br_f (by decide) ⟨rfl, sf_ri hn hR hD hC⟩)))
  refine sf_xnum_ok ht (br_f (by decide) (br_c (fun e => ?_) (fun e => ?_)))
  · have hft : f ≤ t := (nI_leI (by omega) (by omega)).mp e
    rcases pk_ix v1 (n := 4) (by decide) with h | h | ⟨a, ha, rfl⟩
    · refine sf_xact_bad (Or.inl h) (br_t rfl ?_)
      unfold wpY_countWith
      exact sf_ynum_ok hf (br_t rfl (sf_ynum_ok ht (br_t rfl (br_t e (sf_yact_bad (Or.inl h) (br_f (by decide) ⟨rfl, sf_ri hn hR hD hC⟩))))))
    · refine sf_xact_bad (Or.inr h) (br_t rfl ?_)
      unfold wpY_countWith
      exact sf_ynum_ok hf (br_t rfl (sf_ynum_ok ht (br_t rfl (br_t e (sf_yact_bad (Or.inr h) (br_f (by decide) ⟨rfl, sf_ri hn hR hD hC⟩))))))
    refine sf_xact_ok ha (br_f (by decide) (sf_xcompile hn hW.1 hC (fun pl2 sc2 ts2 cp2 lo2 hi2 ou2 hv2 bg2 ch2 tr2 te2 pv2 lc2 rc2 wL2 wH2 hz hC2 => ?_)))
    have hC3 := hC2
    obtain ⟨hN, hP, hH, s, b, T, rfl, hS, hT, hCh, hTr⟩ := hC2
    have hRel : i_Rel (k + 5) (df, dl, nI n, st, pl2, nI s, ts2, cp2, fs, ls, wt, mk, vl, ac, lo2, hi2, ou2, hv2, bg2, ch2, tr2, te2, pv2, lc2, rc2, wL2, wH2, ar, dw, dm, dv) (nI n, st, fF, fL, fA, fW, fM, fV, ar) := sf_ri hn hR hD (fun _ => hC3)
    have hx := sf_xcw_l (a := nI a) (post := fun r u' => wpY_countWith (fun r' => r' = r ∧ i_Rel (k + 5) u' (nI n, st, fF, fL, fA, fW, fM, fV, ar)) (nI n, st, fF, fL, fA, fW, fM, fV, ar) (nI a) (nI f) (nI t)) (df := df) (dl := dl) (ct := nI n) (st := st) (pl := pl2) (ts := ts2) (cp := cp2) (fs := fs) (ls := ls) (wt := wt) (mk := mk) (vl := vl) (ac := ac) (lo := lo2) (hi := hi2) (ou := ou2) (hv := hv2) (bg := bg2) (ch := ch2) (tr := tr2) (te := te2) (pv := pv2) (lc := lc2) (rc := rc2) (wL := wL2) (wH := wH2) (ar := ar) (dw := dw) (dm := dm) (dv := dv) hn hW.1 hN hT hS hCh hft ht ?_ s 0 (s + 1) (by omega) (by omega)
    · rw [hS.2.2.2.1] at hx
      exact ⟨s + 1, hx⟩
    · have e32 := sf_cw_n (a := nI a) (f := f) (t := t) (vd := fun k => sf_vd ac st (sf_fm n fs ls wt mk vl ar k)) (p := t + 1) (q := 32) (by omega) (fun x g1 g2 => by omega)
      rw [e32, sf_ag_vdf hR]
      have e0 := sf_cw_n (a := nI a) (f := f) (t := t) (vd := fun k => sf_vd fA st (sf_fm n fF fL fW fM fV ar k)) (p := 0) (q := f) (by omega) (fun x g1 g2 => by omega)
      unfold wpY_countWith
      refine sf_ynum_ok hf (br_t rfl (sf_ynum_ok ht (br_t rfl (br_t e (sf_yact_ok ha (br_t rfl ⟨t + 2, ?_⟩))))))
      have hy := sf_ycw_l (post := fun r' => r' = nI (sf_ct (sf_cw (nI a) f t (fun k => sf_vd fA st (sf_fm n fF fL fW fM fV ar k))) (t + 1)) ∧ i_Rel (k + 5) (df, dl, nI n, st, pl2, nI s, ts2, cp2, fs, ls, wt, mk, vl, ac, lo2, hi2, ou2, hv2, bg2, ch2, tr2, te2, pv2, lc2, rc2, wL2, wH2, ar, dw, dm, dv) (nI n, st, fF, fL, fA, fW, fM, fV, ar)) (a := nI a) (f := f) (t := t) hn hW.2 ht ⟨rfl, hRel⟩ (t + 1 - f) f (t + 2) (by omega) (by omega) (by omega)
      rw [e0] at hy
      exact hy
  · unfold wpY_countWith
    exact sf_ynum_ok hf (br_t rfl (sf_ynum_ok ht (br_t rfl (br_f e ⟨rfl, sf_ri hn hR hD hC⟩))))
theorem sf_vc_nextWith (hn : n ≤ 12) (hR : sf_Ru n fs ls wt mk vl ac fF fL fW fM fV fA) (hD : sf_Dr df dl dw dm dv fF fL fW fM fV) (hC : ¬ cp = 0 → sf_Comp n fs ls wt vl pl sc lo hi ou hv bg ch tr te pv lc rc) (v1 v2 : Int32) :
    wpX_nextWith (fun r u' => wpY_nextWith (fun r' => r' = r ∧ i_Rel (k + 5) u' (nI n, st, fF, fL, fA, fW, fM, fV, ar)) (nI n, st, fF, fL, fA, fW, fM, fV, ar) v1 v2) (df, dl, nI n, st, pl, sc, ts, cp, fs, ls, wt, mk, vl, ac, lo, hi, ou, hv, bg, ch, tr, te, pv, lc, rc, wL, wH, ar, dw, dm, dv) v1 v2 := by
  have hW := sf_ag_W hR
  unfold wpX_nextWith
  rcases pk_ix v1 (n := 4) (by decide) with h | h | ⟨a, ha, rfl⟩
  · refine sf_xact_bad (Or.inl h) (br_t rfl ?_)
    unfold wpY_nextWith
    exact sf_yact_bad (Or.inl h) (br_f (by decide) ⟨rfl, sf_ri hn hR hD hC⟩)
  · refine sf_xact_bad (Or.inr h) (br_t rfl ?_)
    unfold wpY_nextWith
    exact sf_yact_bad (Or.inr h) (br_f (by decide) ⟨rfl, sf_ri hn hR hD hC⟩)
  refine sf_xact_ok ha (br_f (by decide) ?_)
  rcases pk_ix v2 (n := 32) (by decide) with h | h | ⟨f, hf, rfl⟩
  · refine sf_xnum_bad (Or.inl h) (br_t rfl ?_)
    unfold wpY_nextWith
    exact sf_yact_ok ha (br_t rfl (sf_ynum_bad (Or.inl h) (br_f (by decide) ⟨rfl, sf_ri hn hR hD hC⟩)))
  · refine sf_xnum_bad (Or.inr h) (br_t rfl ?_)
    unfold wpY_nextWith
    exact sf_yact_ok ha (br_t rfl (sf_ynum_bad (Or.inr h) (br_f (by decide) ⟨rfl, sf_ri hn hR hD hC⟩)))
  refine sf_xnum_ok hf (br_f (by decide) (sf_xcompile hn hW.1 hC (fun pl2 sc2 ts2 cp2 lo2 hi2 ou2 hv2 bg2 ch2 tr2 te2 pv2 lc2 rc2 wL2 wH2 hz hC2 => ?_)))
  have hC3 := hC2
  obtain ⟨hN, hP, hH, s, b, T, rfl, hS, hT, hCh, hTr⟩ := hC2
  have hRel : i_Rel (k + 5) (df, dl, nI n, st, pl2, nI s, ts2, cp2, fs, ls, wt, mk, vl, ac, lo2, hi2, ou2, hv2, bg2, ch2, tr2, te2, pv2, lc2, rc2, wL2, wH2, ar, dw, dm, dv) (nI n, st, fF, fL, fA, fW, fM, fV, ar) := sf_ri hn hR hD (fun _ => hC3)
  dsimp only
  refine sf_xsof hS hTr hf (fun j hj b1 b2 => ⟨s + 1, sf_xnw_l hn hW.1 hN hT hS hCh hf ?_ (s - j) j (s + 1) (by omega) (by omega) (fun _ => b2) (fun x g1 g2 => by omega)⟩)
  rw [sf_fd_eq (Q := fun k => decide (sf_vd fA st (sf_fm n fF fL fW fM fV ar k) = nI a)) (32 - f) f (fun x _ _ => by rw [sf_ag_vd hR])]
  unfold wpY_nextWith
  exact sf_yact_ok ha (br_t rfl (sf_ynum_ok hf (br_t rfl ⟨33, sf_ynw_l hn hW.2 (32 - f) f 33 (by omega) (by omega) ⟨rfl, hRel⟩⟩)))
theorem sf_vc_matching (hn : n ≤ 12) (hR : sf_Ru n fs ls wt mk vl ac fF fL fW fM fV fA) (hD : sf_Dr df dl dw dm dv fF fL fW fM fV) (hC : ¬ cp = 0 → sf_Comp n fs ls wt vl pl sc lo hi ou hv bg ch tr te pv lc rc) (v1 : Int32) :
    wpX_matching (fun r u' => wpY_matching (fun r' => r' = r ∧ i_Rel (k + 5) u' (nI n, st, fF, fL, fA, fW, fM, fV, ar)) (nI n, st, fF, fL, fA, fW, fM, fV, ar) v1) (df, dl, nI n, st, pl, sc, ts, cp, fs, ls, wt, mk, vl, ac, lo, hi, ou, hv, bg, ch, tr, te, pv, lc, rc, wL, wH, ar, dw, dm, dv) v1 := by
  have hW := sf_ag_W hR
  unfold wpX_matching
  rcases pk_ix v1 (n := 32) (by decide) with h | h | ⟨f, hf, rfl⟩
  · refine sf_xnum_bad (Or.inl h) (br_t rfl ?_)
    unfold wpY_matching
    exact sf_ynum_bad (Or.inl h) (br_f (by decide) ⟨rfl, sf_ri hn hR hD hC⟩)
  · refine sf_xnum_bad (Or.inr h) (br_t rfl ?_)
    unfold wpY_matching
    exact sf_ynum_bad (Or.inr h) (br_f (by decide) ⟨rfl, sf_ri hn hR hD hC⟩)
  refine sf_xnum_ok hf (br_f (by decide) (sf_xcompile hn hW.1 hC (fun pl2 sc2 ts2 cp2 lo2 hi2 ou2 hv2 bg2 ch2 tr2 te2 pv2 lc2 rc2 wL2 wH2 hz hC2 => ?_)))
  have hC3 := hC2
  obtain ⟨hN, hP, hH, s, b, T, rfl, hS, hT, hCh, hTr⟩ := hC2
  have hRel : i_Rel (k + 5) (df, dl, nI n, st, pl2, nI s, ts2, cp2, fs, ls, wt, mk, vl, ac, lo2, hi2, ou2, hv2, bg2, ch2, tr2, te2, pv2, lc2, rc2, wL2, wH2, ar, dw, dm, dv) (nI n, st, fF, fL, fA, fW, fM, fV, ar) := sf_ri hn hR hD (fun _ => hC3)
  refine ⟨n + 1, sf_xmg_l hn hW.1 hN hf (hH f hf) ?_ n 0 (n + 1) (by omega) (by omega)⟩
  rw [sf_ct_eq (Q := fun j => sf_has fF fL j f && sf_H fW fM fV ar j) n (fun i hi' => by rw [sf_ag_has hR hi', sf_ag_H hR hi'])]
  unfold wpY_matching
  exact sf_ynum_ok hf (br_t rfl ⟨n + 1, sf_ymg_l hn hW.2 ⟨rfl, hRel⟩ n 0 (n + 1) (by omega) (by omega)⟩)
theorem sf_vc_hidden (hn : n ≤ 12) (hR : sf_Ru n fs ls wt mk vl ac fF fL fW fM fV fA) (hD : sf_Dr df dl dw dm dv fF fL fW fM fV) (hC : ¬ cp = 0 → sf_Comp n fs ls wt vl pl sc lo hi ou hv bg ch tr te pv lc rc) (v1 : Int32) :
    wpX_hidden (fun r u' => wpY_hidden (fun r' => r' = r ∧ i_Rel (k + 5) u' (nI n, st, fF, fL, fA, fW, fM, fV, ar)) (nI n, st, fF, fL, fA, fW, fM, fV, ar) v1) (df, dl, nI n, st, pl, sc, ts, cp, fs, ls, wt, mk, vl, ac, lo, hi, ou, hv, bg, ch, tr, te, pv, lc, rc, wL, wH, ar, dw, dm, dv) v1 := by
  have hW := sf_ag_W hR
  unfold wpX_hidden
  rcases pk_ix v1 (n := n) (by omega) with h | h | ⟨p, hp, rfl⟩
  · refine sf_xrule_bad (Or.inl h) (br_t rfl ?_)
    unfold wpY_hidden
    exact sf_yrule_bad hn (Or.inl h) (br_f (by decide) ⟨rfl, sf_ri hn hR hD hC⟩)
  · refine sf_xrule_bad (Or.inr h) (br_t rfl ?_)
    unfold wpY_hidden
    exact sf_yrule_bad hn (Or.inr h) (br_f (by decide) ⟨rfl, sf_ri hn hR hD hC⟩)
  refine sf_xrule_ok hn hp (br_f (by decide) (sf_xcompile hn hW.1 hC (fun pl2 sc2 ts2 cp2 lo2 hi2 ou2 hv2 bg2 ch2 tr2 te2 pv2 lc2 rc2 wL2 wH2 hz hC2 => ?_)))
  have hC3 := hC2
  obtain ⟨hN, hP, hH, s, b, T, rfl, hS, hT, hCh, hTr⟩ := hC2
  have hRel : i_Rel (k + 5) (df, dl, nI n, st, pl2, nI s, ts2, cp2, fs, ls, wt, mk, vl, ac, lo2, hi2, ou2, hv2, bg2, ch2, tr2, te2, pv2, lc2, rc2, wL2, wH2, ar, dw, dm, dv) (nI n, st, fF, fL, fA, fW, fM, fV, ar) := sf_ri hn hR hD (fun _ => hC3)
  obtain ⟨_, _, _, q, q1, q2⟩ := hR.1 p hp
  subst hP
  refine nm_e ⟨s + 1, sf_xhid_l hn hp hH hS ?_ s 0 (s + 1) (by omega) (by omega) (fun x hx => ?_)⟩
  · rw [sf_ag_hid hR hp]
    unfold wpY_hidden
    rw [nI_clamp (show p < 2 ^ 31 by omega)]
    refine sf_yrule_ok hn hp (br_t rfl ⟨vp_in_nI (by omega) (by decide), nm_r q2 ⟨33, sf_yhid_l hn hW.2 hp q2 ⟨rfl, hRel⟩ (32 - q) q 33 (by omega) (by omega) (by omega) (fun j hj => ?_)⟩⟩)
    unfold sf_vis sf_has
    rw [q2, decide_eq_false (nI_ge hj (by omega))]; rfl
  · have := hS.2.2.2.1; omega
theorem sf_vc_stretches (hn : n ≤ 12) (hR : sf_Ru n fs ls wt mk vl ac fF fL fW fM fV fA) (hD : sf_Dr df dl dw dm dv fF fL fW fM fV) (hC : ¬ cp = 0 → sf_Comp n fs ls wt vl pl sc lo hi ou hv bg ch tr te pv lc rc) :
    wpX_stretches (fun r u' => wpY_stretches (fun r' => r' = r ∧ i_Rel (k + 5) u' (nI n, st, fF, fL, fA, fW, fM, fV, ar)) (nI n, st, fF, fL, fA, fW, fM, fV, ar)) (df, dl, nI n, st, pl, sc, ts, cp, fs, ls, wt, mk, vl, ac, lo, hi, ou, hv, bg, ch, tr, te, pv, lc, rc, wL, wH, ar, dw, dm, dv) := by
  have hW := sf_ag_W hR
  unfold wpX_stretches
  refine sf_xcompile hn hW.1 hC (fun pl2 sc2 ts2 cp2 lo2 hi2 ou2 hv2 bg2 ch2 tr2 te2 pv2 lc2 rc2 wL2 wH2 hz hC2 => ?_)
  have hC3 := hC2
  obtain ⟨hN, hP, hH, s, b, T, rfl, hS, hT, hCh, hTr⟩ := hC2
  have hRel : i_Rel (k + 5) (df, dl, nI n, st, pl2, nI s, ts2, cp2, fs, ls, wt, mk, vl, ac, lo2, hi2, ou2, hv2, bg2, ch2, tr2, te2, pv2, lc2, rc2, wL2, wH2, ar, dw, dm, dv) (nI n, st, fF, fL, fA, fW, fM, fV, ar) := sf_ri hn hR hD (fun _ => hC3)
  have e := hS.2.2.1
  rw [sf_ag_st hR] at e
  dsimp only
  rw [e] at hRel ⊢
  unfold wpY_stretches
  refine ⟨32, sf_yst_o hn ⟨rfl, hRel⟩ 31 1 32 (by omega) (by omega) (by omega)⟩
theorem sf_vc_open (hn : n ≤ 12) (hR : sf_Ru n fs ls wt mk vl ac fF fL fW fM fV fA) (hD : sf_Dr df dl dw dm dv fF fL fW fM fV) (hC : ¬ cp = 0 → sf_Comp n fs ls wt vl pl sc lo hi ou hv bg ch tr te pv lc rc) :
    wpX_open (fun r u' => wpY_open (fun r' => r' = r ∧ i_Rel (k + 5) u' (nI n, st, fF, fL, fA, fW, fM, fV, ar)) (nI n, st, fF, fL, fA, fW, fM, fV, ar)) (df, dl, nI n, st, pl, sc, ts, cp, fs, ls, wt, mk, vl, ac, lo, hi, ou, hv, bg, ch, tr, te, pv, lc, rc, wL, wH, ar, dw, dm, dv) := by
  have hW := sf_ag_W hR
  unfold wpX_open
  refine sf_xcompile hn hW.1 hC (fun pl2 sc2 ts2 cp2 lo2 hi2 ou2 hv2 bg2 ch2 tr2 te2 pv2 lc2 rc2 wL2 wH2 hz hC2 => ?_)
  have hC3 := hC2
  obtain ⟨hN, hP, hH, s, b, T, rfl, hS, hT, hCh, hTr⟩ := hC2
  have hRel : i_Rel (k + 5) (df, dl, nI n, st, pl2, nI s, ts2, cp2, fs, ls, wt, mk, vl, ac, lo2, hi2, ou2, hv2, bg2, ch2, tr2, te2, pv2, lc2, rc2, wL2, wH2, ar, dw, dm, dv) (nI n, st, fF, fL, fA, fW, fM, fV, ar) := sf_ri hn hR hD (fun _ => hC3)
  have hx := sf_xop_l (post := fun r u' => wpY_open (fun r' => r' = r ∧ i_Rel (k + 5) u' (nI n, st, fF, fL, fA, fW, fM, fV, ar)) (nI n, st, fF, fL, fA, fW, fM, fV, ar)) (df := df) (dl := dl) (ct := nI n) (st := st) (pl := pl2) (ts := ts2) (cp := cp2) (fs := fs) (ls := ls) (wt := wt) (mk := mk) (vl := vl) (ac := ac) (lo := lo2) (hi := hi2) (ou := ou2) (hv := hv2) (bg := bg2) (ch := ch2) (tr := tr2) (te := te2) (pv := pv2) (lc := lc2) (rc := rc2) (wL := wL2) (wH := wH2) (ar := ar) (dw := dw) (dm := dm) (dv := dv) hn hH hS ?_ s 0 (s + 1) (by omega) (by omega)
  · rw [hS.2.2.2.1] at hx
    exact ⟨s + 1, hx⟩
  · rw [sf_ag_emp hR]
    unfold wpY_open
    exact ⟨33, sf_yop_o hn ⟨rfl, hRel⟩ 32 0 33 (by omega) (by omega)⟩
end
end
section
theorem i_vc_range {k : Nat} {u : SX} {v : SY} (I : i_Rel k u v) (hk : k + 5 ≤ 2560) (v1 : Int32) (v2 : Int32) : wpX_range (fun r u' => wpY_range (fun r' v' => r' = r ∧ i_Rel (k + 5) u' v') v v1 v2) u v1 v2 :=
  sf_el (P := fun u v => wpX_range (fun r u' => wpY_range (fun r' v' => r' = r ∧ i_Rel (k + 5) u' v') v v1 v2) u v1 v2) (fun n df dl st pl sc ts cp fs ls wt mk vl ac lo hi ou hv bg ch tr te pv lc rc wL wH ar dw dm dv fF fL fA fW fM fV hn hR hD hC => sf_vc_range hn hR hD hC v1 v2) I
theorem i_vc_condition {k : Nat} {u : SX} {v : SY} (I : i_Rel k u v) (hk : k + 5 ≤ 2560) (v1 : Int32) (v2 : Int32) (v3 : Int32) (v4 : Int32) : wpX_condition (fun r u' => wpY_condition (fun r' v' => r' = r ∧ i_Rel (k + 5) u' v') v v1 v2 v3 v4) u v1 v2 v3 v4 :=
  sf_el (P := fun u v => wpX_condition (fun r u' => wpY_condition (fun r' v' => r' = r ∧ i_Rel (k + 5) u' v') v v1 v2 v3 v4) u v1 v2 v3 v4) (fun n df dl st pl sc ts cp fs ls wt mk vl ac lo hi ou hv bg ch tr te pv lc rc wL wH ar dw dm dv fF fL fA fW fM fV hn hR hD hC => sf_vc_condition hn hR hD hC v1 v2 v3 v4) I
theorem i_vc_put {k : Nat} {u : SX} {v : SY} (I : i_Rel k u v) (hk : k + 5 ≤ 2560) (v1 : Int32) (v2 : Int32) : wpX_put (fun r u' => wpY_put (fun r' v' => r' = r ∧ i_Rel (k + 5) u' v') v v1 v2) u v1 v2 :=
  sf_el (P := fun u v => wpX_put (fun r u' => wpY_put (fun r' v' => r' = r ∧ i_Rel (k + 5) u' v') v v1 v2) u v1 v2) (fun n df dl st pl sc ts cp fs ls wt mk vl ac lo hi ou hv bg ch tr te pv lc rc wL wH ar dw dm dv fF fL fA fW fM fV hn hR hD hC => sf_vc_put hn hR hD hC v1 v2) I
theorem i_vc_remove {k : Nat} {u : SX} {v : SY} (I : i_Rel k u v) (hk : k + 5 ≤ 2560) (v1 : Int32) : wpX_remove (fun r u' => wpY_remove (fun r' v' => r' = r ∧ i_Rel (k + 5) u' v') v v1) u v1 :=
  sf_el (P := fun u v => wpX_remove (fun r u' => wpY_remove (fun r' v' => r' = r ∧ i_Rel (k + 5) u' v') v v1) u v1) (fun n df dl st pl sc ts cp fs ls wt mk vl ac lo hi ou hv bg ch tr te pv lc rc wL wH ar dw dm dv fF fL fA fW fM fV hn hR hD hC => sf_vc_remove hn hR hD hC v1) I
theorem i_vc_move {k : Nat} {u : SX} {v : SY} (I : i_Rel k u v) (hk : k + 5 ≤ 2560) (v1 : Int32) (v2 : Int32) : wpX_move (fun r u' => wpY_move (fun r' v' => r' = r ∧ i_Rel (k + 5) u' v') v v1 v2) u v1 v2 :=
  sf_el (P := fun u v => wpX_move (fun r u' => wpY_move (fun r' v' => r' = r ∧ i_Rel (k + 5) u' v') v v1 v2) u v1 v2) (fun n df dl st pl sc ts cp fs ls wt mk vl ac lo hi ou hv bg ch tr te pv lc rc wL wH ar dw dm dv fF fL fA fW fM fV hn hR hD hC => sf_vc_move hn hR hD hC v1 v2) I
theorem i_vc_change {k : Nat} {u : SX} {v : SY} (I : i_Rel k u v) (hk : k + 5 ≤ 2560) (v1 : Int32) (v2 : Int32) : wpX_change (fun r u' => wpY_change (fun r' v' => r' = r ∧ i_Rel (k + 5) u' v') v v1 v2) u v1 v2 :=
  sf_el (P := fun u v => wpX_change (fun r u' => wpY_change (fun r' v' => r' = r ∧ i_Rel (k + 5) u' v') v v1 v2) u v1 v2) (fun n df dl st pl sc ts cp fs ls wt mk vl ac lo hi ou hv bg ch tr te pv lc rc wL wH ar dw dm dv fF fL fA fW fM fV hn hR hD hC => sf_vc_change hn hR hD hC v1 v2) I
theorem i_vc_fallback {k : Nat} {u : SX} {v : SY} (I : i_Rel k u v) (hk : k + 5 ≤ 2560) (v1 : Int32) : wpX_fallback (fun r u' => wpY_fallback (fun r' v' => r' = r ∧ i_Rel (k + 5) u' v') v v1) u v1 :=
  sf_el (P := fun u v => wpX_fallback (fun r u' => wpY_fallback (fun r' v' => r' = r ∧ i_Rel (k + 5) u' v') v v1) u v1) (fun n df dl st pl sc ts cp fs ls wt mk vl ac lo hi ou hv bg ch tr te pv lc rc wL wH ar dw dm dv fF fL fA fW fM fV hn hR hD hC => sf_vc_fallback hn hR hD hC v1) I
theorem i_vc_rules {k : Nat} {u : SX} {v : SY} (I : i_Rel k u v) (hk : k + 5 ≤ 2560) : wpX_rules (fun r => wpY_rules (fun r' => r' = r ∧ i_Rel (k + 5) u v) v) u :=
  sf_el (P := fun u v => wpX_rules (fun r => wpY_rules (fun r' => r' = r ∧ i_Rel (k + 5) u v) v) u) (fun n df dl st pl sc ts cp fs ls wt mk vl ac lo hi ou hv bg ch tr te pv lc rc wL wH ar dw dm dv fF fL fA fW fM fV hn hR hD hC => sf_vc_rules hn hR hD hC) I
theorem i_vc_argument {k : Nat} {u : SX} {v : SY} (I : i_Rel k u v) (hk : k + 5 ≤ 2560) (v1 : Int32) (v2 : Int32) : wpX_argument (fun r u' => wpY_argument (fun r' v' => r' = r ∧ i_Rel (k + 5) u' v') v v1 v2) u v1 v2 :=
  sf_el (P := fun u v => wpX_argument (fun r u' => wpY_argument (fun r' v' => r' = r ∧ i_Rel (k + 5) u' v') v v1 v2) u v1 v2) (fun n df dl st pl sc ts cp fs ls wt mk vl ac lo hi ou hv bg ch tr te pv lc rc wL wH ar dw dm dv fF fL fA fW fM fV hn hR hD hC => sf_vc_argument hn hR hD hC v1 v2) I
theorem i_vc_decide {k : Nat} {u : SX} {v : SY} (I : i_Rel k u v) (hk : k + 5 ≤ 2560) (v1 : Int32) : wpX_decide (fun r u' => wpY_decide (fun r' => r' = r ∧ i_Rel (k + 5) u' v) v v1) u v1 :=
  sf_el (P := fun u v => wpX_decide (fun r u' => wpY_decide (fun r' => r' = r ∧ i_Rel (k + 5) u' v) v v1) u v1) (fun n df dl st pl sc ts cp fs ls wt mk vl ac lo hi ou hv bg ch tr te pv lc rc wL wH ar dw dm dv fF fL fA fW fM fV hn hR hD hC => sf_vc_decide hn hR hD hC v1) I
theorem i_vc_matched {k : Nat} {u : SX} {v : SY} (I : i_Rel k u v) (hk : k + 5 ≤ 2560) (v1 : Int32) : wpX_matched (fun r u' => wpY_matched (fun r' => r' = r ∧ i_Rel (k + 5) u' v) v v1) u v1 :=
  sf_el (P := fun u v => wpX_matched (fun r u' => wpY_matched (fun r' => r' = r ∧ i_Rel (k + 5) u' v) v v1) u v1) (fun n df dl st pl sc ts cp fs ls wt mk vl ac lo hi ou hv bg ch tr te pv lc rc wL wH ar dw dm dv fF fL fA fW fM fV hn hR hD hC => sf_vc_matched hn hR hD hC v1) I
theorem i_vc_countWith {k : Nat} {u : SX} {v : SY} (I : i_Rel k u v) (hk : k + 5 ≤ 2560) (v1 : Int32) (v2 : Int32) (v3 : Int32) : wpX_countWith (fun r u' => wpY_countWith (fun r' => r' = r ∧ i_Rel (k + 5) u' v) v v1 v2 v3) u v1 v2 v3 :=
  sf_el (P := fun u v => wpX_countWith (fun r u' => wpY_countWith (fun r' => r' = r ∧ i_Rel (k + 5) u' v) v v1 v2 v3) u v1 v2 v3) (fun n df dl st pl sc ts cp fs ls wt mk vl ac lo hi ou hv bg ch tr te pv lc rc wL wH ar dw dm dv fF fL fA fW fM fV hn hR hD hC => sf_vc_countWith hn hR hD hC v1 v2 v3) I
theorem i_vc_nextWith {k : Nat} {u : SX} {v : SY} (I : i_Rel k u v) (hk : k + 5 ≤ 2560) (v1 : Int32) (v2 : Int32) : wpX_nextWith (fun r u' => wpY_nextWith (fun r' => r' = r ∧ i_Rel (k + 5) u' v) v v1 v2) u v1 v2 :=
  sf_el (P := fun u v => wpX_nextWith (fun r u' => wpY_nextWith (fun r' => r' = r ∧ i_Rel (k + 5) u' v) v v1 v2) u v1 v2) (fun n df dl st pl sc ts cp fs ls wt mk vl ac lo hi ou hv bg ch tr te pv lc rc wL wH ar dw dm dv fF fL fA fW fM fV hn hR hD hC => sf_vc_nextWith hn hR hD hC v1 v2) I
theorem i_vc_matching {k : Nat} {u : SX} {v : SY} (I : i_Rel k u v) (hk : k + 5 ≤ 2560) (v1 : Int32) : wpX_matching (fun r u' => wpY_matching (fun r' => r' = r ∧ i_Rel (k + 5) u' v) v v1) u v1 :=
  sf_el (P := fun u v => wpX_matching (fun r u' => wpY_matching (fun r' => r' = r ∧ i_Rel (k + 5) u' v) v v1) u v1) (fun n df dl st pl sc ts cp fs ls wt mk vl ac lo hi ou hv bg ch tr te pv lc rc wL wH ar dw dm dv fF fL fA fW fM fV hn hR hD hC => sf_vc_matching hn hR hD hC v1) I
theorem i_vc_hidden {k : Nat} {u : SX} {v : SY} (I : i_Rel k u v) (hk : k + 5 ≤ 2560) (v1 : Int32) : wpX_hidden (fun r u' => wpY_hidden (fun r' => r' = r ∧ i_Rel (k + 5) u' v) v v1) u v1 :=
  sf_el (P := fun u v => wpX_hidden (fun r u' => wpY_hidden (fun r' => r' = r ∧ i_Rel (k + 5) u' v) v v1) u v1) (fun n df dl st pl sc ts cp fs ls wt mk vl ac lo hi ou hv bg ch tr te pv lc rc wL wH ar dw dm dv fF fL fA fW fM fV hn hR hD hC => sf_vc_hidden hn hR hD hC v1) I
theorem i_vc_stretches {k : Nat} {u : SX} {v : SY} (I : i_Rel k u v) (hk : k + 5 ≤ 2560) : wpX_stretches (fun r u' => wpY_stretches (fun r' => r' = r ∧ i_Rel (k + 5) u' v) v) u :=
  sf_el (P := fun u v => wpX_stretches (fun r u' => wpY_stretches (fun r' => r' = r ∧ i_Rel (k + 5) u' v) v) u) (fun n df dl st pl sc ts cp fs ls wt mk vl ac lo hi ou hv bg ch tr te pv lc rc wL wH ar dw dm dv fF fL fA fW fM fV hn hR hD hC => sf_vc_stretches hn hR hD hC) I
theorem i_vc_open {k : Nat} {u : SX} {v : SY} (I : i_Rel k u v) (hk : k + 5 ≤ 2560) : wpX_open (fun r u' => wpY_open (fun r' => r' = r ∧ i_Rel (k + 5) u' v) v) u :=
  sf_el (P := fun u v => wpX_open (fun r u' => wpY_open (fun r' => r' = r ∧ i_Rel (k + 5) u' v) v) u) (fun n df dl st pl sc ts cp fs ls wt mk vl ac lo hi ou hv bg ch tr te pv lc rc wL wH ar dw dm dv fF fL fA fW fM fV hn hR hD hC => sf_vc_open hn hR hD hC) I
end
