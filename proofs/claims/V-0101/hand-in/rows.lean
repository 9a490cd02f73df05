section
theorem pk_us {f : Nat → Int32} {k : Nat} {x : Int32} : upd f k x k = x := if_pos rfl
theorem pk_un {f : Nat → Int32} {k j : Nat} {x : Int32} (h : j ≠ k) : upd f k x j = f j := if_neg h
theorem pk_sub {a b : Nat} (h : b ≤ a) : nI a - nI b = nI (a - b) := by
  obtain ⟨c, rfl⟩ : ∃ c, a = c + b := ⟨a - b, by omega⟩
  rw [← nI_add, Int32.add_sub_cancel, Nat.add_sub_cancel]
theorem pk_m1 (n : Nat) : nI (n + 1) + (-1) = nI n := by
  rw [← nI_1, Int32.add_assoc, show (1 : Int32) + (-1) = 0 from rfl, Int32.add_zero]
theorem pk_mul (a b : Nat) : nI a * nI b = nI (a * b) := (Int32.ofNat_mul a b).symm
theorem pk_div {a d : Nat} (ha : a < 2 ^ 31) (h0 : 0 < d) (hd : d < 2 ^ 31) : nI a / nI d = nI (a / d) := by
  apply Int32.toInt_inj.mp
  rw [lg_idiv_nonneg (by rw [nI_toInt ha]; omega) (by rw [nI_toInt hd]; omega), nI_toInt ha, nI_toInt hd, nI_toInt (Nat.lt_of_le_of_lt (Nat.div_le_self a d) ha)]
  first | rfl | exact (Int.natCast_ediv _ _).symm
theorem pk_rem {a d : Nat} (ha : a < 2 ^ 31) (h0 : 0 < d) (hd : d < 2 ^ 31) : nI a - nI a / nI d * nI d = nI (a % d) := by
  rw [pk_div ha h0 hd, pk_mul, pk_sub (Nat.div_mul_le_self a d)]
  exact congrArg nI (by have := Nat.div_add_mod' a d; omega)
theorem pk_ix (x : Int32) {n : Nat} (hn : n < 2 ^ 31) : x < 0 ∨ nI n ≤ x ∨ ∃ j : Nat, j < n ∧ x = nI j := by
  by_cases h : x < 0
  · exact Or.inl h
  · obtain ⟨j, hj, rfl⟩ := nI_of h
    by_cases h2 : j < n
    · exact Or.inr (Or.inr ⟨j, h2, rfl⟩)
    · exact Or.inr (Or.inl (nI_le (by omega) hj))
theorem pk_le {x y : Int32} {A B : Prop} (a b : Nat) (f : a ≤ b → A) (g : b < a → B) (hx : x = nI a := by rfl) (hy : y = nI b := by rfl) (ha : a < 2 ^ 31 := by omega) (hb : b < 2 ^ 31 := by omega) : (x ≤ y → A) ∧ (¬ x ≤ y → B) := by
  subst hx hy
  rw [nI_leI ha hb]
  exact ⟨f, fun z => g (by omega)⟩
theorem pk_lt {x y : Int32} {A B : Prop} (a b : Nat) (f : a < b → A) (g : b ≤ a → B) (hx : x = nI a := by rfl) (hy : y = nI b := by rfl) (ha : a < 2 ^ 31 := by omega) (hb : b < 2 ^ 31 := by omega) : (x < y → A) ∧ (¬ x < y → B) := by
  subst hx hy
  rw [nI_ltI ha hb]
  exact ⟨f, fun z => g (by omega)⟩
theorem pk_eq {x y : Int32} {A B : Prop} (a b : Nat) (f : a = b → A) (g : a ≠ b → B) (hx : x = nI a := by rfl) (hy : y = nI b := by rfl) (ha : a < 2 ^ 31 := by omega) (hb : b < 2 ^ 31 := by omega) : (x = y → A) ∧ (¬ x = y → B) := by
  subst hx hy
  rw [nI_eq ha hb]
  exact ⟨f, g⟩
theorem pk_in {x : Int32} (n N : Nat) (h : n < N) (hx : x = nI n := by rfl) (hN : N < 2 ^ 31 := by omega) : vp_in x N := by
  subst hx
  exact vp_in_nI h hN
theorem pk_cl {x : Int32} (n : Nat) (hx : x = nI n := by rfl) (h : n < 2 ^ 31 := by omega) : x.toNatClampNeg = n := by
  subst hx
  exact nI_clamp h
theorem pk_tn {n : Nat} (h : n < 2 ^ 32) : (nI n).toBitVec.toNat = n := Nat.mod_eq_of_lt h
theorem pk_and (x : Int32) {m : Int32} (k : Nat) (hm : m.toBitVec.toNat = 2 ^ k - 1) : x &&& m = nI (x.toBitVec.toNat % 2 ^ k) := by
  apply Int32.toBitVec_inj.mp
  apply BitVec.eq_of_toNat_eq
  rw [Int32.toBitVec_and, BitVec.toNat_and, hm, Nat.and_two_pow_sub_one_eq_mod]
  show _ = (BitVec.ofNat 32 _).toNat
  rw [BitVec.toNat_ofNat]
  exact (Nat.mod_eq_of_lt (Nat.lt_of_le_of_lt (Nat.mod_le _ _) x.toBitVec.isLt)).symm
theorem pk_andN {n : Nat} (h : n < 2 ^ 32) {m : Int32} (k : Nat) (hm : m.toBitVec.toNat = 2 ^ k - 1) : nI n &&& m = nI (n % 2 ^ k) := by
  rw [pk_and _ k hm, pk_tn h]
theorem pk_andE (x : Int32) {m : Int32} (k : Nat) (hm : m.toBitVec.toNat = 2 ^ k - 1) : ∃ j : Nat, j < 2 ^ k ∧ x &&& m = nI j := ⟨_, Nat.mod_lt _ (Nat.two_pow_pos k), pk_and x k hm⟩
theorem pk_shr (a s : Int32) (k : Nat) (hs : (s.toBitVec.smod 32).toNat = k) : (a >>> s).toInt = a.toInt >>> k := by
  show (a.toBitVec.sshiftRight (s.toBitVec.smod 32).toNat).toInt = _
  rw [hs, BitVec.toInt_sshiftRight]
  rfl
theorem pk_shrN {n : Nat} (h : n < 2 ^ 31) (s : Int32) (k : Nat) (hs : (s.toBitVec.smod 32).toNat = k) : nI n >>> s = nI (n / 2 ^ k) := by
  apply Int32.toInt_inj.mp
  have h2 : n / 2 ^ k ≤ n := Nat.div_le_self _ _
  rw [pk_shr _ _ k hs, nI_toInt h, nI_toInt (by omega), Int.shiftRight_eq_div_pow]
  rfl
theorem pk_ushr (x s : Int32) (k : Nat) (hs : ((s.toUInt32 &&& Int32.toUInt32 31).toBitVec % 32).toNat = k) : (x.toUInt32 >>> (s.toUInt32 &&& Int32.toUInt32 31)).toInt32.toBitVec.toNat = x.toBitVec.toNat / 2 ^ k := by
  have e : (x.toUInt32 >>> (s.toUInt32 &&& Int32.toUInt32 31)).toInt32.toBitVec = x.toBitVec >>> k := by
    rw [← hs]
    exact UInt32.toBitVec_shiftRight _ _
  rw [e, BitVec.toNat_ushiftRight, Nat.shiftRight_eq_div_pow]
theorem pk_ushrN {n : Nat} (hn : n < 2 ^ 32) (s : Int32) (k : Nat) (hs : ((s.toUInt32 &&& Int32.toUInt32 31).toBitVec % 32).toNat = k) : ((nI n).toUInt32 >>> (s.toUInt32 &&& Int32.toUInt32 31)).toInt32 = nI (n / 2 ^ k) := by
  apply Int32.toBitVec_inj.mp
  apply BitVec.eq_of_toNat_eq
  rw [pk_ushr _ s k hs, pk_tn hn, pk_tn (Nat.lt_of_le_of_lt (Nat.div_le_self _ _) hn)]
theorem pk_loop {σ : Type} (W : Nat → Nat → σ → Prop) (I : Nat → σ → Prop) (e i0 : Nat) (s : σ) (hi : i0 ≤ e) (h0 : I i0 s) (hx : ∀ n s, I e s → W (n + 1) e s)
    (hs : ∀ n i s, i < e → I i s → (∀ s', I (i + 1) s' → W n (i + 1) s') → W (n + 1) i s) : ∃ n, W n i0 s :=
  ⟨e + 1, loop_i W I e hx hs (e + 1) i0 s hi (by omega) h0⟩
theorem pk_loopD {σ : Type} (W : Nat → Nat → σ → Prop) (I : Nat → σ → Prop) (hx : ∀ n s, I 0 s → W (n + 1) 0 s)
    (hs : ∀ n i s, I (i + 1) s → (∀ s', I i s' → W n i s') → W (n + 1) (i + 1) s) : ∀ (e : Nat) (s : σ), I e s → W (e + 1) e s := by
  intro e
  induction e with
  | zero => exact fun s h => hx 0 s h
  | succ e ih => exact fun s h => hs (e + 1) e s h (fun s' h' => ih s' h')
def bt (x : Int32) (i : Nat) : Bool := x.toBitVec.getLsbD i
theorem b_ext {x y : Int32} (h : ∀ i, i < 32 → bt x i = bt y i) : x = y := Int32.toBitVec_inj.mp (BitVec.eq_of_getLsbD_eq (fun i hi => h i hi))
theorem b_or (x y : Int32) (i : Nat) : bt (x ||| y) i = (bt x i || bt y i) := by unfold bt; rw [Int32.toBitVec_or, BitVec.getLsbD_or]
theorem b_and (x y : Int32) (i : Nat) : bt (x &&& y) i = (bt x i && bt y i) := by unfold bt; rw [Int32.toBitVec_and, BitVec.getLsbD_and]
theorem b_big {x : Int32} {i : Nat} (h : 32 ≤ i) : bt x i = false := BitVec.getLsbD_of_ge _ _ h
theorem b_0 (i : Nat) : bt 0 i = false := BitVec.getLsbD_zero
theorem s_l : ∀ n, n < 32 → ((nI n &&& 31).toBitVec.smod 32).toNat = n := by decide +kernel
theorem b_shl (n : Nat) (hn : n < 32) (x : Int32) {i : Nat} (hi : i < 32) : bt (x <<< (nI n &&& 31)) i = (decide (n ≤ i) && bt x (i - n)) := by
  unfold bt
  rw [Int32.toBitVec_shiftLeft]
  show (x.toBitVec <<< ((nI n &&& 31).toBitVec.smod 32).toNat).getLsbD i = _
  rw [s_l n hn, BitVec.getLsbD_shiftLeft]
  rcases Nat.lt_or_ge i n with h | h
  · simp [h, Nat.not_le.mpr h]
  · simp [hi, h, Nat.not_lt.mpr h]
theorem b_sshr (n : Nat) (hn : n < 32) (x : Int32) {i : Nat} (hi : i < 32) : bt (x >>> (nI n &&& 31)) i = if n + i < 32 then bt x (n + i) else bt x 31 := by
  unfold bt
  rw [Int32.toBitVec_shiftRight]
  show (x.toBitVec.sshiftRight ((nI n &&& 31).toBitVec.smod 32).toNat).getLsbD i = _
  rw [s_l n hn, BitVec.getLsbD_sshiftRight, BitVec.msb_eq_getLsbD_last]
  simp [hi]
end
section
/-! numbers, branches, scans -/
abbrev fk_ok (n b : Nat) : Prop := 3 ≤ n ∧ n ≤ 12 ∧ 2 ≤ b ∧ b ≤ 24
def fk_bI (c : Bool) : Int32 := cond c 1 0
theorem fk_br0 {c : Bool} {A B : Prop} (hf : c = false → A) (ht : c = true → B) : (fk_bI c = 0 → A) ∧ (¬ fk_bI c = 0 → B) := by
  cases c with
  | false => exact ⟨fun _ => hf rfl, fun h => absurd rfl h⟩
  | true => exact ⟨fun h => absurd h (by decide), fun _ => ht rfl⟩
theorem fk_dec {c : Prop} [Decidable c] {post : Int32 → Prop} (h : post (fk_bI (decide c))) : (c → post 1) ∧ (¬ c → post 0) := by
  by_cases hc : c
  · rw [decide_eq_true hc] at h; exact br_t hc h
  · rw [decide_eq_false hc] at h; exact br_f hc h
theorem fk_decn {c : Prop} [Decidable c] {post : Int32 → Prop} (h : post (fk_bI (!decide c))) : (c → post 0) ∧ (¬ c → post 1) := by
  by_cases hc : c
  · rw [decide_eq_true hc] at h; exact br_t hc h
  · rw [decide_eq_false hc] at h; exact br_f hc h
theorem fk_nar (c : Bool) : narrow .boolean (.int (fk_bI c)) = .int (fk_bI c) := by
  cases c <;> rfl
theorem fk_s1 {i : Nat} (h : 1 ≤ i) : nI i - 1 = nI (i - 1) := pk_sub h
def fk_ad (i k : Nat) : Nat := 2 + 8 * (i - 1) + k
def fk_ce (n x c : Nat) : Nat := 2 + 8 * n + 4 * (x - 1) + c
theorem fk_adE {i : Nat} (k : Nat) (hi : 1 ≤ i) : (2 + (8 * (nI i - 1))) + nI k = nI (fk_ad i k) := by
  have e1 : (8 : Int32) * nI (i - 1) = nI (8 * (i - 1)) := pk_mul 8 (i - 1)
  have e2 : (2 : Int32) + nI (8 * (i - 1)) = nI (2 + 8 * (i - 1)) := nI_add 2 _
  rw [fk_s1 hi, e1, e2, nI_add]; rfl
theorem fk_ceE (n : Nat) {x : Nat} (c : Nat) (hx : 1 ≤ x) : ((2 + (8 * nI n)) + (4 * (nI x - 1))) + nI c = nI (fk_ce n x c) := by
  have e1 : (8 : Int32) * nI n = nI (8 * n) := pk_mul 8 n
  have e2 : (2 : Int32) + nI (8 * n) = nI (2 + 8 * n) := nI_add 2 _
  have e3 : (4 : Int32) * nI (x - 1) = nI (4 * (x - 1)) := pk_mul 4 (x - 1)
  rw [fk_s1 hx, e1, e2, e3, nI_add, nI_add]; rfl
theorem fk_ad_lt {n b i k : Nat} (H : fk_ok n b) (hi : i ≤ n) (hk : k < 8) : fk_ad i k < 194 := by
  have ⟨a3, a12, a2, a24⟩ := H
  unfold fk_ad; omega
theorem fk_ad_lt' {n b i k : Nat} (H : fk_ok n b) (hi : 1 ≤ i) (hi : i ≤ n) (hk : k < 8) : fk_ad i k < 2 + 8 * n := by
  have ⟨a3, a12, a2, a24⟩ := H
  unfold fk_ad; omega
theorem fk_ce_lt {n b x c : Nat} (H : fk_ok n b) (hx : x ≤ b) (hc : c < 4) : fk_ce n x c < 194 := by
  have ⟨a3, a12, a2, a24⟩ := H
  unfold fk_ce; omega
theorem fk_ad_ne {i k j l : Nat} (hk : k < 8) (hl : l < 8) (h : k ≠ l) : fk_ad i k ≠ fk_ad j l := by
  unfold fk_ad; omega
theorem fk_ad_ne' {i k j l : Nat} (hi : 1 ≤ i) (hj : 1 ≤ j) (hk : k < 8) (hl : l < 8) (h : i ≠ j ∨ k ≠ l) : fk_ad i k ≠ fk_ad j l := by
  unfold fk_ad; omega
theorem fk_4 : ¬ (4 : Int32) = 0 := by decide
theorem fk_16 : ¬ (16 : Int32) = 0 := by decide
theorem fk_d4 {p : Nat} (h : p < 2 ^ 30) : nI p / 4 = nI (p / 4) := pk_div (d := 4) (by omega) (by decide) (by decide)
theorem fk_d41 {p : Nat} (h : p < 2 ^ 30) : nI p / 4 + 1 = nI (p / 4 + 1) := by rw [fk_d4 h, nI_1]
theorem fk_d161 {p : Nat} (h : p < 2 ^ 30) : nI p / 16 + 1 = nI (p / 16 + 1) := by
  have e : nI p / 16 = nI (p / 16) := pk_div (d := 16) (by omega) (by decide) (by decide)
  rw [e, nI_1]
theorem fk_m4 {p : Nat} (h : p < 2 ^ 30) : nI p - nI p / 4 * 4 = nI (p % 4) := pk_rem (d := 4) (by omega) (by decide) (by decide)
theorem fk_4a (s : Nat) : 4 + nI s = nI (4 + s) := nI_add 4 s
theorem fk_16m (n : Nat) : 16 * nI n = nI (16 * n) := pk_mul 16 n
theorem fk_4m (n : Nat) : 4 * nI n = nI (4 * n) := pk_mul 4 n
theorem fk_16d {d : Nat} (h : 1 ≤ d) : 16 * (nI d - 1) = nI (16 * (d - 1)) := by rw [fk_s1 h]; exact pk_mul 16 _
theorem fk_pdE {p : Nat} (h : p < 2 ^ 30) : 1 + (nI p >>> ((4 : Int32) &&& 31)) = nI (p / 16 + 1) := by
  rw [pk_shrN (by omega) _ 4 (by decide)]
  have e : (1 : Int32) + nI (p / 2 ^ 4) = nI (1 + p / 2 ^ 4) := nI_add 1 _
  rw [e, Nat.add_comm]
theorem fk_p2E {p : Nat} (h : p < 2 ^ 30) : (nI p >>> ((2 : Int32) &&& 31)) &&& 3 = nI (p / 4 % 4) := by
  rw [pk_shrN (by omega) _ 2 (by decide), pk_andN (by omega) 2 (by decide)]
theorem fk_p3E {p : Nat} (h : p < 2 ^ 30) : nI p &&& 3 = nI (p % 4) := by
  rw [pk_andN (by omega) 2 (by decide)]
theorem fk_upd_comm {g : Nat → Int32} {a c : Nat} {x y : Int32} (h : a ≠ c) : upd (upd g a x) c y = upd (upd g c y) a x := by
  funext j
  unfold upd
  by_cases h1 : j = a
  · by_cases h2 : j = c
    · exact absurd (h1.symm.trans h2) h
    · rw [if_neg h2, if_pos h1, if_pos h1]
  · by_cases h2 : j = c
    · rw [if_pos h2, if_neg h1, if_pos h2]
    · rw [if_neg h2, if_neg h1, if_neg h1, if_neg h2]
theorem fk_upd_upd {g : Nat → Int32} {a : Nat} {x y : Int32} : upd (upd g a x) a y = upd g a y := by
  funext j
  unfold upd
  by_cases h1 : j = a
  · rw [if_pos h1, if_pos h1]
  · rw [if_neg h1, if_neg h1, if_neg h1]
/-! first, count, any over [i, i + k) -/
def fk_fs (P : Nat → Bool) (i : Nat) : Nat → Nat
  | 0 => i
  | k + 1 => if fk_fs P i k < i + k then fk_fs P i k else if P (i + k) = true then i + k else i + k + 1
def fk_ct (P : Nat → Bool) (i : Nat) : Nat → Nat
  | 0 => 0
  | k + 1 => fk_ct P i k + (if P (i + k) = true then 1 else 0)
def fk_an (P : Nat → Bool) (i : Nat) : Nat → Bool
  | 0 => false
  | k + 1 => fk_an P i k || P (i + k)
theorem fk_fs_spec (P : Nat → Bool) (i k : Nat) : (i ≤ fk_fs P i k ∧ fk_fs P i k < i + k ∧ P (fk_fs P i k) = true ∧ ∀ q, i ≤ q → q < fk_fs P i k → P q = false) ∨ (fk_fs P i k = i + k ∧ ∀ q, i ≤ q → q < i + k → P q = false) := by
  induction k with
  | zero => exact Or.inr ⟨rfl, fun q h1 h2 => absurd h1 (by omega)⟩
  | succ k ih =>
    rcases ih with ⟨a, c, d, e⟩ | ⟨a, c⟩
    · left
      have E : fk_fs P i (k + 1) = fk_fs P i k := if_pos c
      rw [E]
      exact ⟨a, by omega, d, e⟩
    · by_cases h : P (i + k) = true
      · left
        have E : fk_fs P i (k + 1) = i + k := by
          show (if fk_fs P i k < i + k then _ else _) = _
          rw [if_neg (by omega), if_pos h]
        rw [E]
        exact ⟨by omega, by omega, h, c⟩
      · right
        have E : fk_fs P i (k + 1) = i + k + 1 := by
          show (if fk_fs P i k < i + k then _ else _) = _
          rw [if_neg (by omega), if_neg h]
        refine ⟨E, fun q h1 h2 => ?_⟩
        by_cases hq : q = i + k
        · subst hq; exact Bool.eq_false_iff.mpr h
        · exact c q h1 (by omega)
theorem fk_fs_eq {P : Nat → Bool} {i k q : Nat} (h1 : i ≤ q) (h2 : q < i + k) (h3 : P q = true) (h4 : ∀ e, i ≤ e → e < q → P e = false) : fk_fs P i k = q := by
  rcases fk_fs_spec P i k with ⟨a, c, d, e⟩ | ⟨a, c⟩
  · rcases Nat.lt_trichotomy (fk_fs P i k) q with h | h | h
    · rw [h4 _ a h] at d; exact absurd d (by decide)
    · exact h
    · rw [e q h1 h] at h3; exact absurd h3 (by decide)
  · rw [c q h1 h2] at h3; exact absurd h3 (by decide)
theorem fk_fs_no {P : Nat → Bool} {i k : Nat} (h : ∀ q, i ≤ q → q < i + k → P q = false) : fk_fs P i k = i + k := by
  rcases fk_fs_spec P i k with ⟨a, c, d, e⟩ | ⟨a, c⟩
  · rw [h _ a c] at d; exact absurd d (by decide)
  · exact a
theorem fk_an_t {P : Nat → Bool} {i k : Nat} : fk_an P i k = true ↔ ∃ q, i ≤ q ∧ q < i + k ∧ P q = true := by
  induction k with
  | zero => exact ⟨fun h => absurd (show false = true from h) (by decide), fun ⟨q, h1, h2, _⟩ => absurd h1 (by omega)⟩
  | succ k ih =>
    have E : fk_an P i (k + 1) = (fk_an P i k || P (i + k)) := rfl
    rw [E, Bool.or_eq_true, ih]
    constructor
    · rintro (⟨q, h1, h2, h3⟩ | h)
      · exact ⟨q, h1, by omega, h3⟩
      · exact ⟨i + k, by omega, by omega, h⟩
    · rintro ⟨q, h1, h2, h3⟩
      by_cases hq : q = i + k
      · subst hq; exact Or.inr h3
      · exact Or.inl ⟨q, h1, by omega, h3⟩
theorem fk_an_f {P : Nat → Bool} {i k : Nat} : fk_an P i k = false ↔ ∀ q, i ≤ q → q < i + k → P q = false := by
  constructor
  · intro h q h1 h2
    cases hp : P q with
    | false => rfl
    | true => rw [fk_an_t.mpr ⟨q, h1, h2, hp⟩] at h; exact absurd h (by decide)
  · intro h
    cases ha : fk_an P i k with
    | false => rfl
    | true =>
      obtain ⟨q, h1, h2, h3⟩ := fk_an_t.mp ha
      rw [h q h1 h2] at h3; exact absurd h3 (by decide)
theorem fk_ct_0 {P : Nat → Bool} {i k : Nat} : fk_ct P i k = 0 ↔ ∀ q, i ≤ q → q < i + k → P q = false := by
  induction k with
  | zero => exact ⟨fun _ q h1 h2 => absurd h1 (by omega), fun _ => rfl⟩
  | succ k ih =>
    have E : fk_ct P i (k + 1) = fk_ct P i k + (if P (i + k) = true then 1 else 0) := rfl
    rw [E]
    constructor
    · intro h q h1 h2
      by_cases hq : q = i + k
      · subst hq
        cases hp : P (i + k) with
        | false => rfl
        | true => rw [hp, if_pos rfl] at h; omega
      · exact ih.mp (by omega) q h1 (by omega)
    · intro h
      rw [ih.mpr (fun q h1 h2 => h q h1 (by omega)), h (i + k) (by omega) (by omega)]
      rfl
theorem fk_ct_2 {P : Nat → Bool} {i k : Nat} : 2 ≤ fk_ct P i k ↔ ∃ q r, i ≤ q ∧ q < r ∧ r < i + k ∧ P q = true ∧ P r = true := by
  induction k with
  | zero => exact ⟨fun h => absurd h (by show ¬ 2 ≤ 0; omega), fun ⟨q, r, h1, h2, h3, _⟩ => absurd h1 (by omega)⟩
  | succ k ih =>
    have E : fk_ct P i (k + 1) = fk_ct P i k + (if P (i + k) = true then 1 else 0) := rfl
    rw [E]
    constructor
    · intro h
      by_cases h2 : 2 ≤ fk_ct P i k
      · obtain ⟨q, r, a, c, d, e⟩ := ih.mp h2
        exact ⟨q, r, a, c, by omega, e⟩
      · cases hp : P (i + k) with
        | false => rw [hp] at h; exact absurd h (by show ¬ 2 ≤ fk_ct P i k + 0; omega)
        | true =>
          rw [hp, if_pos rfl] at h
          have hne : ¬ fk_ct P i k = 0 := by omega
          have hx : ∃ q, i ≤ q ∧ q < i + k ∧ P q = true := by
            apply Classical.byContradiction
            intro hn
            apply hne
            rw [fk_ct_0]
            intro q h3 h4
            cases hq : P q with
            | false => rfl
            | true => exact absurd ⟨q, h3, h4, hq⟩ hn
          obtain ⟨q, h3, h4, h5⟩ := hx
          exact ⟨q, i + k, h3, h4, by omega, h5, hp⟩
    · rintro ⟨q, r, h1, h2, h3, h4, h5⟩
      by_cases hr : r = i + k
      · subst hr
        rw [h5, if_pos rfl]
        have : ¬ fk_ct P i k = 0 := by
          rw [fk_ct_0]
          intro hn
          rw [hn q h1 h2] at h4
          exact absurd h4 (by decide)
        omega
      · have := ih.mpr ⟨q, r, h1, h2, by omega, h4, h5⟩
        omega
theorem fk_ct_le {P : Nat → Bool} {i k : Nat} : fk_ct P i k ≤ k := by
  induction k with
  | zero => exact Nat.le_refl 0
  | succ k ih =>
    have E : fk_ct P i (k + 1) = fk_ct P i k + (if P (i + k) = true then 1 else 0) := rfl
    rw [E]
    split <;> omega
theorem fk_ct_congr {P Q : Nat → Bool} {i k : Nat} (h : ∀ q, i ≤ q → q < i + k → P q = Q q) : fk_ct P i k = fk_ct Q i k := by
  induction k with
  | zero => rfl
  | succ k ih =>
    show fk_ct P i k + (if P (i + k) = true then 1 else 0) = fk_ct Q i k + (if Q (i + k) = true then 1 else 0)
    rw [ih (fun q h1 h2 => h q h1 (by omega)), h (i + k) (by omega) (by omega)]
theorem fk_fs_congr {P Q : Nat → Bool} {i k : Nat} (h : ∀ q, i ≤ q → q < i + k → P q = Q q) : fk_fs P i k = fk_fs Q i k := by
  rcases fk_fs_spec P i k with ⟨a, c, d, e⟩ | ⟨a, c⟩
  · exact (fk_fs_eq a c (by rw [← h _ a c]; exact d) (fun q h1 h2 => by rw [← h q h1 (by omega)]; exact e q h1 h2)).symm
  · rw [a]
    exact (fk_fs_no (fun q h1 h2 => by rw [← h q h1 h2]; exact c q h1 h2)).symm
theorem fk_an_congr {P Q : Nat → Bool} {i k : Nat} (h : ∀ q, i ≤ q → q < i + k → P q = Q q) : fk_an P i k = fk_an Q i k := by
  induction k with
  | zero => rfl
  | succ k ih =>
    show (fk_an P i k || P (i + k)) = (fk_an Q i k || Q (i + k))
    rw [ih (fun q h1 h2 => h q h1 (by omega)), h (i + k) (by omega) (by omega)]
/-! scans over a printed loop W -/
theorem fk_scan (W : Nat → Int32 → Prop) (P : Nat → Bool) (i d : Nat) (hend : fk_fs P i d = i + d → (∀ q, i ≤ q → q < i + d → P q = false) → ∀ k, W (k + 1) (nI (i + d)))
    (hstep : ∀ k p, i ≤ p → p < i + d → (∀ q, i ≤ q → q < p → P q = false) → (P p = true → fk_fs P i d = p) → (P p = false → W k (nI (p + 1))) → W (k + 1) (nI p)) : ∃ k, W k (nI i) := by
  have M := pk_loop (fun k j (_ : Unit) => W k (nI j)) (fun j _ => i ≤ j ∧ ∀ q, i ≤ q → q < j → P q = false) (i + d) i () (by omega) ⟨Nat.le_refl i, fun q h1 h2 => absurd h1 (by omega)⟩ (fun k _ h => hend (fk_fs_no h.2) h.2 k)
    (fun k p _ hp h hw => hstep k p h.1 hp h.2 (fun e => fk_fs_eq h.1 hp e h.2) (fun e => hw () ⟨by omega, fun q h1 h2 => by
      by_cases hq : q = p
      · subst hq; exact e
      · exact h.2 q h1 (by omega)⟩))
  exact M
theorem fk_count (W : Nat → Int32 → Int32 → Prop) (P : Nat → Bool) (i d c0 : Nat) (hend : ∀ k, W (k + 1) (nI (c0 + fk_ct P i d)) (nI (i + d)))
    (hstep : ∀ k p c, i ≤ p → p < i + d → (P p = true → W k (nI (c + 1)) (nI (p + 1))) → (P p = false → W k (nI c) (nI (p + 1))) → W (k + 1) (nI c) (nI p)) : ∃ k, W k (nI c0) (nI i) := by
  have M := pk_loop (fun k j (c : Nat) => W k (nI c) (nI j)) (fun j c => i ≤ j ∧ c = c0 + fk_ct P i (j - i)) (i + d) i c0 (by omega) ⟨Nat.le_refl i, by rw [Nat.sub_self]; rfl⟩
    (fun k c h => by
      have e : i + d - i = d := by omega
      have h2 := h.2
      rw [e] at h2
      rw [h2]; exact hend k)
    (fun k p c hp h hw => by
      have e : p + 1 - i = (p - i) + 1 := by omega
      have e2 : fk_ct P i (p + 1 - i) = fk_ct P i (p - i) + (if P p = true then 1 else 0) := by
        rw [e]
        show fk_ct P i (p - i) + (if P (i + (p - i)) = true then 1 else 0) = _
        rw [show i + (p - i) = p by omega]
      refine hstep k p c h.1 hp (fun ht => hw (c + 1) ⟨by omega, ?_⟩) (fun ht => hw c ⟨by omega, ?_⟩)
      · rw [e2, if_pos ht, h.2]; omega
      · rw [e2, ht, h.2]; rfl)
  exact M
/-- two loops, one outcome -/
theorem fk_lock {σ ρ τ : Type} (WX : ρ → Nat → Nat → σ → Prop) (WY : τ → Nat → Nat → σ → Prop) (I : Nat → σ → Prop) (e : Nat)
    (hs : ∀ i s, i < e → I i s → ∃ s', I (i + 1) s' ∧ (∀ r k, WX r k (i + 1) s' → WX r (k + 1) i s) ∧ (∀ r k, WY r k (i + 1) s' → WY r (k + 1) i s)) :
    ∀ d i s, i + d = e → I i s → ∃ s', I e s' ∧ (∀ r, (∀ k, WX r (k + 1) e s') → ∃ k, WX r k i s) ∧ (∀ r, (∀ k, WY r (k + 1) e s') → ∃ k, WY r k i s) := by
  intro d
  induction d with
  | zero =>
    intro i s h hi
    have : i = e := by omega
    subst this
    exact ⟨s, hi, fun r h => ⟨1, h 0⟩, fun r h => ⟨1, h 0⟩⟩
  | succ d ih =>
    intro i s h hi
    obtain ⟨s1, h1, hx, hy⟩ := hs i s (by omega) hi
    obtain ⟨s2, h2, hx2, hy2⟩ := ih (i + 1) s1 (by omega) h1
    refine ⟨s2, h2, fun r hr => ?_, fun r hr => ?_⟩
    · obtain ⟨k, hk⟩ := hx2 r hr
      exact ⟨k + 1, hx r k hk⟩
    · obtain ⟨k, hk⟩ := hy2 r hr
      exact ⟨k + 1, hy r k hk⟩
end
section
/-! the image: modes, claims, places, entries -/
def fk_xa (a : Nat) : Int32 := if a = 0 then -1 else nI a
def fk_m1 (N p : Nat) : Int32 := if p < N then nI p else -1
def fk_dr (g : Nat → Int32) (i : Nat) : Bool := decide (g (fk_ad i 0) = 2)
def fk_fl (g : Nat → Int32) (i : Nat) : Bool := decide (g (fk_ad i 0) = 1)
def fk_iu (g : Nat → Int32) (i : Nat) : Bool := fk_fl g i || fk_dr g i
def fk_bk (b : Nat) (x : Int32) : Bool := !(decide (x < 1)) && !(decide (nI b < x))
def fk_cl (g : Nat → Int32) (b q : Nat) : Nat := if fk_iu g (q / 4 + 1) = true ∧ fk_bk b (g (fk_ad (q / 4 + 1) (4 + q % 4))) = true then (g (fk_ad (q / 4 + 1) (4 + q % 4))).toNatClampNeg else 0
def fk_pl (g : Nat → Int32) (n b p : Nat) : Nat := if fk_cl g b (p / 4) = 0 ∨ fk_dr g (p / 16 + 1) = false then 0 else fk_ce n (fk_cl g b (p / 4)) (p % 4)
def fk_tj (g : Nat → Int32) (n p j : Nat) : Nat := if j < 3 ∨ n < j ∨ j = p / 16 + 1 ∨ fk_iu g j = false then 0 else j
def fk_tg (g : Nat → Int32) (n b p : Nat) : Nat := if fk_pl g n b p = 0 ∨ g (fk_pl g n b p) < 16 ∨ 4095 < g (fk_pl g n b p) then 0 else fk_tj g n p (g (fk_pl g n b p) &&& 15).toNatClampNeg
def fk_nm (g : Nat → Int32) (n b p : Nat) : Nat := if fk_tg g n b p = 0 then 0 else (g (fk_pl g n b p) >>> ((4 : Int32) &&& 31)).toNatClampNeg
theorem fk_bk_ex {b : Nat} {x : Int32} (hb : b < 2 ^ 31) (h : fk_bk b x = true) : ∃ j : Nat, 1 ≤ j ∧ j ≤ b ∧ x = nI j := by
  unfold fk_bk at h
  rw [Bool.and_eq_true, Bool.not_eq_true', Bool.not_eq_true', decide_eq_false_iff_not, decide_eq_false_iff_not] at h
  have h0 : ¬ x < 0 := fun hx => h.1 (Int32.lt_trans hx (by decide))
  obtain ⟨j, hj, rfl⟩ := nI_of h0
  have h1 : ¬ nI j < nI 1 := h.1
  rw [nI_ltI hj (by omega)] at h1
  have h2 := h.2
  rw [nI_ltI hb hj] at h2
  exact ⟨j, by omega, by omega, rfl⟩
theorem fk_bk_of {b j : Nat} (hb : b < 2 ^ 31) (h1 : 1 ≤ j) (h2 : j ≤ b) : fk_bk b (nI j) = true := by
  unfold fk_bk
  rw [Bool.and_eq_true, Bool.not_eq_true', Bool.not_eq_true', decide_eq_false_iff_not, decide_eq_false_iff_not]
  exact ⟨nI_nlt (b := 1) h1 (by omega), nI_nlt h2 hb⟩
theorem fk_bk_0 {b : Nat} : fk_bk b 0 = false := rfl
theorem fk_cl_ex {g : Nat → Int32} {n b : Nat} (q : Nat) (H : fk_ok n b) : fk_cl g b q = 0 ∨ (fk_iu g (q / 4 + 1) = true ∧ 1 ≤ fk_cl g b q ∧ fk_cl g b q ≤ b ∧ g (fk_ad (q / 4 + 1) (4 + q % 4)) = nI (fk_cl g b q)) := by
  have ⟨a3, a12, a2, a24⟩ := H
  by_cases h : fk_iu g (q / 4 + 1) = true ∧ fk_bk b (g (fk_ad (q / 4 + 1) (4 + q % 4))) = true
  · obtain ⟨j, h1, h2, e⟩ := fk_bk_ex (by omega) h.2
    have E : fk_cl g b q = j := by
      unfold fk_cl
      rw [if_pos h, e]
      exact nI_clamp (by omega)
    rw [E]
    exact Or.inr ⟨h.1, h1, h2, e⟩
  · exact Or.inl (if_neg h)
theorem fk_cl_le {g : Nat → Int32} {n b : Nat} (q : Nat) (H : fk_ok n b) : fk_cl g b q ≤ b := by
  rcases fk_cl_ex (g := g) q H with h | h
  · omega
  · exact h.2.2.1
theorem fk_cl_nb {g : Nat → Int32} {b q : Nat} (h : fk_bk b (g (fk_ad (q / 4 + 1) (4 + q % 4))) = false) : fk_cl g b q = 0 := by
  unfold fk_cl
  rw [if_neg]
  intro c
  rw [h] at c
  exact absurd c.2 (by decide)
theorem fk_cl_nu {g : Nat → Int32} {b q : Nat} (h : fk_iu g (q / 4 + 1) = false) : fk_cl g b q = 0 := by
  unfold fk_cl
  rw [if_neg]
  intro c
  rw [h] at c
  exact absurd c.1 (by decide)
theorem fk_cl_y {g : Nat → Int32} {n b q j : Nat} (H : fk_ok n b) (h : fk_iu g (q / 4 + 1) = true) (e : g (fk_ad (q / 4 + 1) (4 + q % 4)) = nI j) (h1 : 1 ≤ j) (h2 : j ≤ b) : fk_cl g b q = j := by
  have ⟨a3, a12, a2, a24⟩ := H
  unfold fk_cl
  rw [e, if_pos ⟨h, fk_bk_of (by omega) h1 h2⟩]
  exact nI_clamp (by omega)
theorem fk_pl_ex {g : Nat → Int32} {n b : Nat} (p : Nat) (H : fk_ok n b) : fk_pl g n b p = 0 ∨ (fk_pl g n b p = fk_ce n (fk_cl g b (p / 4)) (p % 4) ∧ 1 ≤ fk_cl g b (p / 4) ∧ fk_cl g b (p / 4) ≤ b ∧ fk_dr g (p / 16 + 1) = true ∧ 2 + 8 * n ≤ fk_pl g n b p ∧ fk_pl g n b p < 2 + 8 * n + 4 * b) := by
  by_cases h : fk_cl g b (p / 4) = 0 ∨ fk_dr g (p / 16 + 1) = false
  · exact Or.inl (if_pos h)
  · right
    have E : fk_pl g n b p = fk_ce n (fk_cl g b (p / 4)) (p % 4) := if_neg h
    have h1 : ¬ fk_cl g b (p / 4) = 0 := fun c => h (Or.inl c)
    have h2 : fk_dr g (p / 16 + 1) = true := by
      cases hd : fk_dr g (p / 16 + 1) with
      | true => rfl
      | false => exact absurd (Or.inr hd) h
    have h3 := fk_cl_le (g := g) (p / 4) H
    rw [E]
    refine ⟨rfl, by omega, h3, h2, ?_, ?_⟩
    · unfold fk_ce; omega
    · unfold fk_ce; omega
theorem fk_pl_lt {g : Nat → Int32} {n b : Nat} (p : Nat) (H : fk_ok n b) : fk_pl g n b p < 194 := by
  have ⟨a3, a12, a2, a24⟩ := H
  rcases fk_pl_ex (g := g) p H with h | h
  · omega
  · omega
theorem fk_tg_y {g : Nat → Int32} {n b p j : Nat} (h0 : ¬ fk_pl g n b p = 0) (h16 : ¬ g (fk_pl g n b p) < 16) (h4 : ¬ 4095 < g (fk_pl g n b p)) (ej : g (fk_pl g n b p) &&& 15 = nI j) (hj : j < 16) : fk_tg g n b p = fk_tj g n p j := by
  unfold fk_tg
  rw [if_neg (by intro c; rcases c with c | c | c; exact h0 c; exact h16 c; exact h4 c), ej, nI_clamp (by omega)]
theorem fk_tg_n {g : Nat → Int32} {n b p : Nat} (h : fk_pl g n b p = 0 ∨ g (fk_pl g n b p) < 16 ∨ 4095 < g (fk_pl g n b p)) : fk_tg g n b p = 0 := if_pos h
theorem fk_tj_ex {g : Nat → Int32} {n p j : Nat} : fk_tj g n p j = 0 ∨ (fk_tj g n p j = j ∧ 3 ≤ j ∧ j ≤ n ∧ j ≠ p / 16 + 1 ∧ fk_iu g j = true) := by
  by_cases h : j < 3 ∨ n < j ∨ j = p / 16 + 1 ∨ fk_iu g j = false
  · exact Or.inl (if_pos h)
  · right
    refine ⟨if_neg h, by omega, by omega, by omega, ?_⟩
    cases hd : fk_iu g j with
    | true => rfl
    | false => exact absurd (Or.inr (Or.inr (Or.inr hd))) h
theorem fk_w_ex {w : Int32} (h16 : ¬ w < 16) (h4 : ¬ 4095 < w) : ∃ m : Nat, 16 ≤ m ∧ m ≤ 4095 ∧ w = nI m := by
  have h0 : ¬ w < 0 := fun hx => h16 (Int32.lt_trans hx (by decide))
  obtain ⟨m, hm, rfl⟩ := nI_of h0
  have h1 : ¬ nI m < nI 16 := h16
  rw [nI_ltI hm (by omega)] at h1
  have h2 : ¬ nI 4095 < nI m := h4
  rw [nI_ltI (by omega) hm] at h2
  exact ⟨m, by omega, by omega, rfl⟩
/-- all about an entry -/
theorem fk_tg_ex {g : Nat → Int32} {n b : Nat} (p : Nat) (H : fk_ok n b) : (fk_tg g n b p = 0 ∧ fk_nm g n b p = 0) ∨ (3 ≤ fk_tg g n b p ∧ fk_tg g n b p ≤ n ∧ fk_tg g n b p ≠ p / 16 + 1 ∧ fk_iu g (fk_tg g n b p) = true ∧ ¬ fk_pl g n b p = 0 ∧ 1 ≤ fk_nm g n b p ∧ fk_nm g n b p ≤ 255 ∧ g (fk_pl g n b p) >>> ((4 : Int32) &&& 31) = nI (fk_nm g n b p) ∧ ¬ g (fk_pl g n b p) = 0) := by
  by_cases h0 : fk_tg g n b p = 0
  · exact Or.inl ⟨h0, if_pos h0⟩
  · right
    have hc : ¬ (fk_pl g n b p = 0 ∨ g (fk_pl g n b p) < 16 ∨ 4095 < g (fk_pl g n b p)) := fun c => h0 (fk_tg_n c)
    have c1 : ¬ fk_pl g n b p = 0 := fun c => hc (Or.inl c)
    have c2 : ¬ g (fk_pl g n b p) < 16 := fun c => hc (Or.inr (Or.inl c))
    have c3 : ¬ 4095 < g (fk_pl g n b p) := fun c => hc (Or.inr (Or.inr c))
    obtain ⟨j, hj, ej⟩ := pk_andE (g (fk_pl g n b p)) (m := 15) 4 (by decide)
    have E := fk_tg_y c1 c2 c3 ej hj
    obtain ⟨m, m1, m2, em⟩ := fk_w_ex c2 c3
    have e4 : g (fk_pl g n b p) >>> ((4 : Int32) &&& 31) = nI (m / 16) := by
      rw [em]; exact pk_shrN (by omega) _ 4 (by decide)
    have N : fk_nm g n b p = m / 16 := by
      unfold fk_nm
      rw [if_neg h0, e4]
      exact nI_clamp (by omega)
    rcases fk_tj_ex (g := g) (n := n) (p := p) (j := j) with t | ⟨t, t1, t2, t3, t4⟩
    · exact absurd (E.trans t) h0
    · rw [N, E, t]
      refine ⟨t1, t2, t3, t4, c1, by omega, by omega, e4, ?_⟩
      rw [em, ← nI_0, nI_eq (by omega) (by omega)]
      omega
theorem fk_tg_le {g : Nat → Int32} {n b : Nat} (p : Nat) (H : fk_ok n b) : fk_tg g n b p ≤ n := by
  rcases fk_tg_ex (g := g) p H with h | h
  · omega
  · exact h.2.1
theorem fk_nm_le {g : Nat → Int32} {n b : Nat} (p : Nat) (H : fk_ok n b) : fk_nm g n b p ≤ 255 := by
  rcases fk_tg_ex (g := g) p H with h | h
  · omega
  · exact h.2.2.2.2.2.2.1
theorem fk_nm_0 {g : Nat → Int32} {n b : Nat} (p : Nat) (H : fk_ok n b) : fk_nm g n b p = 0 ↔ fk_tg g n b p = 0 := by
  rcases fk_tg_ex (g := g) p H with h | h
  · omega
  · omega
/-! frames -/
/-- g' and g agree on modes, pointers and cells -/
def fk_fr (n : Nat) (g g' : Nat → Int32) : Prop := (∀ i k, 1 ≤ i → i ≤ n → (k = 0 ∨ 4 ≤ k) → k < 8 → g' (fk_ad i k) = g (fk_ad i k)) ∧ ∀ a, 2 + 8 * n ≤ a → g' a = g a
theorem fk_fr_iu {n : Nat} {g g' : Nat → Int32} (F : fk_fr n g g') {i : Nat} (h1 : 1 ≤ i) (h2 : i ≤ n) : fk_iu g' i = fk_iu g i := by
  unfold fk_iu fk_fl fk_dr
  rw [F.1 i 0 h1 h2 (Or.inl rfl) (by omega)]
theorem fk_fr_dr {n : Nat} {g g' : Nat → Int32} (F : fk_fr n g g') {i : Nat} (h1 : 1 ≤ i) (h2 : i ≤ n) : fk_dr g' i = fk_dr g i := by
  unfold fk_dr
  rw [F.1 i 0 h1 h2 (Or.inl rfl) (by omega)]
theorem fk_fr_cl {n b : Nat} {g g' : Nat → Int32} (F : fk_fr n g g') {q : Nat} (h : q < 4 * n) : fk_cl g' b q = fk_cl g b q := by
  unfold fk_cl
  rw [fk_fr_iu F (by omega) (by omega), F.1 (q / 4 + 1) (4 + q % 4) (by omega) (by omega) (Or.inr (by omega)) (by omega)]
theorem fk_fr_pl {n b : Nat} {g g' : Nat → Int32} (F : fk_fr n g g') {p : Nat} (h : p < 16 * n) : fk_pl g' n b p = fk_pl g n b p := by
  unfold fk_pl
  rw [fk_fr_cl F (by omega), fk_fr_dr F (by omega) (by omega)]
theorem fk_fr_tg {n b : Nat} {g g' : Nat → Int32} (H : fk_ok n b) (F : fk_fr n g g') {p : Nat} (h : p < 16 * n) : fk_tg g' n b p = fk_tg g n b p := by
  by_cases h0 : fk_pl g n b p = 0
  · rw [fk_tg_n (Or.inl h0), fk_tg_n (Or.inl ((fk_fr_pl F h).trans h0))]
  · have hp : g' (fk_pl g n b p) = g (fk_pl g n b p) := by
      rcases fk_pl_ex (g := g) p H with c | c
      · exact absurd c h0
      · exact F.2 _ c.2.2.2.2.1
    unfold fk_tg
    rw [fk_fr_pl F h, hp]
    by_cases hc : fk_pl g n b p = 0 ∨ g (fk_pl g n b p) < 16 ∨ 4095 < g (fk_pl g n b p)
    · rw [if_pos hc, if_pos hc]
    · rw [if_neg hc, if_neg hc]
      generalize (g (fk_pl g n b p) &&& 15).toNatClampNeg = j
      unfold fk_tj
      by_cases c : j < 3 ∨ n < j
      · rw [if_pos (by omega), if_pos (by omega)]
      · rw [fk_fr_iu F (by omega) (by omega)]
theorem fk_fr_upd {n : Nat} {g : Nat → Int32} {i k : Nat} {v : Int32} (hi : 1 ≤ i) (hn : i ≤ n) (hk : k = 1 ∨ k = 2 ∨ k = 3) : fk_fr n g (upd g (fk_ad i k) v) := by
  refine ⟨fun j l h1 h2 h3 h4 => pk_un (fk_ad_ne h4 (by omega) (by omega)), fun a ha => pk_un ?_⟩
  unfold fk_ad
  omega
theorem fk_fr_trans {n : Nat} {g g' g'' : Nat → Int32} (F : fk_fr n g g') (G : fk_fr n g' g'') : fk_fr n g g'' :=
  ⟨fun i k h1 h2 h3 h4 => (G.1 i k h1 h2 h3 h4).trans (F.1 i k h1 h2 h3 h4), fun a ha => (G.2 a ha).trans (F.2 a ha)⟩
/-! bits -/
theorem fk_bt1 : ∀ k, k < 32 → bt 1 k = decide (k = 0) := by decide +kernel
theorem fk_b1 {j i : Nat} (hj : j < 32) (hi : i < 32) : bt ((1 : Int32) <<< (nI j &&& 31)) i = decide (i = j) := by
  rw [b_shl j hj _ hi, fk_bt1 (i - j) (by omega)]
  by_cases h : j ≤ i
  · by_cases h2 : i = j
    · rw [decide_eq_true h, decide_eq_true (show i - j = 0 by omega), decide_eq_true h2]; rfl
    · rw [decide_eq_true h, decide_eq_false (show ¬ i - j = 0 by omega), decide_eq_false h2]; rfl
  · rw [decide_eq_false h, decide_eq_false (show ¬ i = j by omega)]; rfl
theorem fk_or (m : Int32) {j i : Nat} (hj : j < 32) (hi : i < 32) : bt (m ||| ((1 : Int32) <<< (nI j &&& 31))) i = (bt m i || decide (i = j)) := by
  rw [b_or, fk_b1 hj hi]
theorem fk_and0 (m : Int32) {j : Nat} (hj : j < 32) : (m &&& ((1 : Int32) <<< (nI j &&& 31))) = 0 ↔ bt m j = false := by
  constructor
  · intro h
    have e : bt (m &&& ((1 : Int32) <<< (nI j &&& 31))) j = false := by rw [h]; exact b_0 j
    rw [b_and, fk_b1 hj hj, decide_eq_true rfl, Bool.and_true] at e
    exact e
  · intro h
    apply b_ext
    intro i hi
    rw [b_and, fk_b1 hj hi, b_0]
    by_cases e : i = j
    · rw [e, h]; rfl
    · rw [decide_eq_false e, Bool.and_false]
theorem fk_shr (m : Int32) {j : Nat} (hj : j < 32) : (m >>> (nI j &&& 31)) &&& 1 = fk_bI (bt m j) := by
  apply b_ext
  intro i hi
  have e1 : bt (fk_bI (bt m j)) i = (bt m j && decide (i = 0)) := by
    cases bt m j with
    | false => exact b_0 i
    | true => exact fk_bt1 i hi
  rw [b_and, fk_bt1 i hi, e1, b_sshr j hj m hi]
  by_cases h : i = 0
  · subst h
    rw [if_pos (by omega)]; rfl
  · rw [decide_eq_false h, Bool.and_false, Bool.and_false]
theorem fk_bI1 {c : Bool} {A B : Prop} (ht : c = true → A) (hf : c = false → B) : (fk_bI c = 1 → A) ∧ (¬ fk_bI c = 1 → B) := by
  cases c with
  | false => exact ⟨fun h => absurd h (by decide), fun _ => hf rfl⟩
  | true => exact ⟨fun _ => ht rfl, fun h => absurd rfl h⟩
end
section
/-! X's readers -/
section FX
variable {n b : Nat} {f : Int32} {g sv ct lv : Nat → Int32} {post : Int32 → Prop}
theorem fx_field {P Q : Int32} (H : fk_ok n b) (i k : Nat) (hi : 1 ≤ i) (hn : i ≤ n) (hk : k < 8) (hP : P = nI i) (hQ : Q = nI k) (h : post (g (fk_ad i k))) : wpX_field post (nI n, nI b, nI (2 + 8 * n + 4 * b), f, g, sv, ct, lv) P Q := by
  subst hP hQ
  have hl := fk_ad_lt (b := b) H hn hk
  unfold wpX_field wpX_nodeAddress
  dsimp only
  rw [fk_adE k hi, nI_clamp (by omega)]
  exact ⟨vp_in_nI hl (by decide), h⟩
theorem fx_set {pst : SX → Prop} {P Q V : Int32} (H : fk_ok n b) (i k : Nat) (hi : 1 ≤ i) (hn : i ≤ n) (hk : k < 8) (hP : P = nI i) (hQ : Q = nI k) (h : pst (nI n, nI b, nI (2 + 8 * n + 4 * b), f, upd g (fk_ad i k) V, sv, ct, lv)) : wpX_setField pst (nI n, nI b, nI (2 + 8 * n + 4 * b), f, g, sv, ct, lv) P Q V := by
  subst hP hQ
  have hl := fk_ad_lt (b := b) H hn hk
  unfold wpX_setField wpX_nodeAddress
  dsimp only
  rw [fk_adE k hi, nI_clamp (by omega)]
  exact ⟨vp_in_nI hl (by decide), fun a e => by subst e; exact h⟩
theorem fx_isFile {P : Int32} (H : fk_ok n b) (i : Nat) (hi : 1 ≤ i) (hn : i ≤ n) (hP : P = nI i) (h : post (fk_bI (fk_fl g i))) : wpX_isFile post (nI n, nI b, nI (2 + 8 * n + 4 * b), f, g, sv, ct, lv) P := by
  unfold wpX_isFile
  dsimp only
  refine fx_field H i 0 hi hn (by omega) hP rfl ?_
  exact fk_dec h
theorem fx_isDir {P : Int32} (H : fk_ok n b) (i : Nat) (hi : 1 ≤ i) (hn : i ≤ n) (hP : P = nI i) (h : post (fk_bI (fk_dr g i))) : wpX_isDirectory post (nI n, nI b, nI (2 + 8 * n + 4 * b), f, g, sv, ct, lv) P := by
  unfold wpX_isDirectory
  dsimp only
  refine fx_field H i 0 hi hn (by omega) hP rfl ?_
  exact fk_dec h
theorem fx_inUse {P : Int32} (H : fk_ok n b) (i : Nat) (hi : 1 ≤ i) (hn : i ≤ n) (hP : P = nI i) (h : post (fk_bI (fk_iu g i))) : wpX_inUse post (nI n, nI b, nI (2 + 8 * n + 4 * b), f, g, sv, ct, lv) P := by
  unfold wpX_inUse
  dsimp only
  refine fx_isFile H i hi hn hP ?_
  refine fk_br0 (fun e => ?_) (fun e => ?_)
  · refine fx_isDir H i hi hn hP ?_
    unfold fk_iu at h
    rw [e, Bool.false_or] at h
    refine fk_br0 (fun e2 => ?_) (fun e2 => ?_)
    · rw [e2] at h; exact h
    · rw [e2] at h; exact h
  · unfold fk_iu at h
    rw [e, Bool.true_or] at h
    exact h
theorem fx_isBlock {x : Int32} (h : post (fk_bI (fk_bk b x))) : wpX_isBlock post (nI n, nI b, nI (2 + 8 * n + 4 * b), f, g, sv, ct, lv) x := by
  unfold wpX_isBlock
  dsimp only
  unfold fk_bk at h
  by_cases h1 : x < 1
  · rw [decide_eq_true h1] at h; exact br_t h1 h
  · rw [decide_eq_false h1] at h
    refine br_f h1 ?_
    by_cases h2 : nI b < x
    · rw [decide_eq_true h2] at h; exact br_t h2 h
    · rw [decide_eq_false h2] at h; exact br_f h2 h
theorem fx_cl {P Q : Int32} (H : fk_ok n b) (i s : Nat) (hi : 1 ≤ i) (hn : i ≤ n) (hs : s < 4) (hP : P = nI i) (hQ : Q = nI s) (h : post (nI (fk_cl g b (4 * (i - 1) + s)))) : wpX_claimedBlock post (nI n, nI b, nI (2 + 8 * n + 4 * b), f, g, sv, ct, lv) P Q := by
  have e1 : (4 * (i - 1) + s) / 4 + 1 = i := by omega
  have e2 : (4 * (i - 1) + s) % 4 = s := by omega
  unfold wpX_claimedBlock
  dsimp only
  refine fx_inUse H i hi hn hP ?_
  refine fk_br0 (fun e => ?_) (fun e => ?_)
  · rw [fk_cl_nu (by rw [e1]; exact e)] at h
    exact h
  · refine fx_field H i (4 + s) hi hn (by omega) hP (by rw [hQ]; exact fk_4a s) ?_
    refine fx_isBlock ?_
    refine fk_br0 (fun e3 => ?_) (fun e3 => ?_)
    · rw [fk_cl_nb (by rw [e1, e2]; exact e3)] at h
      exact h
    · have ⟨a3, a12, a2, a24⟩ := H
      obtain ⟨j, h1, h2, ej⟩ := fk_bk_ex (by omega) e3
      rw [fk_cl_y (j := j) H (by rw [e1]; exact e) (by rw [e1, e2]; exact ej) h1 h2, ← ej] at h
      exact h
theorem fx_ce {P Q : Int32} (x c : Nat) (hx : 1 ≤ x) (hP : P = nI x) (hQ : Q = nI c) (h : post (nI (fk_ce n x c))) : wpX_cellAddress post (nI n, nI b, nI (2 + 8 * n + 4 * b), f, g, sv, ct, lv) P Q := by
  subst hP hQ
  unfold wpX_cellAddress
  dsimp only
  rw [fk_ceE n c hx]
  exact h
theorem fx_pd {P : Int32} (p : Nat) (hp : p < 2 ^ 30) (hP : P = nI p) (h : post (nI (p / 16 + 1))) : wpX_placeDirectory post (nI n, nI b, nI (2 + 8 * n + 4 * b), f, g, sv, ct, lv) P := by
  subst hP
  unfold wpX_placeDirectory
  dsimp only
  rw [fk_pdE hp]
  exact h
theorem fx_pl {P : Int32} (H : fk_ok n b) (p : Nat) (hp : p < 16 * n) (hP : P = nI p) (h : post (fk_xa (fk_pl g n b p))) : wpX_placeAddress post (nI n, nI b, nI (2 + 8 * n + 4 * b), f, g, sv, ct, lv) P := by
  have ⟨a3, a12, a2, a24⟩ := H
  subst hP
  unfold wpX_placeAddress
  dsimp only
  refine fx_pd p (by omega) rfl ?_
  refine fx_isDir H (p / 16 + 1) (by omega) (by omega) rfl ?_
  refine fk_br0 (fun e => ?_) (fun e => ?_)
  · have E : fk_pl g n b p = 0 := if_pos (Or.inr e)
    rw [E] at h
    exact h
  · refine fx_cl H (p / 16 + 1) (p / 4 % 4) (by omega) (by omega) (by omega) rfl (fk_p2E (by omega)) ?_
    have e4 : 4 * (p / 16 + 1 - 1) + p / 4 % 4 = p / 4 := by omega
    rw [e4]
    have hc := fk_cl_le (g := g) (p / 4) H
    refine pk_eq (fk_cl g b (p / 4)) 0 (fun e0 => ?_) (fun e0 => ?_)
    · have E : fk_pl g n b p = 0 := if_pos (Or.inl e0)
      rw [E] at h
      exact h
    · refine fx_ce (fk_cl g b (p / 4)) (p % 4) (by omega) rfl (fk_p3E (by omega)) ?_
      have E : fk_pl g n b p = fk_ce n (fk_cl g b (p / 4)) (p % 4) := if_neg (by rw [e]; intro c; rcases c with c | c; exact e0 c; exact absurd c (by decide))
      have E2 : fk_xa (fk_pl g n b p) = nI (fk_ce n (fk_cl g b (p / 4)) (p % 4)) := by
        unfold fk_xa
        rw [E, if_neg (by unfold fk_ce; omega)]
      rw [E2] at h
      exact h
theorem fx_tg {P : Int32} (H : fk_ok n b) (p : Nat) (hp : p < 16 * n) (hP : P = nI p) (h : post (nI (fk_tg g n b p))) : wpX_entryTarget post (nI n, nI b, nI (2 + 8 * n + 4 * b), f, g, sv, ct, lv) P := by
  have ⟨a3, a12, a2, a24⟩ := H
  have hl := fk_pl_lt (g := g) p H
  unfold wpX_entryTarget
  dsimp only
  refine fx_pl H p hp hP ?_
  by_cases e0 : fk_pl g n b p = 0
  · have E : fk_xa (fk_pl g n b p) = -1 := if_pos e0
    rw [fk_tg_n (Or.inl e0)] at h
    rw [E]
    exact br_f (by decide) h
  · have E : fk_xa (fk_pl g n b p) = nI (fk_pl g n b p) := if_neg e0
    rw [E]
    refine br_t (nI_pos' (by omega)) ⟨vp_in_nI hl (by decide), ?_⟩
    rw [nI_clamp (by omega)]
    refine nm_e ?_
    by_cases h16 : g (fk_pl g n b p) < 16
    · rw [fk_tg_n (Or.inr (Or.inl h16))] at h
      exact br_t h16 h
    · refine br_f h16 ?_
      by_cases h4 : g (fk_pl g n b p) ≤ 4095
      · refine br_t h4 ?_
        obtain ⟨j, hj, ej⟩ := pk_andE (g (fk_pl g n b p)) (m := 15) 4 (by decide)
        rw [fk_tg_y e0 h16 (Int32.not_lt.mpr h4) ej hj] at h
        refine nm_r ej ?_
        unfold fk_tj at h
        refine pk_lt j 3 (fun c => ?_) (fun c => ?_)
        · rw [if_pos (Or.inl c)] at h; exact h
        · refine pk_lt n j (fun c2 => ?_) (fun c2 => ?_)
          · rw [if_pos (Or.inr (Or.inl c2))] at h; exact h
          · refine fx_pd p (by omega) hP ?_
            refine pk_eq j (p / 16 + 1) (fun c3 => ?_) (fun c3 => ?_)
            · rw [if_pos (Or.inr (Or.inr (Or.inl c3)))] at h; exact h
            · refine fx_inUse H j (by omega) (by omega) rfl ?_
              refine fk_br0 (fun c4 => ?_) (fun c4 => ?_)
              · rw [if_pos (Or.inr (Or.inr (Or.inr c4)))] at h; exact h
              · rw [if_neg (by rw [c4]; intro z; rcases z with z | z | z | z; omega; omega; exact c3 z; exact absurd z (by decide))] at h
                exact h
      · rw [fk_tg_n (Or.inr (Or.inr (Int32.not_le.mp h4)))] at h
        exact br_f h4 h
def fk_bw (g : Nat → Int32) (n b p : Nat) : Bool := !(decide (fk_pl g n b p = 0)) && (!(decide (g (fk_pl g n b p) = 0)) && decide (fk_tg g n b p = 0))
theorem fx_bw {P : Int32} (H : fk_ok n b) (p : Nat) (hp : p < 16 * n) (hP : P = nI p) (h : post (fk_bI (fk_bw g n b p))) : wpX_isBadWord post (nI n, nI b, nI (2 + 8 * n + 4 * b), f, g, sv, ct, lv) P := by
  have ⟨a3, a12, a2, a24⟩ := H
  have hl := fk_pl_lt (g := g) p H
  have ht := fk_tg_le (g := g) p H
  unfold wpX_isBadWord
  dsimp only
  refine fx_pl H p hp hP ?_
  unfold fk_bw at h
  by_cases e0 : fk_pl g n b p = 0
  · have E : fk_xa (fk_pl g n b p) = -1 := if_pos e0
    rw [decide_eq_true e0] at h
    rw [E]
    exact br_t (by decide) h
  · have E : fk_xa (fk_pl g n b p) = nI (fk_pl g n b p) := if_neg e0
    rw [decide_eq_false e0] at h
    rw [E]
    refine br_f (nI_pos (by omega)) ⟨vp_in_nI hl (by decide), ?_⟩
    rw [nI_clamp (by omega)]
    by_cases e1 : g (fk_pl g n b p) = 0
    · rw [decide_eq_true e1] at h
      exact br_t e1 h
    · rw [decide_eq_false e1] at h
      refine br_f e1 ?_
      refine fx_tg H p hp hP ?_
      refine pk_eq (fk_tg g n b p) 0 (fun c => ?_) (fun c => ?_)
      · rw [decide_eq_true c] at h; exact h
      · rw [decide_eq_false c] at h; exact h
theorem fx_nm {P : Int32} (H : fk_ok n b) (p : Nat) (hp : p < 16 * n) (hP : P = nI p) (h : post (nI (fk_nm g n b p))) : wpX_entryName post (nI n, nI b, nI (2 + 8 * n + 4 * b), f, g, sv, ct, lv) P := by
  have ⟨a3, a12, a2, a24⟩ := H
  have hl := fk_pl_lt (g := g) p H
  have ht := fk_tg_le (g := g) p H
  unfold wpX_entryName
  dsimp only
  refine fx_tg H p hp hP ?_
  rcases fk_tg_ex (g := g) p H with ⟨c, d⟩ | ⟨c1, c2, c3, c4, c5, c6, c7, c8, c9⟩
  · rw [d] at h
    rw [c]
    exact br_t rfl h
  · refine br_f (nI_ne0 (by omega) (by omega)) ?_
    refine fx_pl H p hp hP ?_
    have E : fk_xa (fk_pl g n b p) = nI (fk_pl g n b p) := if_neg c5
    rw [E]
    refine br_t (nI_pos' (by omega)) ⟨vp_in_nI hl (by decide), ?_⟩
    rw [nI_clamp (by omega), c8]
    exact h
theorem fx_clearPlace {pst : SX → Prop} {P : Int32} (H : fk_ok n b) (p : Nat) (hp : p < 16 * n) (hP : P = nI p) (h0 : ¬ fk_pl g n b p = 0) (h : pst (nI n, nI b, nI (2 + 8 * n + 4 * b), f, upd g (fk_pl g n b p) 0, sv, ct, lv)) : wpX_clearPlace pst (nI n, nI b, nI (2 + 8 * n + 4 * b), f, g, sv, ct, lv) P := by
  have ⟨a3, a12, a2, a24⟩ := H
  have hl := fk_pl_lt (g := g) p H
  unfold wpX_clearPlace
  dsimp only
  refine fx_pl H p hp hP ?_
  have E : fk_xa (fk_pl g n b p) = nI (fk_pl g n b p) := if_neg h0
  rw [E]
  refine br_f (nI_pos (by omega)) ⟨vp_in_nI hl (by decide), ?_⟩
  rw [nI_clamp (by omega)]
  exact nm_e h
/-! first entries, counts -/
def fk_fi (g : Nat → Int32) (n b i : Nat) : Nat := fk_fs (fun p => decide (fk_tg g n b p = i)) 0 (16 * n)
def fk_rf (g : Nat → Int32) (n b i : Nat) : Nat := fk_ct (fun p => decide (fk_tg g n b p = i)) 0 (16 * n)
def fk_fn (g : Nat → Int32) (n b d m : Nat) : Nat := fk_fs (fun p => decide (fk_nm g n b p = m)) (16 * (d - 1)) 16
def fk_sd (g : Nat → Int32) (n b d : Nat) : Nat := fk_ct (fun p => !(decide (fk_tg g n b p = 0)) && fk_dr g (fk_tg g n b p)) (16 * (d - 1)) 16
theorem fk_fi_ex (g : Nat → Int32) (n b i : Nat) : (fk_fi g n b i < 16 * n ∧ fk_tg g n b (fk_fi g n b i) = i ∧ ∀ q, q < fk_fi g n b i → fk_tg g n b q ≠ i) ∨ (fk_fi g n b i = 16 * n ∧ ∀ q, q < 16 * n → fk_tg g n b q ≠ i) := by
  rcases fk_fs_spec (fun p => decide (fk_tg g n b p = i)) 0 (16 * n) with ⟨h1, h2, h3, h4⟩ | ⟨h1, h2⟩
  · exact Or.inl ⟨by unfold fk_fi; omega, of_decide_eq_true h3, fun q hq => of_decide_eq_false (h4 q (by omega) hq)⟩
  · exact Or.inr ⟨by unfold fk_fi; omega, fun q hq => of_decide_eq_false (h2 q (by omega) (by omega))⟩
theorem fx_fi {P : Int32} (H : fk_ok n b) (i : Nat) (hi : i < 2 ^ 30) (hP : P = nI i) (h : post (fk_m1 (16 * n) (fk_fi g n b i))) : wpX_firstNaming post (nI n, nI b, nI (2 + 8 * n + 4 * b), f, g, sv, ct, lv) P := by
  have ⟨a3, a12, a2, a24⟩ := H
  subst hP
  unfold wpX_firstNaming
  dsimp only
  refine fk_scan (fun k x => wX_firstNaming_2 post (nI i) (nI n) (nI b) (nI (2 + 8 * n + 4 * b)) f g sv ct lv k x) (fun p => decide (fk_tg g n b p = i)) 0 (16 * n) ?_ ?_
  · intro e _ k
    refine pk_le (16 * n) (0 + 16 * n) (fun _ => ?_) (fun c => absurd c (by omega)) (fk_16m n)
    have E : fk_m1 (16 * n) (fk_fi g n b i) = -1 := if_neg (by unfold fk_fi; omega)
    rw [E] at h
    exact h
  · intro k p _ hp _ ht hf
    refine pk_le (16 * n) p (fun c => absurd c (by omega)) (fun _ => ?_) (fk_16m n)
    refine fx_tg H p (by omega) rfl ?_
    have hl := fk_tg_le (g := g) p H
    refine pk_eq (fk_tg g n b p) i (fun c => ?_) (fun c => ?_)
    · have e := ht (decide_eq_true c)
      have E : fk_m1 (16 * n) (fk_fi g n b i) = nI p := by
        unfold fk_m1 fk_fi
        rw [e, if_pos (by omega)]
      rw [E] at h
      exact h
    · exact nm_r (nI_1 p) (hf (decide_eq_false c))
theorem fx_rf {P : Int32} (H : fk_ok n b) (i : Nat) (hi : i < 2 ^ 30) (hP : P = nI i) (h : post (nI (fk_rf g n b i))) : wpX_countNaming post (nI n, nI b, nI (2 + 8 * n + 4 * b), f, g, sv, ct, lv) P := by
  have ⟨a3, a12, a2, a24⟩ := H
  subst hP
  unfold wpX_countNaming
  dsimp only
  refine fk_count (fun k c x => wX_countNaming_4 post (nI i) (nI n) (nI b) (nI (2 + 8 * n + 4 * b)) f g sv ct lv k c x) (fun p => decide (fk_tg g n b p = i)) 0 (16 * n) 0 ?_ ?_
  · intro k
    refine pk_le (16 * n) (0 + 16 * n) (fun _ => ?_) (fun c => absurd c (by omega)) (fk_16m n)
    rw [Nat.zero_add]
    exact h
  · intro k p c _ hp ht hf
    refine pk_le (16 * n) p (fun c => absurd c (by omega)) (fun _ => ?_) (fk_16m n)
    refine fx_tg H p (by omega) rfl ?_
    have hl := fk_tg_le (g := g) p H
    refine pk_eq (fk_tg g n b p) i (fun e => ?_) (fun e => ?_)
    · exact nm_r (nI_1 c) (nm_r (nI_1 p) (ht (decide_eq_true e)))
    · exact nm_r (nI_1 p) (hf (decide_eq_false e))
theorem fx_sd {P : Int32} (H : fk_ok n b) (d : Nat) (hd : 1 ≤ d) (hn : d ≤ n) (hP : P = nI d) (h : post (nI (fk_sd g n b d))) : wpX_countSubdirectories post (nI n, nI b, nI (2 + 8 * n + 4 * b), f, g, sv, ct, lv) P := by
  have ⟨a3, a12, a2, a24⟩ := H
  subst hP
  unfold wpX_countSubdirectories
  dsimp only
  refine nm_r (fk_16d hd) ?_
  refine fk_count (fun k c x => wX_countSubdirectories_12 post (nI (16 * (d - 1))) (nI n) (nI b) (nI (2 + 8 * n + 4 * b)) f g sv ct lv k c x) (fun p => !(decide (fk_tg g n b p = 0)) && fk_dr g (fk_tg g n b p)) (16 * (d - 1)) 16 0 ?_ ?_
  · intro k
    refine pk_le (16 * (d - 1) + 16) (16 * (d - 1) + 16) (fun _ => ?_) (fun c => absurd c (by omega)) (nI_add _ 16)
    rw [Nat.zero_add]
    exact h
  · intro k p c _ hp ht hf
    refine pk_le (16 * (d - 1) + 16) p (fun c => absurd c (by omega)) (fun _ => ?_) (nI_add _ 16)
    refine fx_tg H p (by omega) rfl ?_
    have hl := fk_tg_le (g := g) p H
    refine pk_eq (fk_tg g n b p) 0 (fun e => ?_) (fun e => ?_)
    · exact nm_r (nI_1 p) (hf (by rw [decide_eq_true e]; rfl))
    · refine fx_isDir H (fk_tg g n b p) (by omega) hl rfl ?_
      refine fk_br0 (fun e2 => ?_) (fun e2 => ?_)
      · exact nm_r (nI_1 p) (hf (by rw [e2, Bool.and_false]))
      · exact nm_r (nI_1 c) (nm_r (nI_1 p) (ht (by rw [e2, decide_eq_false e]; rfl)))
theorem fx_fn {P Q : Int32} (H : fk_ok n b) (d m : Nat) (hd : 1 ≤ d) (hn : d ≤ n) (h1 : 1 ≤ m) (h2 : m ≤ 255) (hP : P = nI d) (hQ : Q = nI m) (h : post (fk_m1 (16 * d) (fk_fn g n b d m))) : wpX_findName post (nI n, nI b, nI (2 + 8 * n + 4 * b), f, g, sv, ct, lv) P Q := by
  have ⟨a3, a12, a2, a24⟩ := H
  subst hP hQ
  unfold wpX_findName
  dsimp only
  refine br_f (nI_nlt (b := 1) h1 (by omega)) (br_t (nI_le (b := 255) h2 (by decide)) ?_)
  refine nm_r (fk_16d hd) ?_
  refine fk_scan (fun k x => wX_findName_24 post (nI m) (nI (16 * (d - 1))) (nI n) (nI b) (nI (2 + 8 * n + 4 * b)) f g sv ct lv k x) (fun p => decide (fk_nm g n b p = m)) (16 * (d - 1)) 16 ?_ ?_
  · intro e _ k
    refine pk_le (16 * (d - 1) + 16) (16 * (d - 1) + 16) (fun _ => ?_) (fun c => absurd c (by omega)) (nI_add _ 16)
    have E : fk_m1 (16 * d) (fk_fn g n b d m) = -1 := if_neg (by unfold fk_fn; omega)
    rw [E] at h
    exact h
  · intro k p _ hp _ ht hf
    refine pk_le (16 * (d - 1) + 16) p (fun c => absurd c (by omega)) (fun _ => ?_) (nI_add _ 16)
    refine fx_nm H p (by omega) rfl ?_
    have hl := fk_nm_le (g := g) p H
    refine pk_eq (fk_nm g n b p) m (fun c => ?_) (fun c => ?_)
    · have e := ht (decide_eq_true c)
      have E : fk_m1 (16 * d) (fk_fn g n b d m) = nI p := by
        unfold fk_m1 fk_fn
        rw [e, if_pos (by omega)]
      rw [E] at h
      exact h
    · exact nm_r (nI_1 p) (hf (decide_eq_false c))
theorem fx_fnN {P Q : Int32} (hQ : Q < 1 ∨ ¬ Q ≤ 255) (h : post (-1)) : wpX_findName post (nI n, nI b, nI (2 + 8 * n + 4 * b), f, g, sv, ct, lv) P Q := by
  unfold wpX_findName
  dsimp only
  by_cases c : Q < 1
  · exact br_t c h
  · refine br_f c (br_f ?_ h)
    rcases hQ with e | e
    · exact absurd e c
    · exact e
/-- an earlier entry of the same name in its directory -/
def fk_rp (g : Nat → Int32) (n b p : Nat) : Bool := !(decide (fk_nm g n b p = 0)) && fk_an (fun q => decide (fk_nm g n b q = fk_nm g n b p)) (p / 16 * 16) (p % 16)
theorem fx_rp {P : Int32} (H : fk_ok n b) (p : Nat) (hp : p < 16 * n) (h0 : ¬ fk_tg g n b p = 0) (hP : P = nI p) (h : post (fk_bI (fk_rp g n b p))) : wpX_hasEarlierNamesake post (nI n, nI b, nI (2 + 8 * n + 4 * b), f, g, sv, ct, lv) P := by
  have ⟨a3, a12, a2, a24⟩ := H
  subst hP
  unfold wpX_hasEarlierNamesake
  dsimp only
  refine fx_pd p (by omega) rfl ?_
  refine fx_nm H p hp rfl ?_
  rcases fk_tg_ex (g := g) p H with ⟨c, d⟩ | ⟨c1, c2, c3, c4, c5, c6, c7, c8, c9⟩
  · exact absurd c h0
  · refine fx_fn H (p / 16 + 1) (fk_nm g n b p) (by omega) (by omega) c6 c7 rfl rfl ?_
    have hz : fk_rp g n b p = fk_an (fun q => decide (fk_nm g n b q = fk_nm g n b p)) (p / 16 * 16) (p % 16) := by
      unfold fk_rp
      rw [decide_eq_false (show ¬ fk_nm g n b p = 0 by omega)]; rfl
    rw [hz] at h
    have e16 : 16 * (p / 16 + 1 - 1) = p / 16 * 16 := by omega
    rcases fk_fs_spec (fun q => decide (fk_nm g n b q = fk_nm g n b p)) (p / 16 * 16) 16 with ⟨d1, d2, d3, d4⟩ | ⟨d1, d2⟩
    · have F : fk_fn g n b (p / 16 + 1) (fk_nm g n b p) = fk_fs (fun q => decide (fk_nm g n b q = fk_nm g n b p)) (p / 16 * 16) 16 := by
        unfold fk_fn; rw [e16]
      rw [F]
      generalize fk_fs (fun q => decide (fk_nm g n b q = fk_nm g n b p)) (p / 16 * 16) 16 = q at d1 d2 d3 d4
      have E : fk_m1 (16 * (p / 16 + 1)) q = nI q := if_pos (by omega)
      rw [E]
      refine br_f (nI_pos (by omega)) ?_
      refine pk_le p q (fun c => ?_) (fun c => ?_)
      · rw [fk_an_f.mpr (fun r h1 h2 => d4 r h1 (by omega))] at h
        exact h
      · rw [fk_an_t.mpr ⟨q, d1, by omega, d3⟩] at h
        exact h
    · have := d2 p (by omega) (by omega)
      exact absurd rfl (of_decide_eq_false this)
/-- holder: the directory of the first entry naming i -/
def fk_ho (g : Nat → Int32) (n b i : Nat) : Nat := if fk_fi g n b i < 16 * n then fk_fi g n b i / 16 + 1 else 0
def fk_ep (g : Nat → Int32) (n b i : Nat) : Nat := if 2 < i then fk_ho g n b i else 1
def fk_el (g : Nat → Int32) (n b i : Nat) : Nat := if fk_dr g i = true then 2 + fk_sd g n b i else fk_rf g n b i
theorem fk_ho_le {g : Nat → Int32} {n b i : Nat} : fk_ho g n b i ≤ n := by
  unfold fk_ho
  split <;> omega
theorem fx_ep {P : Int32} (H : fk_ok n b) (i : Nat) (hi : i < 2 ^ 30) (hP : P = nI i) (h : post (nI (fk_ep g n b i))) : wpX_expectedParent post (nI n, nI b, nI (2 + 8 * n + 4 * b), f, g, sv, ct, lv) P := by
  have ⟨a3, a12, a2, a24⟩ := H
  subst hP
  unfold wpX_expectedParent
  dsimp only
  unfold fk_ep at h
  refine pk_lt 2 i (fun c => ?_) (fun c => ?_)
  · rw [if_pos c] at h
    refine fx_fi H i hi rfl ?_
    unfold fk_ho at h
    unfold fk_m1
    by_cases c2 : fk_fi g n b i < 16 * n
    · rw [if_pos c2] at h ⊢
      refine br_t (nI_pos' (by omega)) ?_
      exact fx_pd _ (by omega) rfl h
    · rw [if_neg c2] at h ⊢
      exact br_f (by decide) h
  · rw [if_neg (by omega)] at h
    exact h
theorem fx_el {P : Int32} (H : fk_ok n b) (i : Nat) (hi : 1 ≤ i) (hn : i ≤ n) (hP : P = nI i) (h : post (nI (fk_el g n b i))) : wpX_expectedLinks post (nI n, nI b, nI (2 + 8 * n + 4 * b), f, g, sv, ct, lv) P := by
  have ⟨a3, a12, a2, a24⟩ := H
  unfold wpX_expectedLinks
  dsimp only
  refine fx_isDir H i hi hn hP ?_
  unfold fk_el at h
  refine fk_br0 (fun e => ?_) (fun e => ?_)
  · rw [if_neg (by rw [e]; decide)] at h
    exact fx_rf H i (by omega) hP h
  · rw [if_pos e] at h
    refine fx_sd H i hi hn hP ?_
    have e2 : 2 + nI (fk_sd g n b i) = nI (2 + fk_sd g n b i) := nI_add 2 _
    rw [e2]
    exact h
end FX
end
section
/-! Y's readers -/
section FY
variable {n b : Nat} {f : Int32} {g sv ct : Nat → Int32} {post : Int32 → Prop}
theorem fy_field {P Q : Int32} (H : fk_ok n b) (i k : Nat) (hi : 1 ≤ i) (hn : i ≤ n) (hk : k < 8) (hP : P = nI i) (hQ : Q = nI k) (h : post (g (fk_ad i k))) : wpY_field post (nI n, nI b, nI (2 + 8 * n + 4 * b), f, g, sv, ct) P Q := by
  subst hP hQ
  have hl := fk_ad_lt (b := b) H hn hk
  unfold wpY_field
  dsimp only
  rw [fk_adE k hi, nI_clamp (by omega)]
  exact ⟨vp_in_nI hl (by decide), h⟩
theorem fy_set {pst : SY → Prop} {P Q V : Int32} (H : fk_ok n b) (i k : Nat) (hi : 1 ≤ i) (hn : i ≤ n) (hk : k < 8) (hP : P = nI i) (hQ : Q = nI k) (h : pst (nI n, nI b, nI (2 + 8 * n + 4 * b), f, upd g (fk_ad i k) V, sv, ct)) : wpY_set pst (nI n, nI b, nI (2 + 8 * n + 4 * b), f, g, sv, ct) P Q V := by
  subst hP hQ
  have hl := fk_ad_lt (b := b) H hn hk
  unfold wpY_set
  dsimp only
  rw [fk_adE k hi, nI_clamp (by omega)]
  exact ⟨vp_in_nI hl (by decide), fun a e => by subst e; exact h⟩
theorem fy_inUse {P : Int32} (H : fk_ok n b) (i : Nat) (hi : 1 ≤ i) (hn : i ≤ n) (hP : P = nI i) (h : post (fk_bI (fk_iu g i))) : wpY_inUse post (nI n, nI b, nI (2 + 8 * n + 4 * b), f, g, sv, ct) P := by
  unfold wpY_inUse
  dsimp only
  refine fy_field H i 0 hi hn (by omega) hP rfl ?_
  unfold fk_iu at h
  refine br_c (fun e => ?_) (fun e => ?_)
  · have E : fk_fl g i = true := decide_eq_true e
    rw [E] at h
    exact h
  · have E : fk_fl g i = false := decide_eq_false e
    rw [E, Bool.false_or] at h
    refine fy_field H i 0 hi hn (by omega) hP rfl ?_
    exact fk_dec h
theorem fy_cl {P : Int32} (H : fk_ok n b) (q : Nat) (hq : q < 4 * n) (hP : P = nI q) (h : post (nI (fk_cl g b q))) : wpY_claimed post (nI n, nI b, nI (2 + 8 * n + 4 * b), f, g, sv, ct) P := by
  have ⟨a3, a12, a2, a24⟩ := H
  subst hP
  unfold wpY_claimed
  dsimp only
  refine ⟨fk_4, fk_4, ?_⟩
  refine fy_field H (q / 4 + 1) (4 + q % 4) (by omega) (by omega) (by omega) (fk_d41 (by omega)) (by rw [fk_m4 (by omega)]; exact fk_4a _) ?_
  refine ⟨fk_4, ?_⟩
  refine fy_inUse H (q / 4 + 1) (by omega) (by omega) (fk_d41 (by omega)) ?_
  refine fk_br0 (fun e => ?_) (fun e => ?_)
  · rw [fk_cl_nu e] at h
    exact h
  · cases e3 : fk_bk b (g (fk_ad (q / 4 + 1) (4 + q % 4))) with
    | false =>
      rw [fk_cl_nb e3] at h
      refine br_c (fun c => h) (fun c => br_c (fun c2 => h) (fun c2 => ?_))
      unfold fk_bk at e3
      rw [decide_eq_false c, decide_eq_false c2] at e3
      exact absurd e3 (by decide)
    | true =>
      obtain ⟨j, h1, h2, ej⟩ := fk_bk_ex (by omega) e3
      rw [fk_cl_y (j := j) H e ej h1 h2] at h
      rw [ej]
      exact br_f (nI_nlt (b := 1) h1 (by omega)) (br_f (nI_nlt h2 (by omega)) h)
theorem fy_ce {P Q : Int32} (x c : Nat) (hx : 1 ≤ x) (hP : P = nI x) (hQ : Q = nI c) (h : post (nI (fk_ce n x c))) : wpY_cell post (nI n, nI b, nI (2 + 8 * n + 4 * b), f, g, sv, ct) P Q := by
  subst hP hQ
  unfold wpY_cell
  dsimp only
  rw [fk_ceE n c hx]
  exact h
theorem fy_pl {P : Int32} (H : fk_ok n b) (p : Nat) (hp : p < 16 * n) (hP : P = nI p) (h : post (nI (fk_pl g n b p))) : wpY_place post (nI n, nI b, nI (2 + 8 * n + 4 * b), f, g, sv, ct) P := by
  have ⟨a3, a12, a2, a24⟩ := H
  subst hP
  unfold wpY_place
  dsimp only
  refine ⟨fk_4, ?_⟩
  refine fy_cl H (p / 4) (by omega) (fk_d4 (by omega)) ?_
  have hc := fk_cl_le (g := g) (p / 4) H
  refine pk_eq (fk_cl g b (p / 4)) 0 (fun e0 => ?_) (fun e0 => ?_)
  · have E : fk_pl g n b p = 0 := if_pos (Or.inl e0)
    rw [E] at h
    exact h
  · refine ⟨fk_16, ?_⟩
    refine fy_field H (p / 16 + 1) 0 (by omega) (by omega) (by omega) (fk_d161 (by omega)) rfl ?_
    refine br_c (fun e => ?_) (fun e => ?_)
    · have e' : fk_dr g (p / 16 + 1) = true := decide_eq_true e
      refine ⟨fk_4, ?_⟩
      refine fy_ce (fk_cl g b (p / 4)) (p % 4) (by omega) rfl (fk_m4 (by omega)) ?_
      have E : fk_pl g n b p = fk_ce n (fk_cl g b (p / 4)) (p % 4) := if_neg (by rw [e']; intro c; rcases c with c | c; exact e0 c; exact absurd c (by decide))
      rw [E] at h
      exact h
    · have e' : fk_dr g (p / 16 + 1) = false := decide_eq_false e
      have E : fk_pl g n b p = 0 := if_pos (Or.inr e')
      rw [E] at h
      exact h
theorem fy_tg {P : Int32} (H : fk_ok n b) (p : Nat) (hp : p < 16 * n) (hP : P = nI p) (h : post (nI (fk_tg g n b p))) : wpY_names post (nI n, nI b, nI (2 + 8 * n + 4 * b), f, g, sv, ct) P := by
  have ⟨a3, a12, a2, a24⟩ := H
  have hl := fk_pl_lt (g := g) p H
  subst hP
  unfold wpY_names
  dsimp only
  refine fy_pl H p hp rfl ?_
  refine pk_eq (fk_pl g n b p) 0 (fun e0 => ?_) (fun e0 => ?_)
  · rw [fk_tg_n (Or.inl e0)] at h
    exact h
  · refine ⟨vp_in_nI hl (by decide), ?_⟩
    rw [nI_clamp (by omega)]
    refine nm_e ?_
    obtain ⟨j, hj, ej⟩ := pk_andE (g (fk_pl g n b p)) (m := 15) 4 (by decide)
    refine nm_r ej ?_
    by_cases h16 : g (fk_pl g n b p) < 16
    · rw [fk_tg_n (Or.inr (Or.inl h16))] at h
      exact br_t h16 h
    · refine br_f h16 ?_
      by_cases h4 : 4095 < g (fk_pl g n b p)
      · rw [fk_tg_n (Or.inr (Or.inr h4))] at h
        exact br_t h4 h
      · refine br_f h4 ?_
        rw [fk_tg_y e0 h16 h4 ej hj] at h
        unfold fk_tj at h
        refine pk_lt j 3 (fun c => ?_) (fun c => ?_)
        · rw [if_pos (Or.inl c)] at h; exact h
        · refine pk_lt n j (fun c2 => ?_) (fun c2 => ?_)
          · rw [if_pos (Or.inr (Or.inl c2))] at h; exact h
          · refine ⟨fk_16, ?_⟩
            refine pk_eq j (p / 16 + 1) (fun c3 => ?_) (fun c3 => ?_) rfl (fk_d161 (by omega))
            · rw [if_pos (Or.inr (Or.inr (Or.inl c3)))] at h; exact h
            · refine fy_inUse H j (by omega) (by omega) rfl ?_
              refine fk_br0 (fun c4 => ?_) (fun c4 => ?_)
              · rw [if_pos (Or.inr (Or.inr (Or.inr c4)))] at h; exact h
              · rw [if_neg (by rw [c4]; intro z; rcases z with z | z | z | z; omega; omega; exact c3 z; exact absurd z (by decide))] at h
                exact h
theorem fy_nm {P : Int32} (H : fk_ok n b) (p : Nat) (hp : p < 16 * n) (hP : P = nI p) (h : post (nI (fk_nm g n b p))) : wpY_nameOf post (nI n, nI b, nI (2 + 8 * n + 4 * b), f, g, sv, ct) P := by
  have ⟨a3, a12, a2, a24⟩ := H
  have hl := fk_pl_lt (g := g) p H
  have ht := fk_tg_le (g := g) p H
  unfold wpY_nameOf
  dsimp only
  refine fy_pl H p hp hP ?_
  refine fy_tg H p hp hP ?_
  rcases fk_tg_ex (g := g) p H with ⟨c, d⟩ | ⟨c1, c2, c3, c4, c5, c6, c7, c8, c9⟩
  · rw [d] at h
    rw [c]
    exact br_t rfl h
  · refine br_f (nI_ne0 (by omega) (by omega)) ⟨vp_in_nI hl (by decide), ?_⟩
    rw [nI_clamp (by omega), c8]
    exact h
theorem fy_rp {P : Int32} (H : fk_ok n b) (p : Nat) (hp : p < 16 * n) (hP : P = nI p) (h : post (fk_bI (fk_rp g n b p))) : wpY_repeats post (nI n, nI b, nI (2 + 8 * n + 4 * b), f, g, sv, ct) P := by
  have ⟨a3, a12, a2, a24⟩ := H
  subst hP
  unfold wpY_repeats
  dsimp only
  refine fy_nm H p hp rfl ?_
  refine ⟨fk_16, ?_⟩
  have e1 : nI p / 16 * 16 = nI (p / 16 * 16) := by
    have e : nI p / 16 = nI (p / 16) := pk_div (d := 16) (by omega) (by decide) (by decide)
    rw [e]; exact pk_mul _ 16
  refine nm_r e1 ?_
  have hnm := fk_nm_le (g := g) p H
  refine fk_scan (fun k x => wY_repeats_14 post (nI p) (nI (fk_nm g n b p)) (nI n) (nI b) (nI (2 + 8 * n + 4 * b)) f g sv ct k x) (fun q => !(decide (fk_nm g n b p = 0)) && decide (fk_nm g n b q = fk_nm g n b p)) (p / 16 * 16) (p % 16) ?_ ?_
  · intro _ hq k
    refine pk_le p (p / 16 * 16 + p % 16) (fun _ => ?_) (fun c => absurd c (by omega))
    have E : fk_rp g n b p = false := by
      unfold fk_rp
      by_cases z : fk_nm g n b p = 0
      · rw [decide_eq_true z]; rfl
      · rw [decide_eq_false z]
        show fk_an _ _ _ = false
        rw [fk_an_f]
        intro q h1 h2
        have := hq q h1 h2
        rw [decide_eq_false z] at this
        exact this
    rw [E] at h
    exact h
  · intro k q h1 h2 _ _ hf
    refine pk_le p q (fun c => absurd c (by omega)) (fun _ => ?_)
    refine pk_eq (fk_nm g n b p) 0 (fun z => ?_) (fun z => ?_)
    · exact nm_r (nI_1 q) (hf (by rw [decide_eq_true z]; rfl))
    · refine fy_nm H q (by omega) rfl ?_
      have hnq := fk_nm_le (g := g) q H
      refine pk_eq (fk_nm g n b q) (fk_nm g n b p) (fun e => ?_) (fun e => ?_)
      · have E : fk_rp g n b p = true := by
          unfold fk_rp
          rw [decide_eq_false z]
          show fk_an _ _ _ = true
          rw [fk_an_t]
          exact ⟨q, h1, h2, decide_eq_true e⟩
        rw [E] at h
        exact h
      · exact nm_r (nI_1 q) (hf (by rw [decide_eq_false e, Bool.and_false]))
theorem fy_fi {P : Int32} (H : fk_ok n b) (i : Nat) (hi : i < 2 ^ 30) (hP : P = nI i) (h : post (fk_m1 (16 * n) (fk_fi g n b i))) : wpY_first post (nI n, nI b, nI (2 + 8 * n + 4 * b), f, g, sv, ct) P := by
  have ⟨a3, a12, a2, a24⟩ := H
  subst hP
  unfold wpY_first
  dsimp only
  refine fk_scan (fun k x => wY_first_2 post (nI i) (nI n) (nI b) (nI (2 + 8 * n + 4 * b)) f g sv ct k x) (fun p => decide (fk_tg g n b p = i)) 0 (16 * n) ?_ ?_
  · intro e _ k
    refine pk_le (16 * n) (0 + 16 * n) (fun _ => ?_) (fun c => absurd c (by omega)) (fk_16m n)
    have E : fk_m1 (16 * n) (fk_fi g n b i) = -1 := if_neg (by unfold fk_fi; omega)
    rw [E] at h
    exact h
  · intro k p _ hp _ ht hf
    refine pk_le (16 * n) p (fun c => absurd c (by omega)) (fun _ => ?_) (fk_16m n)
    refine fy_tg H p (by omega) rfl ?_
    have hl := fk_tg_le (g := g) p H
    refine pk_eq (fk_tg g n b p) i (fun c => ?_) (fun c => ?_)
    · have e := ht (decide_eq_true c)
      have E : fk_m1 (16 * n) (fk_fi g n b i) = nI p := by
        unfold fk_m1 fk_fi
        rw [e, if_pos (by omega)]
      rw [E] at h
      exact h
    · exact nm_r (nI_1 p) (hf (decide_eq_false c))
theorem fy_ho {P : Int32} (H : fk_ok n b) (i : Nat) (hi : i < 2 ^ 30) (hP : P = nI i) (h : post (nI (fk_ho g n b i))) : wpY_holder post (nI n, nI b, nI (2 + 8 * n + 4 * b), f, g, sv, ct) P := by
  have ⟨a3, a12, a2, a24⟩ := H
  unfold wpY_holder
  dsimp only
  refine fy_fi H i hi hP ?_
  unfold fk_ho at h
  unfold fk_m1
  by_cases c2 : fk_fi g n b i < 16 * n
  · rw [if_pos c2] at h ⊢
    refine br_t (nI_pos' (by omega)) ⟨fk_16, ?_⟩
    rw [fk_d161 (by omega)]
    exact h
  · rw [if_neg c2] at h ⊢
    exact br_f (by decide) h
theorem fy_ep {P : Int32} (H : fk_ok n b) (i : Nat) (hi : i < 2 ^ 30) (hP : P = nI i) (h : post (nI (fk_ep g n b i))) : wpY_rightParent post (nI n, nI b, nI (2 + 8 * n + 4 * b), f, g, sv, ct) P := by
  have ⟨a3, a12, a2, a24⟩ := H
  subst hP
  unfold wpY_rightParent
  dsimp only
  unfold fk_ep at h
  refine pk_lt 2 i (fun c => ?_) (fun c => ?_)
  · rw [if_pos c] at h
    exact fy_ho H i hi rfl h
  · rw [if_neg (by omega)] at h
    exact h
theorem fy_rf {P : Int32} (H : fk_ok n b) (i : Nat) (hi : 1 ≤ i) (hn : i ≤ n) (hP : P = nI i) (h : post (nI (fk_rf g n b i))) : wpY_references post (nI n, nI b, nI (2 + 8 * n + 4 * b), f, g, sv, ct) P := by
  have ⟨a3, a12, a2, a24⟩ := H
  subst hP
  unfold wpY_references
  dsimp only
  refine br_f (nI_nlt (b := 1) hi (by omega)) (br_t (nI_le hn (by omega)) ?_)
  refine fk_count (fun k c x => wY_references_19 post (nI i) (nI n) (nI b) (nI (2 + 8 * n + 4 * b)) f g sv ct k c x) (fun p => decide (fk_tg g n b p = i)) 0 (16 * n) 0 ?_ ?_
  · intro k
    refine pk_le (16 * n) (0 + 16 * n) (fun _ => ?_) (fun c => absurd c (by omega)) (fk_16m n)
    rw [Nat.zero_add]
    exact h
  · intro k p c _ hp ht hf
    refine pk_le (16 * n) p (fun c => absurd c (by omega)) (fun _ => ?_) (fk_16m n)
    refine fy_tg H p (by omega) rfl ?_
    have hl := fk_tg_le (g := g) p H
    refine pk_eq (fk_tg g n b p) i (fun e => ?_) (fun e => ?_)
    · exact nm_r (nI_1 c) (nm_r (nI_1 p) (ht (decide_eq_true e)))
    · exact nm_r (nI_1 p) (hf (decide_eq_false e))
/-- Y's links: of any inode -/
def fk_rl (g : Nat → Int32) (n b i : Nat) : Nat := if fk_fl g i = true then fk_rf g n b i else 2 + fk_sd g n b i
theorem fk_rl_el {g : Nat → Int32} {n b i : Nat} (h : fk_iu g i = true) : fk_rl g n b i = fk_el g n b i := by
  unfold fk_rl fk_el
  by_cases e : g (fk_ad i 0) = 1
  · have e1 : fk_fl g i = true := decide_eq_true e
    have e2 : fk_dr g i = false := decide_eq_false (by rw [e]; decide)
    rw [e1, e2, if_pos rfl, if_neg (by decide)]
  · have e1 : fk_fl g i = false := decide_eq_false e
    have e2 : fk_dr g i = true := by
      unfold fk_iu at h
      rw [e1, Bool.false_or] at h
      exact h
    rw [e1, e2, if_pos rfl, if_neg (by decide)]
theorem fy_rl {P : Int32} (H : fk_ok n b) (i : Nat) (hi : 1 ≤ i) (hn : i ≤ n) (hP : P = nI i) (h : post (nI (fk_rl g n b i))) : wpY_rightLinks post (nI n, nI b, nI (2 + 8 * n + 4 * b), f, g, sv, ct) P := by
  have ⟨a3, a12, a2, a24⟩ := H
  subst hP
  unfold wpY_rightLinks
  dsimp only
  refine fy_field H i 0 hi hn (by omega) rfl rfl ?_
  unfold fk_rl at h
  refine br_c (fun e => ?_) (fun e => ?_)
  · have e1 : fk_fl g i = true := decide_eq_true e
    rw [e1, if_pos rfl] at h
    exact fy_rf H i hi hn rfl h
  · have e1 : fk_fl g i = false := decide_eq_false e
    rw [e1, if_neg (by decide)] at h
    refine nm_r (fk_16d hi) ?_
    refine fk_count (fun k c x => wY_rightLinks_25 post (nI i) (nI n) (nI b) (nI (2 + 8 * n + 4 * b)) f g sv ct k c x) (fun p => !(decide (fk_tg g n b p = 0)) && fk_dr g (fk_tg g n b p)) (16 * (i - 1)) 16 2 ?_ ?_
    · intro k
      refine pk_le (16 * i) (16 * (i - 1) + 16) (fun _ => ?_) (fun c => absurd c (by omega)) (fk_16m i)
      exact h
    · intro k p c _ hp ht hf
      refine pk_le (16 * i) p (fun c => absurd c (by omega)) (fun _ => ?_) (fk_16m i)
      refine fy_tg H p (by omega) rfl ?_
      have hl := fk_tg_le (g := g) p H
      refine pk_eq (fk_tg g n b p) 0 (fun e => ?_) (fun e => ?_)
      · exact nm_r (nI_1 p) (hf (by rw [decide_eq_true e]; rfl))
      · refine fy_field H (fk_tg g n b p) 0 (by omega) hl (by omega) rfl rfl ?_
        refine br_c (fun e2 => ?_) (fun e2 => ?_)
        · have e3 : fk_dr g (fk_tg g n b p) = true := decide_eq_true e2
          exact nm_r (nI_1 c) (nm_r (nI_1 p) (ht (by rw [e3, decide_eq_false e]; rfl)))
        · have e3 : fk_dr g (fk_tg g n b p) = false := decide_eq_false e2
          exact nm_r (nI_1 p) (hf (by rw [e3, Bool.and_false]))
theorem fy_wipe {pst : SY → Prop} {P Q : Int32} (H : fk_ok n b) (p k : Nat) (hp : p < 16 * n) (hk : k < 10) (hP : P = nI p) (hQ : Q = nI k) (h : pst (nI n, nI b, nI (2 + 8 * n + 4 * b), f, upd g (fk_pl g n b p) 0, sv, upd ct k (ct k + 1))) : wpY_wipe pst (nI n, nI b, nI (2 + 8 * n + 4 * b), f, g, sv, ct) P Q := by
  have ⟨a3, a12, a2, a24⟩ := H
  have hl := fk_pl_lt (g := g) p H
  subst hP hQ
  unfold wpY_wipe
  dsimp only
  refine fy_pl H p hp rfl ?_
  refine ⟨vp_in_nI hl (by decide), ?_⟩
  rw [nI_clamp (by omega)]
  refine nm_e ⟨vp_in_nI hk (by decide), vp_in_nI hk (by decide), ?_⟩
  rw [nI_clamp (by omega)]
  exact nm_e h
/-! claims of a block, the least free block -/
def fk_cm (g : Nat → Int32) (n b x : Nat) : Nat := fk_ct (fun q => decide (fk_cl g b q = x)) 0 (4 * n)
def fk_us (g : Nat → Int32) (n b x : Nat) : Bool := fk_an (fun q => decide (fk_cl g b q = x)) 0 (4 * n)
def fk_z (N p : Nat) : Nat := if p < N then p else 0
def fk_fb (g : Nat → Int32) (n b : Nat) : Nat := fk_z (b + 1) (fk_fs (fun x => !(fk_us g n b x)) 1 b)
theorem fk_cm_us (g : Nat → Int32) (n b x : Nat) : fk_cm g n b x = 0 ↔ fk_us g n b x = false := by
  unfold fk_cm fk_us
  rw [fk_ct_0, fk_an_f]
theorem fy_cm {P : Int32} (H : fk_ok n b) (x : Nat) (h1 : 1 ≤ x) (h2 : x ≤ b) (hP : P = nI x) (h : post (nI (fk_cm g n b x))) : wpY_claims post (nI n, nI b, nI (2 + 8 * n + 4 * b), f, g, sv, ct) P := by
  have ⟨a3, a12, a2, a24⟩ := H
  subst hP
  unfold wpY_claims
  dsimp only
  refine br_f (nI_nlt (b := 1) h1 (by omega)) (br_t (nI_le h2 (by omega)) ?_)
  refine fk_count (fun k c y => wY_claims_19 post (nI x) (nI n) (nI b) (nI (2 + 8 * n + 4 * b)) f g sv ct k c y) (fun q => decide (fk_cl g b q = x)) 0 (4 * n) 0 ?_ ?_
  · intro k
    refine pk_le (4 * n) (0 + 4 * n) (fun _ => ?_) (fun c => absurd c (by omega)) (fk_4m n)
    rw [Nat.zero_add]
    exact h
  · intro k p c _ hp ht hf
    refine pk_le (4 * n) p (fun c => absurd c (by omega)) (fun _ => ?_) (fk_4m n)
    refine fy_cl H p (by omega) rfl ?_
    have hl := fk_cl_le (g := g) p H
    refine pk_eq (fk_cl g b p) x (fun e => ?_) (fun e => ?_)
    · exact nm_r (nI_1 c) (nm_r (nI_1 p) (ht (decide_eq_true e)))
    · exact nm_r (nI_1 p) (hf (decide_eq_false e))
theorem fk_cm_le {g : Nat → Int32} {n b x : Nat} : fk_cm g n b x ≤ 4 * n := fk_ct_le
theorem fk_rf_le {g : Nat → Int32} {n b x : Nat} : fk_rf g n b x ≤ 16 * n := fk_ct_le
theorem fy_fb (H : fk_ok n b) (h : post (nI (fk_fb g n b))) : wpY_freeBlock post (nI n, nI b, nI (2 + 8 * n + 4 * b), f, g, sv, ct) := by
  have ⟨a3, a12, a2, a24⟩ := H
  unfold wpY_freeBlock
  dsimp only
  refine fk_scan (fun k x => wY_freeBlock_2 post (nI n) (nI b) (nI (2 + 8 * n + 4 * b)) f g sv ct k x) (fun x => !(fk_us g n b x)) 1 b ?_ ?_
  · intro e _ k
    refine pk_lt b (1 + b) (fun _ => ?_) (fun c => absurd c (by omega))
    have E : fk_fb g n b = 0 := if_neg (by omega)
    rw [E] at h
    exact h
  · intro k x h1 h2 _ ht hf
    refine pk_lt b x (fun c => absurd c (by omega)) (fun _ => ?_)
    refine fy_cm H x h1 (by omega) rfl ?_
    have hl := fk_cm_le (g := g) (n := n) (b := b) (x := x)
    refine pk_eq (fk_cm g n b x) 0 (fun e => ?_) (fun e => ?_)
    · have e1 := ht (by rw [(fk_cm_us g n b x).mp e]; rfl)
      have E : fk_fb g n b = x := by
        unfold fk_fb
        rw [e1]
        exact if_pos (by omega)
      rw [E] at h
      exact h
    · refine nm_r (nI_1 x) (hf ?_)
      cases hu : fk_us g n b x with
      | true => rfl
      | false => exact absurd ((fk_cm_us g n b x).mpr hu) e
end FY
end
section
/-! nested loops over claims -/
theorem fk_nest {σ : Type} (O : Nat → Nat → σ → Prop) (In : Nat → Nat → Nat → Nat → σ → Prop) (I : Nat → σ → Prop) (n : Nat)
    (hx : ∀ k s, I (4 * n) s → O (k + 1) (n + 1) s)
    (ho : ∀ k i s, 1 ≤ i → i ≤ n → (∃ m, In k i m 0 s) → O (k + 1) i s)
    (hi : ∀ k i m s, 1 ≤ i → i ≤ n → O k (i + 1) s → In k i (m + 1) 4 s)
    (hs : ∀ k i m j s, 1 ≤ i → i ≤ n → j < 4 → I (4 * (i - 1) + j) s → (∀ s', I (4 * (i - 1) + j + 1) s' → In k i m (j + 1) s') → In k i (m + 1) j s)
    (s0 : σ) (h0 : I 0 s0) : ∃ k, O k 1 s0 := by
  refine pk_loop O (fun i s => 1 ≤ i ∧ I (4 * (i - 1)) s) (n + 1) 1 s0 (by omega) ⟨Nat.le_refl 1, h0⟩ (fun k s h => hx k s ?_) ?_
  · have := h.2
    rw [show 4 * (n + 1 - 1) = 4 * n by omega] at this
    exact this
  · intro k i s hin h hw
    refine ho k i s h.1 (by omega) ?_
    refine pk_loop (fun m j s => In k i m j s) (fun j s => I (4 * (i - 1) + j) s) 4 0 s (by omega) h.2 (fun m s h4 => ?_) (fun m j s hj hI hn => hs k i m j s h.1 (by omega) hj hI hn)
    refine hi k i m s h.1 (by omega) (hw s ⟨by omega, ?_⟩)
    rw [show 4 * (i + 1 - 1) = 4 * (i - 1) + 4 by omega]
    exact h4
/-! bit maps -/
def fk_om (P : Nat → Bool) : Nat → Int32
  | 0 => 0
  | k + 1 => if P (k + 1) = true then fk_om P k ||| ((1 : Int32) <<< (nI k &&& 31)) else fk_om P k
theorem fk_om_bt (P : Nat → Bool) {k j : Nat} (hk : k ≤ 32) (hj : j < 32) : bt (fk_om P k) j = (decide (j < k) && P (j + 1)) := by
  induction k with
  | zero =>
    rw [show fk_om P 0 = 0 from rfl, b_0, decide_eq_false (by omega)]; rfl
  | succ k ih =>
    have E : fk_om P (k + 1) = if P (k + 1) = true then fk_om P k ||| ((1 : Int32) <<< (nI k &&& 31)) else fk_om P k := rfl
    rw [E]
    cases hp : P (k + 1) with
    | true =>
      rw [if_pos rfl, fk_or _ (by omega) hj, ih (by omega)]
      by_cases c : j = k
      · subst c
        rw [decide_eq_true rfl, Bool.or_true, decide_eq_true (by omega), hp]; rfl
      · rw [decide_eq_false c, Bool.or_false]
        by_cases c2 : j < k
        · rw [decide_eq_true c2, decide_eq_true (show j < k + 1 by omega)]
        · rw [decide_eq_false c2, decide_eq_false (show ¬ j < k + 1 by omega)]
    | false =>
      rw [if_neg (by decide), ih (by omega)]
      by_cases c : j = k
      · subst c
        rw [hp, Bool.and_false, Bool.and_false]
      · by_cases c2 : j < k
        · rw [decide_eq_true c2, decide_eq_true (show j < k + 1 by omega)]
        · rw [decide_eq_false c2, decide_eq_false (show ¬ j < k + 1 by omega)]
section FM
variable {n b : Nat} {f : Int32} {g sv ct lv : Nat → Int32} {post : Int32 → Prop}
theorem fx_nM (H : fk_ok n b) (h : post (fk_om (fk_iu g) n)) : wpX_nodeMask post (nI n, nI b, nI (2 + 8 * n + 4 * b), f, g, sv, ct, lv) := by
  have ⟨a3, a12, a2, a24⟩ := H
  unfold wpX_nodeMask
  dsimp only
  refine pk_loop (fun k i (m : Int32) => wX_nodeMask_4 post (nI n) (nI b) (nI (2 + 8 * n + 4 * b)) f g sv ct lv k m (nI i)) (fun i m => 1 ≤ i ∧ m = fk_om (fk_iu g) (i - 1)) (n + 1) 1 0 (by omega) ⟨by omega, rfl⟩ (fun k m hm => ?_) (fun k i m hin hm hw => ?_)
  · refine pk_lt n (n + 1) (fun _ => ?_) (fun c => absurd c (by omega))
    rw [hm.2]
    exact h
  · refine pk_lt n i (fun c => absurd c (by omega)) (fun _ => ?_)
    obtain ⟨i, rfl⟩ : ∃ j, i = j + 1 := ⟨i - 1, by omega⟩
    refine fx_inUse H (i + 1) (by omega) (by omega) rfl ?_
    have E : fk_om (fk_iu g) (i + 1) = if fk_iu g (i + 1) = true then fk_om (fk_iu g) i ||| ((1 : Int32) <<< (nI i &&& 31)) else fk_om (fk_iu g) i := rfl
    have hm2 : m = fk_om (fk_iu g) i := hm.2
    refine fk_br0 (fun e => ?_) (fun e => ?_)
    · refine nm_r (nI_1 _) (hw _ ⟨by omega, ?_⟩)
      show m = fk_om (fk_iu g) (i + 1)
      rw [E, e, if_neg (by decide)]; exact hm2
    · rw [nI_pred]
      refine nm_e (nm_r (nI_1 _) (hw _ ⟨by omega, ?_⟩))
      show _ = fk_om (fk_iu g) (i + 1)
      rw [E, e, if_pos rfl, hm2]
theorem fy_nM (H : fk_ok n b) (h : post (fk_om (fk_iu g) n)) : wpY_rightInodeMap post (nI n, nI b, nI (2 + 8 * n + 4 * b), f, g, sv, ct) := by
  have ⟨a3, a12, a2, a24⟩ := H
  unfold wpY_rightInodeMap
  dsimp only
  refine pk_loop (fun k i (m : Int32) => wY_rightInodeMap_4 post (nI n) (nI b) (nI (2 + 8 * n + 4 * b)) f g sv ct k m (nI i)) (fun i m => 1 ≤ i ∧ m = fk_om (fk_iu g) (i - 1)) (n + 1) 1 0 (by omega) ⟨by omega, rfl⟩ (fun k m hm => ?_) (fun k i m hin hm hw => ?_)
  · refine pk_lt n (n + 1) (fun _ => ?_) (fun c => absurd c (by omega))
    rw [hm.2]
    exact h
  · refine pk_lt n i (fun c => absurd c (by omega)) (fun _ => ?_)
    obtain ⟨i, rfl⟩ : ∃ j, i = j + 1 := ⟨i - 1, by omega⟩
    refine fy_inUse H (i + 1) (by omega) (by omega) rfl ?_
    have E : fk_om (fk_iu g) (i + 1) = if fk_iu g (i + 1) = true then fk_om (fk_iu g) i ||| ((1 : Int32) <<< (nI i &&& 31)) else fk_om (fk_iu g) i := rfl
    have hm2 : m = fk_om (fk_iu g) i := hm.2
    refine fk_br0 (fun e => ?_) (fun e => ?_)
    · refine nm_r (nI_1 _) (hw _ ⟨by omega, ?_⟩)
      show m = fk_om (fk_iu g) (i + 1)
      rw [E, e, if_neg (by decide)]; exact hm2
    · rw [nI_pred]
      refine nm_e (nm_r (nI_1 _) (hw _ ⟨by omega, ?_⟩))
      show _ = fk_om (fk_iu g) (i + 1)
      rw [E, e, if_pos rfl, hm2]
theorem fy_bM (H : fk_ok n b) (h : post (fk_om (fk_us g n b) b)) : wpY_rightBlockMap post (nI n, nI b, nI (2 + 8 * n + 4 * b), f, g, sv, ct) := by
  have ⟨a3, a12, a2, a24⟩ := H
  unfold wpY_rightBlockMap
  dsimp only
  refine pk_loop (fun k i (m : Int32) => wY_rightBlockMap_4 post (nI n) (nI b) (nI (2 + 8 * n + 4 * b)) f g sv ct k m (nI i)) (fun i m => 1 ≤ i ∧ m = fk_om (fk_us g n b) (i - 1)) (b + 1) 1 0 (by omega) ⟨by omega, rfl⟩ (fun k m hm => ?_) (fun k i m hin hm hw => ?_)
  · refine pk_lt b (b + 1) (fun _ => ?_) (fun c => absurd c (by omega))
    rw [hm.2]
    exact h
  · refine pk_lt b i (fun c => absurd c (by omega)) (fun _ => ?_)
    obtain ⟨i, rfl⟩ : ∃ j, i = j + 1 := ⟨i - 1, by omega⟩
    refine fy_cm H (i + 1) (by omega) (by omega) rfl ?_
    have hl := fk_cm_le (g := g) (n := n) (b := b) (x := i + 1)
    have E : fk_om (fk_us g n b) (i + 1) = if fk_us g n b (i + 1) = true then fk_om (fk_us g n b) i ||| ((1 : Int32) <<< (nI i &&& 31)) else fk_om (fk_us g n b) i := rfl
    have hm2 : m = fk_om (fk_us g n b) i := hm.2
    refine pk_eq (fk_cm g n b (i + 1)) 0 (fun e => ?_) (fun e => ?_)
    · refine nm_r (nI_1 _) (hw _ ⟨by omega, ?_⟩)
      show m = fk_om (fk_us g n b) (i + 1)
      rw [E, (fk_cm_us g n b (i + 1)).mp e, if_neg (by decide)]; exact hm2
    · rw [nI_pred]
      refine nm_e (nm_r (nI_1 _) (hw _ ⟨by omega, ?_⟩))
      show _ = fk_om (fk_us g n b) (i + 1)
      have hu : fk_us g n b (i + 1) = true := by
        cases hu : fk_us g n b (i + 1) with
        | true => rfl
        | false => exact absurd ((fk_cm_us g n b (i + 1)).mpr hu) e
      rw [E, hu, if_pos rfl, hm2]
theorem fk_us_hi {x : Nat} (H : fk_ok n b) (h : b < x) : fk_us g n b x = false := by
  unfold fk_us
  rw [fk_an_f]
  intro q _ _
  have := fk_cl_le (g := g) q H
  exact decide_eq_false (by omega)
/-- the mask m holds the claims before q -/
def fk_mk (g : Nat → Int32) (b q : Nat) (m : Int32) : Prop := ∀ j, j < 32 → bt m j = fk_an (fun e => decide (fk_cl g b e = j + 1)) 0 q
theorem fk_mk_0 : fk_mk g b 0 0 := fun j _ => b_0 j
theorem fk_mk_n {q : Nat} {m : Int32} (h : fk_mk g b q m) (e : fk_cl g b q = 0) : fk_mk g b (q + 1) m := by
  intro j hj
  rw [h j hj]
  show _ = (fk_an _ 0 q || decide (fk_cl g b (0 + q) = j + 1))
  rw [Nat.zero_add, decide_eq_false (by omega), Bool.or_false]
theorem fk_mk_y {q : Nat} {m : Int32} (H : fk_ok n b) (h : fk_mk g b q m) (e : ¬ fk_cl g b q = 0) : fk_mk g b (q + 1) (m ||| ((1 : Int32) <<< (nI (fk_cl g b q - 1) &&& 31))) := by
  have ⟨a3, a12, a2, a24⟩ := H
  have hc := fk_cl_le (g := g) q H
  intro j hj
  rw [fk_or _ (by omega) hj, h j hj]
  show _ = (fk_an _ 0 q || decide (fk_cl g b (0 + q) = j + 1))
  rw [Nat.zero_add]
  by_cases c : j = fk_cl g b q - 1
  · rw [decide_eq_true c, decide_eq_true (show fk_cl g b q = j + 1 by omega)]
  · rw [decide_eq_false c, decide_eq_false (show ¬ fk_cl g b q = j + 1 by omega)]
theorem fk_mk_all {m : Int32} (H : fk_ok n b) (h : fk_mk g b (4 * n) m) : m = fk_om (fk_us g n b) b := by
  have ⟨a3, a12, a2, a24⟩ := H
  apply b_ext
  intro j hj
  rw [h j hj, fk_om_bt _ (by omega) hj]
  show fk_us g n b (j + 1) = _
  by_cases c : j < b
  · rw [decide_eq_true c, Bool.true_and]
  · rw [decide_eq_false c, Bool.false_and]
    exact fk_us_hi H (by omega)
theorem fx_bM (H : fk_ok n b) (h : post (fk_om (fk_us g n b) b)) : wpX_blockMask post (nI n, nI b, nI (2 + 8 * n + 4 * b), f, g, sv, ct, lv) := by
  have ⟨a3, a12, a2, a24⟩ := H
  unfold wpX_blockMask
  dsimp only
  refine fk_nest (fun k i (m : Int32) => wX_blockMask_4 post (nI n) (nI b) (nI (2 + 8 * n + 4 * b)) f g sv ct lv k m (nI i)) (fun k i l j m => wX_blockMask_14 post (wX_blockMask_4 post (nI n) (nI b) (nI (2 + 8 * n + 4 * b)) f g sv ct lv k) (nI i) (nI n) (nI b) (nI (2 + 8 * n + 4 * b)) f g sv ct lv l m (nI j)) (fun q m => fk_mk g b q m) n (fun k m hm => ?_) (fun k i m h1 h2 hw => ?_) (fun k i l m h1 h2 hw => ?_) (fun k i l j m h1 h2 hj hm hw => ?_) 0 fk_mk_0
  · refine pk_lt n (n + 1) (fun _ => ?_) (fun c => absurd c (by omega))
    rw [fk_mk_all H hm]
    exact h
  · exact pk_lt n i (fun c => absurd c (by omega)) (fun _ => hw)
  · exact br_t (nI_le (a := 4) (b := 4) (by omega) (by omega)) (nm_r (nI_1 i) hw)
  · refine br_f (nI_ge (b := 4) hj (by omega)) ?_
    refine fx_cl H i j h1 h2 hj rfl rfl ?_
    have hc := fk_cl_le (g := g) (4 * (i - 1) + j) H
    refine pk_eq (fk_cl g b (4 * (i - 1) + j)) 0 (fun e => ?_) (fun e => ?_)
    · exact nm_r (nI_1 j) (hw m (fk_mk_n hm e))
    · rw [fk_s1 (by omega)]
      exact nm_e (nm_r (nI_1 j) (hw _ (fk_mk_y H hm e)))
theorem fx_lf {m : Int32} (U : Nat → Bool) (H : fk_ok n b) (hm : ∀ x, 1 ≤ x → x ≤ b → bt m (x - 1) = U x) (h : post (nI (fk_z (b + 1) (fk_fs (fun x => !(U x)) 1 b)))) : wpX_lowestFree post (nI n, nI b, nI (2 + 8 * n + 4 * b), f, g, sv, ct, lv) m := by
  have ⟨a3, a12, a2, a24⟩ := H
  unfold wpX_lowestFree
  dsimp only
  refine fk_scan (fun k x => wX_lowestFree_2 post m (nI n) (nI b) (nI (2 + 8 * n + 4 * b)) f g sv ct lv k x) (fun x => !(U x)) 1 b ?_ ?_
  · intro e _ k
    refine pk_lt b (1 + b) (fun _ => ?_) (fun c => absurd c (by omega))
    have E : fk_z (b + 1) (fk_fs (fun x => !(U x)) 1 b) = 0 := if_neg (by omega)
    rw [E] at h
    exact h
  · intro k x h1 h2 _ ht hf
    refine pk_lt b x (fun c => absurd c (by omega)) (fun _ => ?_)
    rw [fk_s1 h1, fk_shr m (by omega), hm x h1 (by omega)]
    refine fk_br0 (fun e => ?_) (fun e => ?_)
    · have e1 := ht (by rw [e]; rfl)
      have E : fk_z (b + 1) (fk_fs (fun x => !(U x)) 1 b) = x := by
        rw [e1]
        exact if_pos (by omega)
      rw [E] at h
      exact h
    · exact nm_r (nI_1 x) (hf (by rw [e]; rfl))
theorem fk_om_us {x : Nat} (H : fk_ok n b) (h1 : 1 ≤ x) (h2 : x ≤ b) : bt (fk_om (fk_us g n b) b) (x - 1) = fk_us g n b x := by
  have ⟨a3, a12, a2, a24⟩ := H
  rw [fk_om_bt _ (by omega) (by omega), decide_eq_true (by omega), Bool.true_and, Nat.sub_add_cancel h1]
/-! duplicates -/
def fk_du (g : Nat → Int32) (n b : Nat) : Bool := fk_an (fun x => decide (2 ≤ fk_cm g n b x)) 1 b
theorem fx_du (H : fk_ok n b) (h : post (fk_bI (fk_du g n b))) : wpX_duplicatesBroken post (nI n, nI b, nI (2 + 8 * n + 4 * b), f, g, sv, ct, lv) := by
  have ⟨a3, a12, a2, a24⟩ := H
  unfold wpX_duplicatesBroken
  dsimp only
  refine fk_nest (fun k i (m : Int32) => wX_duplicatesBroken_4 post (nI n) (nI b) (nI (2 + 8 * n + 4 * b)) f g sv ct lv k m (nI i)) (fun k i l j m => wX_duplicatesBroken_14 post (wX_duplicatesBroken_4 post (nI n) (nI b) (nI (2 + 8 * n + 4 * b)) f g sv ct lv k) (nI i) (nI n) (nI b) (nI (2 + 8 * n + 4 * b)) f g sv ct lv l m (nI j)) (fun q m => fk_mk g b q m ∧ ∀ d e, d < e → e < q → fk_cl g b d = fk_cl g b e → fk_cl g b e = 0) n (fun k m hm => ?_) (fun k i m h1 h2 hw => ?_) (fun k i l m h1 h2 hw => ?_) (fun k i l j m h1 h2 hj hm hw => ?_) 0 ⟨fk_mk_0, fun d e _ h2 => absurd h2 (by omega)⟩
  · refine pk_lt n (n + 1) (fun _ => ?_) (fun c => absurd c (by omega))
    have E : fk_du g n b = false := by
      unfold fk_du
      rw [fk_an_f]
      intro x x1 x2
      refine decide_eq_false ?_
      intro c
      obtain ⟨q, r, c1, c2, c3, c4, c5⟩ := fk_ct_2.mp c
      have c4 := of_decide_eq_true c4
      have c5 := of_decide_eq_true c5
      have := hm.2 q r c2 (by omega) (by omega)
      omega
    rw [E] at h
    exact h
  · exact pk_lt n i (fun c => absurd c (by omega)) (fun _ => hw)
  · exact br_t (nI_le (a := 4) (b := 4) (by omega) (by omega)) (nm_r (nI_1 i) hw)
  · refine br_f (nI_ge (b := 4) hj (by omega)) ?_
    refine fx_cl H i j h1 h2 hj rfl rfl ?_
    have hc := fk_cl_le (g := g) (4 * (i - 1) + j) H
    refine pk_eq (fk_cl g b (4 * (i - 1) + j)) 0 (fun e => ?_) (fun e => ?_)
    · refine nm_r (nI_1 j) (hw m ⟨fk_mk_n hm.1 e, fun d r d1 d2 d3 => ?_⟩)
      by_cases c : r = 4 * (i - 1) + j
      · rw [c]; exact e
      · exact hm.2 d r d1 (by omega) d3
    · rw [fk_s1 (by omega)]
      refine nm_e ?_
      have hb := hm.1 (fk_cl g b (4 * (i - 1) + j) - 1) (by omega)
      rw [show fk_cl g b (4 * (i - 1) + j) - 1 + 1 = fk_cl g b (4 * (i - 1) + j) by omega] at hb
      refine br_c (fun c => ?_) (fun c => ?_)
      · rw [fk_and0 m (by omega)] at c
        refine nm_e (nm_r (nI_1 j) (hw _ ⟨fk_mk_y H hm.1 e, fun d r d1 d2 d3 => ?_⟩))
        by_cases c2 : r = 4 * (i - 1) + j
        · subst c2
          rw [c] at hb
          have := fk_an_f.mp hb.symm d (by omega) (by omega)
          exact absurd d3 (of_decide_eq_false this)
        · exact hm.2 d r d1 (by omega) d3
      · rw [fk_and0 m (by omega)] at c
        have E : fk_du g n b = true := by
          unfold fk_du
          rw [fk_an_t]
          refine ⟨fk_cl g b (4 * (i - 1) + j), by omega, by omega, decide_eq_true ?_⟩
          have hb2 : fk_an (fun e => decide (fk_cl g b e = fk_cl g b (4 * (i - 1) + j))) 0 (4 * (i - 1) + j) = true := by
            cases hz : bt m (fk_cl g b (4 * (i - 1) + j) - 1) with
            | false => exact absurd hz c
            | true => rw [hz] at hb; exact hb.symm
          obtain ⟨d, d1, d2, d3⟩ := fk_an_t.mp hb2
          exact fk_ct_2.mpr ⟨d, 4 * (i - 1) + j, d1, by omega, by omega, d3, decide_eq_true rfl⟩
        rw [E] at h
        exact h
/-! owner, claims -/
def fk_ow (g : Nat → Int32) (n b x : Nat) : Nat := if fk_fs (fun q => decide (fk_cl g b q = x)) 0 (4 * n) < 4 * n then fk_fs (fun q => decide (fk_cl g b q = x)) 0 (4 * n) / 4 + 1 else 0
theorem fx_ow {P : Int32} (H : fk_ok n b) (x : Nat) (hx : 1 ≤ x) (hb : x ≤ b) (hP : P = nI x) (h : post (nI (fk_ow g n b x))) : ∃ k, wX_owner_12 post P (nI n) (nI b) (nI (2 + 8 * n + 4 * b)) f g sv ct lv k 1 := by
  have ⟨a3, a12, a2, a24⟩ := H
  subst hP
  refine fk_nest (fun k i (_ : Unit) => wX_owner_12 post (nI x) (nI n) (nI b) (nI (2 + 8 * n + 4 * b)) f g sv ct lv k (nI i)) (fun k i l j _ => wX_owner_22 post (wX_owner_12 post (nI x) (nI n) (nI b) (nI (2 + 8 * n + 4 * b)) f g sv ct lv k) (nI x) (nI i) (nI n) (nI b) (nI (2 + 8 * n + 4 * b)) f g sv ct lv l (nI j)) (fun q _ => ∀ e, e < q → fk_cl g b e ≠ x) n (fun k m hm => ?_) (fun k i m h1 h2 hw => ?_) (fun k i l m h1 h2 hw => ?_) (fun k i l j m h1 h2 hj hm hw => ?_) () (fun e he => absurd he (by omega))
  · refine pk_lt n (n + 1) (fun _ => ?_) (fun c => absurd c (by omega))
    have E : fk_ow g n b x = 0 := by
      unfold fk_ow
      rw [if_neg]
      rw [fk_fs_no (fun q _ h2 => decide_eq_false (hm q (by omega)))]
      omega
    rw [E] at h
    exact h
  · exact pk_lt n i (fun c => absurd c (by omega)) (fun _ => hw)
  · exact br_t (nI_le (a := 4) (b := 4) (by omega) (by omega)) (nm_r (nI_1 i) hw)
  · refine br_f (nI_ge (b := 4) hj (by omega)) ?_
    refine fx_cl H i j h1 h2 hj rfl rfl ?_
    have hc := fk_cl_le (g := g) (4 * (i - 1) + j) H
    refine pk_eq (fk_cl g b (4 * (i - 1) + j)) x (fun e => ?_) (fun e => ?_)
    · have E : fk_ow g n b x = i := by
        unfold fk_ow
        rw [fk_fs_eq (q := 4 * (i - 1) + j) (by omega) (by omega) (decide_eq_true e) (fun q _ h4 => decide_eq_false (hm q h4)), if_pos (by omega)]
        omega
      rw [E] at h
      exact h
    · refine nm_r (nI_1 j) (hw () (fun q hq => ?_))
      by_cases c : q = 4 * (i - 1) + j
      · rw [c]; exact e
      · exact hm q (by omega)
theorem fx_cm {P : Int32} (H : fk_ok n b) (x : Nat) (hx : 1 ≤ x) (hb : x ≤ b) (hP : P = nI x) (h : post (nI (fk_cm g n b x))) : ∃ k, wX_claims_14 post P (nI n) (nI b) (nI (2 + 8 * n + 4 * b)) f g sv ct lv k 0 1 := by
  have ⟨a3, a12, a2, a24⟩ := H
  subst hP
  refine fk_nest (fun k i (c : Int32) => wX_claims_14 post (nI x) (nI n) (nI b) (nI (2 + 8 * n + 4 * b)) f g sv ct lv k c (nI i)) (fun k i l j c => wX_claims_25 post (wX_claims_14 post (nI x) (nI n) (nI b) (nI (2 + 8 * n + 4 * b)) f g sv ct lv k) (nI x) (nI i) (nI n) (nI b) (nI (2 + 8 * n + 4 * b)) f g sv ct lv l c (nI j)) (fun q c => c = nI (fk_ct (fun e => decide (fk_cl g b e = x)) 0 q)) n (fun k m hm => ?_) (fun k i m h1 h2 hw => ?_) (fun k i l m h1 h2 hw => ?_) (fun k i l j m h1 h2 hj hm hw => ?_) 0 rfl
  · refine pk_lt n (n + 1) (fun _ => ?_) (fun c => absurd c (by omega))
    rw [hm]
    exact h
  · exact pk_lt n i (fun c => absurd c (by omega)) (fun _ => hw)
  · exact br_t (nI_le (a := 4) (b := 4) (by omega) (by omega)) (nm_r (nI_1 i) hw)
  · refine br_f (nI_ge (b := 4) hj (by omega)) ?_
    refine fx_cl H i j h1 h2 hj rfl rfl ?_
    have hc := fk_cl_le (g := g) (4 * (i - 1) + j) H
    have E : fk_ct (fun e => decide (fk_cl g b e = x)) 0 (4 * (i - 1) + j + 1) = fk_ct (fun e => decide (fk_cl g b e = x)) 0 (4 * (i - 1) + j) + (if decide (fk_cl g b (0 + (4 * (i - 1) + j)) = x) = true then 1 else 0) := rfl
    rw [Nat.zero_add] at E
    refine pk_eq (fk_cl g b (4 * (i - 1) + j)) x (fun e => ?_) (fun e => ?_)
    · refine nm_e (nm_r (nI_1 j) (hw _ ?_))
      rw [E, decide_eq_true e, if_pos rfl, hm, nI_1]
    · refine nm_r (nI_1 j) (hw _ ?_)
      rw [E, decide_eq_false e, hm]; rfl
theorem fy_ow {P : Int32} (H : fk_ok n b) (x : Nat) (hx : 1 ≤ x) (hb : x ≤ b) (hP : P = nI x) (h : post (nI (fk_ow g n b x))) : ∃ k, wY_owner_17 post P (nI n) (nI b) (nI (2 + 8 * n + 4 * b)) f g sv ct k 0 := by
  have ⟨a3, a12, a2, a24⟩ := H
  subst hP
  refine fk_scan (fun k y => wY_owner_17 post (nI x) (nI n) (nI b) (nI (2 + 8 * n + 4 * b)) f g sv ct k y) (fun q => decide (fk_cl g b q = x)) 0 (4 * n) ?_ ?_
  · intro e _ k
    refine pk_le (4 * n) (0 + 4 * n) (fun _ => ?_) (fun c => absurd c (by omega)) (fk_4m n)
    have E : fk_ow g n b x = 0 := if_neg (by omega)
    rw [E] at h
    exact h
  · intro k p _ hp _ ht hf
    refine pk_le (4 * n) p (fun c => absurd c (by omega)) (fun _ => ?_) (fk_4m n)
    refine fy_cl H p (by omega) rfl ?_
    have hc := fk_cl_le (g := g) p H
    refine pk_eq (fk_cl g b p) x (fun e => ?_) (fun e => ?_)
    · refine ⟨fk_4, ?_⟩
      have E : fk_ow g n b x = p / 4 + 1 := by
        unfold fk_ow
        rw [ht (decide_eq_true e), if_pos (by omega)]
      rw [E] at h
      rw [fk_d41 (by omega)]
      exact h
    · exact nm_r (nI_1 p) (hf (decide_eq_false e))
end FM
end
section
/-! need, sizes, broken inodes -/
def fk_nd (g : Nat → Int32) (b i : Nat) : Nat → Nat
  | 0 => 0
  | s + 1 => if fk_bk b (g (fk_ad i (4 + s))) = true then 4 * s + 1 else fk_nd g b i s
theorem fk_nd_le {g : Nat → Int32} {b i s : Nat} : fk_nd g b i s ≤ 4 * s := by
  induction s with
  | zero => exact Nat.le_refl _
  | succ s ih =>
    show (if fk_bk b (g (fk_ad i (4 + s))) = true then 4 * s + 1 else fk_nd g b i s) ≤ _
    split <;> omega
theorem fk_nd_congr {g g' : Nat → Int32} {b i s : Nat} (hs : s ≤ 4) (h : ∀ k, 4 ≤ k → k < 8 → g' (fk_ad i k) = g (fk_ad i k)) : fk_nd g' b i s = fk_nd g b i s := by
  induction s with
  | zero => rfl
  | succ s ih =>
    show (if fk_bk b (g' (fk_ad i (4 + s))) = true then 4 * s + 1 else fk_nd g' b i s) = (if fk_bk b (g (fk_ad i (4 + s))) = true then 4 * s + 1 else fk_nd g b i s)
    rw [h (4 + s) (by omega) (by omega), ih (by omega)]
def fk_bf (g : Nat → Int32) (b i : Nat) : Bool := decide (16 < g (fk_ad i 3)) || !(decide (nI (fk_nd g b i 4) ≤ g (fk_ad i 3)))
def fk_ib (b : Nat) (x : Int32) : Bool := !(decide (x < 0)) && decide (x ≤ nI b)
section FN
variable {n b : Nat} {f : Int32} {g sv ct lv : Nat → Int32} {post : Int32 → Prop}
theorem fx_nd_l (H : fk_ok n b) (i : Nat) (hi : 1 ≤ i) (hn : i ≤ n) : ∀ s, s ≤ 4 → post (nI (fk_nd g b i s)) → wX_need_2 post (nI i) (nI n) (nI b) (nI (2 + 8 * n + 4 * b)) f g sv ct lv (s + 1) (nI s + (-1)) := by
  intro s
  induction s with
  | zero =>
    intro _ h
    exact br_t (by decide) h
  | succ s ih =>
    intro hs h
    rw [pk_m1]
    refine br_f (nI_pos (by omega)) ?_
    refine fx_field H i (4 + s) hi hn (by omega) rfl (fk_4a s) ?_
    refine fx_isBlock ?_
    have E : fk_nd g b i (s + 1) = if fk_bk b (g (fk_ad i (4 + s))) = true then 4 * s + 1 else fk_nd g b i s := rfl
    rw [E] at h
    refine fk_br0 (fun e => ?_) (fun e => ?_)
    · rw [e, if_neg (by decide)] at h
      exact nm_e (ih (by omega) h)
    · rw [e, if_pos rfl] at h
      have e2 : 4 * nI s + 1 = nI (4 * s + 1) := by rw [fk_4m, nI_1]
      rw [e2]
      exact h
theorem fx_nd {P : Int32} (H : fk_ok n b) (i : Nat) (hi : 1 ≤ i) (hn : i ≤ n) (hP : P = nI i) (h : post (nI (fk_nd g b i 4))) : wpX_need post (nI n, nI b, nI (2 + 8 * n + 4 * b), f, g, sv, ct, lv) P := by
  subst hP
  unfold wpX_need
  dsimp only
  exact ⟨5, fx_nd_l H i hi hn 4 (by omega) h⟩
theorem fy_nd {P : Int32} (H : fk_ok n b) (i : Nat) (hi : 1 ≤ i) (hn : i ≤ n) (hu : fk_iu g i = true) (hP : P = nI i) (h : post (nI (fk_nd g b i 4))) : wpY_need post (nI n, nI b, nI (2 + 8 * n + 4 * b), f, g, sv, ct) P := by
  have ⟨a3, a12, a2, a24⟩ := H
  subst hP
  unfold wpY_need
  dsimp only
  refine pk_loop (fun k s (c : Int32) => wY_need_4 post (nI i) (nI n) (nI b) (nI (2 + 8 * n + 4 * b)) f g sv ct k c (nI s)) (fun s c => c = nI (fk_nd g b i s)) 4 0 0 (by omega) rfl (fun k c hc => ?_) (fun k s c hs hc hw => ?_)
  · refine br_t (nI_le (a := 4) (b := 4) (by omega) (by omega)) ?_
    rw [hc]
    exact h
  · refine br_f (nI_ge (b := 4) hs (by omega)) ?_
    have e1 : (4 * (i - 1) + s) / 4 + 1 = i := by omega
    have e2 : (4 * (i - 1) + s) % 4 = s := by omega
    refine fy_cl H (4 * (i - 1) + s) (by omega) (by rw [fk_s1 hi, fk_4m, nI_add]) ?_
    have E : fk_nd g b i (s + 1) = if fk_bk b (g (fk_ad i (4 + s))) = true then 4 * s + 1 else fk_nd g b i s := rfl
    have hl := fk_cl_le (g := g) (4 * (i - 1) + s) H
    refine pk_eq (fk_cl g b (4 * (i - 1) + s)) 0 (fun e => ?_) (fun e => ?_)
    · refine nm_r (nI_1 s) (hw _ ?_)
      have e3 : fk_bk b (g (fk_ad i (4 + s))) = false := by
        cases e3 : fk_bk b (g (fk_ad i (4 + s))) with
        | false => rfl
        | true =>
          obtain ⟨j, j1, j2, ej⟩ := fk_bk_ex (by omega) e3
          have := fk_cl_y (g := g) (q := 4 * (i - 1) + s) (j := j) H (by rw [e1]; exact hu) (by rw [e1, e2]; exact ej) j1 j2
          omega
      rw [E, e3, if_neg (by decide)]
      exact hc
    · have e4 : 4 * nI s + 1 = nI (4 * s + 1) := by rw [fk_4m, nI_1]
      refine nm_r e4 (nm_r (nI_1 s) (hw _ ?_))
      have e3 : fk_bk b (g (fk_ad i (4 + s))) = true := by
        cases e3 : fk_bk b (g (fk_ad i (4 + s))) with
        | true => rfl
        | false => exact absurd (fk_cl_nb (g := g) (q := 4 * (i - 1) + s) (by rw [e1, e2]; exact e3)) e
      rw [E, e3, if_pos rfl]
theorem fx_bf {P : Int32} (H : fk_ok n b) (i : Nat) (hi : 1 ≤ i) (hn : i ≤ n) (hP : P = nI i) (h : post (fk_bI (fk_bf g b i))) : wpX_badFileSize post (nI n, nI b, nI (2 + 8 * n + 4 * b), f, g, sv, ct, lv) P := by
  unfold wpX_badFileSize
  dsimp only
  refine fx_field H i 3 hi hn (by omega) hP rfl ?_
  unfold fk_bf at h
  refine br_c (fun e => ?_) (fun e => ?_)
  · rw [decide_eq_true e, Bool.true_or] at h
    exact h
  · rw [decide_eq_false e, Bool.false_or] at h
    refine fx_nd H i hi hn hP ?_
    exact fk_decn h
/-- clause 1 of check for inode i -/
def fk_nB (g : Nat → Int32) (b i : Nat) : Bool :=
  if i ≤ 2 ∧ ¬ g (fk_ad i 0) = 2 then true else
  if g (fk_ad i 0) = 0 then fk_an (fun k => !(decide (g (fk_ad i k) = 0))) 1 7 else
  if ¬ g (fk_ad i 0) = 1 ∧ ¬ g (fk_ad i 0) = 2 then true else
  if fk_an (fun s => !(fk_ib b (g (fk_ad i (4 + s))))) 0 4 = true then true else
  if g (fk_ad i 0) = 2 then !(decide (g (fk_ad i 3) = 0)) else (!(decide (g (fk_ad i 2) = 0)) || fk_bf g b i)
theorem fx_afs {P : Int32} (H : fk_ok n b) (i : Nat) (hi : 1 ≤ i) (hn : i ≤ n) (hP : P = nI i) (h : post (fk_bI (fk_an (fun k => !(decide (g (fk_ad i k) = 0))) 1 7))) : wpX_anyFieldSet post (nI n, nI b, nI (2 + 8 * n + 4 * b), f, g, sv, ct, lv) P := by
  subst hP
  unfold wpX_anyFieldSet
  dsimp only
  refine fk_scan (fun k x => wX_anyFieldSet_2 post (nI i) (nI n) (nI b) (nI (2 + 8 * n + 4 * b)) f g sv ct lv k x) (fun k => !(decide (g (fk_ad i k) = 0))) 1 7 ?_ ?_
  · intro _ hq k
    rw [fk_an_f.mpr hq] at h
    exact br_t (nI_le (a := 8) (b := 8) (by omega) (by omega)) h
  · intro k p h1 h2 _ _ hf
    refine br_f (nI_ge (b := 8) (by omega) (by omega)) ?_
    refine fx_field H i p hi hn (by omega) rfl rfl ?_
    refine br_c (fun e => ?_) (fun e => ?_)
    · exact nm_r (nI_1 p) (hf (by rw [decide_eq_true e]; rfl))
    · rw [fk_an_t.mpr ⟨p, h1, h2, by rw [decide_eq_false e]; rfl⟩] at h
      exact h
theorem fx_nB43 (H : fk_ok n b) (i : Nat) (hi : 1 ≤ i) (hn : i ≤ n) (hm : g (fk_ad i 0) = 1 ∨ g (fk_ad i 0) = 2)
    (h : post (fk_bI (if fk_an (fun s => !(fk_ib b (g (fk_ad i (4 + s))))) 0 4 = true then true else if g (fk_ad i 0) = 2 then !(decide (g (fk_ad i 3) = 0)) else (!(decide (g (fk_ad i 2) = 0)) || fk_bf g b i)))) :
    ∃ k, wX_nodeBroken_43 post (nI i) (g (fk_ad i 0)) (nI n) (nI b) (nI (2 + 8 * n + 4 * b)) f g sv ct lv k 0 := by
  refine fk_scan (fun k x => wX_nodeBroken_43 post (nI i) (g (fk_ad i 0)) (nI n) (nI b) (nI (2 + 8 * n + 4 * b)) f g sv ct lv k x) (fun s => !(fk_ib b (g (fk_ad i (4 + s))))) 0 4 ?_ ?_
  · intro _ hq k
    rw [fk_an_f.mpr hq, if_neg (by decide)] at h
    refine br_t (nI_le (a := 4) (b := 4) (by omega) (by omega)) ?_
    refine br_c (fun e => ?_) (fun e => ?_)
    · rw [if_pos e] at h
      refine fx_field H i 3 hi hn (by omega) rfl rfl ?_
      exact fk_decn h
    · rw [if_neg e] at h
      refine fx_field H i 2 hi hn (by omega) rfl rfl ?_
      refine br_c (fun e2 => ?_) (fun e2 => ?_)
      · rw [decide_eq_true e2, Bool.not_true, Bool.false_or] at h
        refine fx_bf H i hi hn rfl ?_
        refine fk_br0 (fun e3 => ?_) (fun e3 => ?_)
        · rw [e3] at h; exact h
        · rw [e3] at h; exact h
      · rw [decide_eq_false e2, Bool.not_false, Bool.true_or] at h
        exact h
  · intro k p h1 h2 _ _ hf
    refine br_f (nI_ge (b := 4) (by omega) (by omega)) ?_
    refine fx_field H i (4 + p) hi hn (by omega) rfl (fk_4a p) ?_
    refine br_c (fun e => ?_) (fun e => br_c (fun e2 => ?_) (fun e2 => ?_))
    · rw [fk_an_t.mpr ⟨p, h1, h2, by unfold fk_ib; rw [decide_eq_true e]; rfl⟩, if_pos rfl] at h
      exact h
    · exact nm_r (nI_1 p) (hf (by unfold fk_ib; rw [decide_eq_false e, decide_eq_true e2]; rfl))
    · rw [fk_an_t.mpr ⟨p, h1, h2, by unfold fk_ib; rw [decide_eq_false e2, Bool.and_false]; rfl⟩, if_pos rfl] at h
      exact h
theorem fx_nB19 (H : fk_ok n b) (i : Nat) (hi : 1 ≤ i) (hn : i ≤ n) (hc : ¬ (i ≤ 2 ∧ ¬ g (fk_ad i 0) = 2)) (h : post (fk_bI (fk_nB g b i))) : wX_nodeBroken_19 post (nI i) (g (fk_ad i 0)) (nI n) (nI b) (nI (2 + 8 * n + 4 * b)) f g sv ct lv := by
  unfold fk_nB at h
  rw [if_neg hc] at h
  unfold wX_nodeBroken_19
  refine br_c (fun e => ?_) (fun e => ?_)
  · rw [if_pos e] at h
    refine fx_afs H i hi hn rfl ?_
    exact ⟨fk_nar _, h⟩
  · rw [if_neg e] at h
    refine br_c (fun e1 => ?_) (fun e1 => br_c (fun e2 => ?_) (fun e2 => ?_))
    · rw [if_neg (fun z => z.1 e1)] at h
      exact fx_nB43 H i hi hn (Or.inl e1) h
    · rw [if_neg (fun z => z.2 e2)] at h
      exact fx_nB43 H i hi hn (Or.inr e2) h
    · rw [if_pos ⟨e1, e2⟩] at h
      exact h
theorem fx_nB {P : Int32} (H : fk_ok n b) (i : Nat) (hi : 1 ≤ i) (hn : i ≤ n) (hP : P = nI i) (h : post (fk_bI (fk_nB g b i))) : wpX_nodeBroken post (nI n, nI b, nI (2 + 8 * n + 4 * b), f, g, sv, ct, lv) P := by
  have ⟨a3, a12, a2, a24⟩ := H
  subst hP
  unfold wpX_nodeBroken
  dsimp only
  refine fx_field H i 0 hi hn (by omega) rfl rfl ?_
  refine pk_lt 2 i (fun c => ?_) (fun c => br_c (fun e => ?_) (fun e => ?_))
  · exact fx_nB19 H i hi hn (fun z => by omega) h
  · exact fx_nB19 H i hi hn (fun z => z.2 e) h
  · unfold fk_nB at h
    rw [if_pos ⟨c, e⟩] at h
    exact h
theorem fk_mode {x : Int32} (h0 : ¬ x < 0) (h2 : x ≤ 2) : x = 0 ∨ x = 1 ∨ x = 2 := by
  obtain ⟨j, hj, rfl⟩ := nI_of2 (M := 2) (n := 2) (by decide) h0 h2
  have : j = 0 ∨ j = 1 ∨ j = 2 := by omega
  rcases this with rfl | rfl | rfl
  · exact Or.inl rfl
  · exact Or.inr (Or.inl rfl)
  · exact Or.inr (Or.inr rfl)
theorem fy_nB32 (H : fk_ok n b) (i : Nat) (hi : 1 ≤ i) (hn : i ≤ n) (hm : g (fk_ad i 0) = 1 ∨ g (fk_ad i 0) = 2)
    (h : post (fk_bI (if fk_an (fun s => !(fk_ib b (g (fk_ad i (4 + s))))) 0 4 = true then true else if g (fk_ad i 0) = 2 then !(decide (g (fk_ad i 3) = 0)) else (!(decide (g (fk_ad i 2) = 0)) || fk_bf g b i)))) :
    ∃ k, wY_badInode_32 post (nI i) (g (fk_ad i 0)) (nI n) (nI b) (nI (2 + 8 * n + 4 * b)) f g sv ct k 1 := by
  have h0 : ¬ g (fk_ad i 0) = 0 := by
    rcases hm with e | e
    · rw [e]; decide
    · rw [e]; decide
  refine fk_scan (fun k x => wY_badInode_32 post (nI i) (g (fk_ad i 0)) (nI n) (nI b) (nI (2 + 8 * n + 4 * b)) f g sv ct k x) (fun p => decide (4 ≤ p) && !(fk_ib b (g (fk_ad i p)))) 1 7 ?_ ?_
  · intro _ hq k
    have ha : fk_an (fun s => !(fk_ib b (g (fk_ad i (4 + s))))) 0 4 = false := by
      rw [fk_an_f]
      intro q _ q2
      have := hq (4 + q) (by omega) (by omega)
      rw [decide_eq_true (by omega), Bool.true_and] at this
      exact this
    rw [ha, if_neg (by decide)] at h
    refine br_t (nI_le (a := 8) (b := 8) (by omega) (by omega)) ?_
    refine fy_field H i 3 hi hn (by omega) rfl rfl ?_
    refine br_c (fun e => ?_) (fun e => ?_)
    · rw [if_pos e] at h
      exact fk_decn h
    · have e1 : g (fk_ad i 0) = 1 := by
        rcases hm with z | z
        · exact z
        · exact absurd z e
      rw [if_neg e] at h
      refine br_t e1 ?_
      refine fy_field H i 2 hi hn (by omega) rfl rfl ?_
      refine br_c (fun e2 => ?_) (fun e2 => ?_)
      · rw [decide_eq_true e2, Bool.not_true, Bool.false_or] at h
        unfold fk_bf at h
        refine br_c (fun e3 => ?_) (fun e3 => ?_)
        · rw [decide_eq_true e3, Bool.true_or] at h
          exact h
        · rw [decide_eq_false e3, Bool.false_or] at h
          refine fy_nd H i hi hn (by unfold fk_iu fk_fl; rw [decide_eq_true e1]; rfl) rfl ?_
          exact fk_decn h
      · rw [decide_eq_false e2, Bool.not_false, Bool.true_or] at h
        exact h
  · intro k p h1 h2 _ _ hf
    refine br_f (nI_ge (b := 8) (by omega) (by omega)) ?_
    refine fy_field H i p hi hn (by omega) rfl rfl ?_
    refine br_f h0 ?_
    unfold wY_badInode_57
    refine br_f h0 ?_
    refine pk_lt p 4 (fun c => ?_) (fun c => ?_)
    · exact nm_r (nI_1 p) (hf (by rw [decide_eq_false (by omega)]; rfl))
    · have bad : fk_ib b (g (fk_ad i p)) = false → post 1 := by
        intro hb
        have ha : fk_an (fun s => !(fk_ib b (g (fk_ad i (4 + s))))) 0 4 = true := by
          rw [fk_an_t]
          refine ⟨p - 4, by omega, by omega, ?_⟩
          rw [show 4 + (p - 4) = p by omega, hb]; rfl
        rw [ha, if_pos rfl] at h
        exact h
      refine br_c (fun e => ?_) (fun e => br_c (fun e2 => ?_) (fun e2 => ?_))
      · exact bad (by unfold fk_ib; rw [decide_eq_true e]; rfl)
      · exact nm_r (nI_1 p) (hf (by unfold fk_ib; rw [decide_eq_false e, decide_eq_true e2, decide_eq_true c]; rfl))
      · exact bad (by unfold fk_ib; rw [decide_eq_false e2, Bool.and_false])
theorem fy_nB0 (H : fk_ok n b) (i : Nat) (hi : 1 ≤ i) (hn : i ≤ n) (hm : g (fk_ad i 0) = 0)
    (h : post (fk_bI (fk_an (fun k => !(decide (g (fk_ad i k) = 0))) 1 7))) :
    ∃ k, wY_badInode_32 post (nI i) (g (fk_ad i 0)) (nI n) (nI b) (nI (2 + 8 * n + 4 * b)) f g sv ct k 1 := by
  refine fk_scan (fun k x => wY_badInode_32 post (nI i) (g (fk_ad i 0)) (nI n) (nI b) (nI (2 + 8 * n + 4 * b)) f g sv ct k x) (fun k => !(decide (g (fk_ad i k) = 0))) 1 7 ?_ ?_
  · intro _ hq k
    rw [fk_an_f.mpr hq] at h
    refine br_t (nI_le (a := 8) (b := 8) (by omega) (by omega)) ?_
    refine fy_field H i 3 hi hn (by omega) rfl rfl ?_
    exact br_f (by rw [hm]; decide) (br_f (by rw [hm]; decide) h)
  · intro k p h1 h2 _ _ hf
    refine br_f (nI_ge (b := 8) (by omega) (by omega)) ?_
    refine fy_field H i p hi hn (by omega) rfl rfl ?_
    refine br_t hm ?_
    refine br_c (fun e => ?_) (fun e => ?_)
    · unfold wY_badInode_57
      exact br_t hm (nm_r (nI_1 p) (hf (by rw [decide_eq_true e]; rfl)))
    · rw [fk_an_t.mpr ⟨p, h1, h2, by rw [decide_eq_false e]; rfl⟩] at h
      exact h
theorem fy_nB19 (H : fk_ok n b) (i : Nat) (hi : 1 ≤ i) (hn : i ≤ n) (hc : ¬ (i ≤ 2 ∧ ¬ g (fk_ad i 0) = 2)) (h : post (fk_bI (fk_nB g b i))) : wY_badInode_19 post (nI i) (g (fk_ad i 0)) (nI n) (nI b) (nI (2 + 8 * n + 4 * b)) f g sv ct := by
  unfold fk_nB at h
  rw [if_neg hc] at h
  unfold wY_badInode_19
  refine br_c (fun e => ?_) (fun e => br_c (fun e2 => ?_) (fun e2 => ?_))
  · have n0 : ¬ g (fk_ad i 0) = 0 := fun z => by rw [z] at e; exact absurd e (by decide)
    have n1 : ¬ g (fk_ad i 0) = 1 := fun z => by rw [z] at e; exact absurd e (by decide)
    have n2 : ¬ g (fk_ad i 0) = 2 := fun z => by rw [z] at e; exact absurd e (by decide)
    rw [if_neg n0, if_pos ⟨n1, n2⟩] at h
    exact h
  · rcases fk_mode e e2 with z | z | z
    · rw [if_pos z] at h
      exact fy_nB0 H i hi hn z h
    · rw [if_neg (by rw [z]; decide), if_neg (fun w => w.1 z)] at h
      exact fy_nB32 H i hi hn (Or.inl z) h
    · rw [if_neg (by rw [z]; decide), if_neg (fun w => w.2 z)] at h
      exact fy_nB32 H i hi hn (Or.inr z) h
  · have n0 : ¬ g (fk_ad i 0) = 0 := fun z => by rw [z] at e2; exact absurd e2 (by decide)
    have n1 : ¬ g (fk_ad i 0) = 1 := fun z => by rw [z] at e2; exact absurd e2 (by decide)
    have n2 : ¬ g (fk_ad i 0) = 2 := fun z => by rw [z] at e2; exact absurd e2 (by decide)
    rw [if_neg n0, if_pos ⟨n1, n2⟩] at h
    exact h
theorem fy_nB {P : Int32} (H : fk_ok n b) (i : Nat) (hi : 1 ≤ i) (hn : i ≤ n) (hP : P = nI i) (h : post (fk_bI (fk_nB g b i))) : wpY_badInode post (nI n, nI b, nI (2 + 8 * n + 4 * b), f, g, sv, ct) P := by
  have ⟨a3, a12, a2, a24⟩ := H
  subst hP
  unfold wpY_badInode
  dsimp only
  refine fy_field H i 0 hi hn (by omega) rfl rfl ?_
  refine pk_lt 2 i (fun c => ?_) (fun c => br_c (fun e => ?_) (fun e => ?_))
  · exact fy_nB19 H i hi hn (fun z => by omega) h
  · exact fy_nB19 H i hi hn (fun z => z.2 e) h
  · unfold fk_nB at h
    rw [if_pos ⟨c, e⟩] at h
    exact h
end FN
end
section
/-! distances -/
def fk_R (g : Nat → Int32) (n b : Nat) : Nat → Nat → Prop
  | 0, i => i ≤ 2 ∧ fk_dr g i = true
  | k + 1, i => ∃ p, p < 16 * n ∧ fk_tg g n b p = i ∧ fk_R g n b k (p / 16 + 1)
def fk_Lev (g : Nat → Int32) (n b k i : Nat) (x : Int32) : Prop :=
  (∃ j, j ≤ k ∧ fk_R g n b j i ∧ (∀ l, l < j → ¬ fk_R g n b l i) ∧ x = nI j) ∨ ((∀ l, l ≤ k → ¬ fk_R g n b l i) ∧ x = -1)
theorem fk_Lev_u {g : Nat → Int32} {n b k i : Nat} {x y : Int32} (hx : fk_Lev g n b k i x) (hy : fk_Lev g n b k i y) : x = y := by
  rcases hx with ⟨j, j1, j2, j3, j4⟩ | ⟨j1, j2⟩
  · rcases hy with ⟨l, l1, l2, l3, l4⟩ | ⟨l1, l2⟩
    · have : j = l := by
        rcases Nat.lt_trichotomy j l with c | c | c
        · exact absurd j2 (l3 j c)
        · exact c
        · exact absurd l2 (j3 l c)
      rw [j4, l4, this]
    · exact absurd j2 (l1 j j1)
  · rcases hy with ⟨l, l1, l2, l3, l4⟩ | ⟨l1, l2⟩
    · exact absurd l2 (j1 l l1)
    · rw [j2, l2]
theorem fk_Lev_neg {g : Nat → Int32} {n b k i : Nat} {x : Int32} (hk : k < 2 ^ 30) (hx : fk_Lev g n b k i x) : x = -1 ∨ 0 ≤ x := by
  rcases hx with ⟨j, j1, j2, j3, j4⟩ | ⟨j1, j2⟩
  · right; rw [j4]; exact nI_pos' (by omega)
  · exact Or.inl j2
theorem fk_R_lo {g : Nat → Int32} {n b k i : Nat} (H : fk_ok n b) (h1 : 1 ≤ i) (h2 : i ≤ 2) (h : fk_R g n b (k + 1) i) : False := by
  obtain ⟨p, p1, p2, p3⟩ := h
  rcases fk_tg_ex (g := g) p H with c | c
  · omega
  · omega
theorem fk_m1ne (k : Nat) (h : k < 2 ^ 31) : ¬ (-1 : Int32) = nI k := by
  intro e
  have := nI_pos (n := k) h
  rw [← e] at this
  exact this (by decide)
/-- ring k + 1 under way: before place p -/
def fk_Mid (g : Nat → Int32) (n b k p : Nat) (lv : Nat → Int32) : Prop := ∀ j, 1 ≤ j → j ≤ n →
  (∃ l, l ≤ k ∧ fk_R g n b l j ∧ (∀ m, m < l → ¬ fk_R g n b m j) ∧ lv j = nI l) ∨
  ((∀ l, l ≤ k → ¬ fk_R g n b l j) ∧ ((lv j = nI (k + 1) ∧ ∃ q, q < p ∧ fk_tg g n b q = j ∧ fk_R g n b k (q / 16 + 1)) ∨ (lv j = -1 ∧ ∀ q, q < p → fk_tg g n b q = j → ¬ fk_R g n b k (q / 16 + 1))))
theorem fk_Mid_0 {g : Nat → Int32} {n b k : Nat} {lv : Nat → Int32} (h : ∀ j, 1 ≤ j → j ≤ n → fk_Lev g n b k j (lv j)) : fk_Mid g n b k 0 lv := by
  intro j j1 j2
  rcases h j j1 j2 with c | c
  · exact Or.inl c
  · exact Or.inr ⟨c.1, Or.inr ⟨c.2, fun q hq => absurd hq (by omega)⟩⟩
theorem fk_Mid_e {g : Nat → Int32} {n b k : Nat} {lv : Nat → Int32} (h : fk_Mid g n b k (16 * n) lv) : ∀ j, 1 ≤ j → j ≤ n → fk_Lev g n b (k + 1) j (lv j) := by
  intro j j1 j2
  rcases h j j1 j2 with ⟨l, l1, l2⟩ | ⟨c, ⟨d, q, q1, q2, q3⟩ | ⟨d, e⟩⟩
  · exact Or.inl ⟨l, by omega, l2⟩
  · exact Or.inl ⟨k + 1, Nat.le_refl _, ⟨q, q1, q2, q3⟩, fun l hl => c l (by omega), d⟩
  · refine Or.inr ⟨fun l hl => ?_, d⟩
    by_cases z : l ≤ k
    · exact c l z
    · have : l = k + 1 := by omega
      subst this
      rintro ⟨q, q1, q2, q3⟩
      exact e q q1 q2 q3
/-- nothing new at place p -/
theorem fk_Mid_n {g : Nat → Int32} {n b k p : Nat} {lv : Nat → Int32} (h : fk_Mid g n b k p lv) (hn : ∀ j, 1 ≤ j → j ≤ n → fk_tg g n b p = j → lv j = -1 → (∀ l, l ≤ k → ¬ fk_R g n b l j) → ¬ fk_R g n b k (p / 16 + 1)) : fk_Mid g n b k (p + 1) lv := by
  intro j j1 j2
  rcases h j j1 j2 with c | ⟨c, ⟨d, q, q1, q2⟩ | ⟨d, e⟩⟩
  · exact Or.inl c
  · exact Or.inr ⟨c, Or.inl ⟨d, q, by omega, q2⟩⟩
  · refine Or.inr ⟨c, Or.inr ⟨d, fun q hq e2 => ?_⟩⟩
    by_cases z : q = p
    · subst z; exact hn j j1 j2 e2 d c
    · exact e q (by omega) e2
theorem fk_Mid_y {g : Nat → Int32} {n b k p : Nat} {lv : Nat → Int32} (hk : k < 2 ^ 20) (h : fk_Mid g n b k p lv) (h1 : 1 ≤ fk_tg g n b p) (h2 : fk_tg g n b p ≤ n) (hl : ¬ 0 ≤ lv (fk_tg g n b p)) (hR : fk_R g n b k (p / 16 + 1)) : fk_Mid g n b k (p + 1) (upd lv (fk_tg g n b p) (nI (k + 1))) := by
  intro j j1 j2
  by_cases z : j = fk_tg g n b p
  · subst z
    rw [pk_us]
    rcases h (fk_tg g n b p) j1 j2 with ⟨l, l1, l2, l3, l4⟩ | ⟨c, ⟨d, q, q1, q2⟩ | ⟨d, e⟩⟩
    · exact absurd (by rw [l4]; exact nI_pos' (by omega)) hl
    · exact absurd (by rw [d]; exact nI_pos' (by omega)) hl
    · exact Or.inr ⟨c, Or.inl ⟨rfl, p, by omega, rfl, hR⟩⟩
  · rw [pk_un z]
    rcases h j j1 j2 with c | ⟨c, ⟨d, q, q1, q2⟩ | ⟨d, e⟩⟩
    · exact Or.inl c
    · exact Or.inr ⟨c, Or.inl ⟨d, q, by omega, q2⟩⟩
    · refine Or.inr ⟨c, Or.inr ⟨d, fun q hq e2 => ?_⟩⟩
      by_cases y : q = p
      · subst y; exact absurd e2.symm z
      · exact e q (by omega) e2
theorem fk_Mid_d {g : Nat → Int32} {n b k p d : Nat} {lv : Nat → Int32} (hk : k < 2 ^ 20) (h : fk_Mid g n b k p lv) (h1 : 1 ≤ d) (h2 : d ≤ n) (e : lv d = nI k) : fk_R g n b k d := by
  rcases h d h1 h2 with ⟨l, l1, l2, l3, l4⟩ | ⟨c, ⟨d1, _⟩ | ⟨d1, _⟩⟩
  · rw [e, nI_eq (by omega) (by omega)] at l4
    rw [l4]; exact l2
  · rw [e, nI_eq (by omega) (by omega)] at d1
    omega
  · rw [e] at d1
    exact absurd d1.symm (fk_m1ne k (by omega))
theorem fk_Mid_nd {g : Nat → Int32} {n b k p j : Nat} {lv : Nat → Int32} (h : fk_Mid g n b k p lv) (hp : p < 16 * n) (e : ¬ lv (p / 16 + 1) = nI k) (ht : fk_tg g n b p = j) (c : ∀ l, l ≤ k → ¬ fk_R g n b l j) : ¬ fk_R g n b k (p / 16 + 1) := by
  intro hR
  rcases h (p / 16 + 1) (by omega) (by omega) with ⟨l, l1, l2, l3, l4⟩ | ⟨d, _⟩
  · by_cases z : l = k
    · subst z; exact e l4
    · exact c (l + 1) (by omega) ⟨p, hp, ht, l2⟩
  · exact d k (Nat.le_refl k) hR
section FD
variable {n b : Nat} {f : Int32} {g sv ct lv : Nat → Int32} {post : Int32 → Prop}
theorem fx_md55 {pst : SX → Prop} {J : Int32 → (Nat → Int32) → (Nat → Int32) → (Nat → Int32) → (Nat → Int32) → Prop} (H : fk_ok n b) (k : Nat) (hk : k < n) (hv : ∀ j, 1 ≤ j → j ≤ n → fk_Lev g n b k j (lv j))
    (h : ∀ l : Nat → Int32, (∀ j, 1 ≤ j → j ≤ n → fk_Lev g n b (k + 1) j (l j)) → J (nI (k + 1) + 1) g sv ct l) : ∃ m, wX_measureDistances_55 pst J (nI (k + 1)) (nI n) (nI b) (nI (2 + 8 * n + 4 * b)) f m 0 g sv ct lv := by
  have ⟨a3, a12, a2, a24⟩ := H
  refine pk_loop (fun m p (l : Nat → Int32) => wX_measureDistances_55 pst J (nI (k + 1)) (nI n) (nI b) (nI (2 + 8 * n + 4 * b)) f m (nI p) g sv ct l) (fun p l => fk_Mid g n b k p l) (16 * n) 0 lv (by omega) (fk_Mid_0 hv) (fun m l hl => ?_) (fun m p l hp hl hw => ?_)
  · refine pk_le (16 * n) (16 * n) (fun _ => ?_) (fun c => absurd c (by omega)) (fk_16m n)
    exact nm_e (h l (fk_Mid_e hl))
  · refine pk_le (16 * n) p (fun c => absurd c (by omega)) (fun _ => ?_) (fk_16m n)
    refine fx_pd p (by omega) rfl ?_
    refine ⟨vp_in_nI (by omega) (by decide), ?_⟩
    rw [nI_clamp (by omega), nI_pred]
    have ht := fk_tg_le (g := g) p H
    refine br_c (fun e => ?_) (fun e => ?_)
    · have hR := fk_Mid_d (by omega) hl (by omega) (by omega) e
      refine fx_tg H p hp rfl ?_
      refine pk_eq (fk_tg g n b p) 0 (fun z => ?_) (fun z => ?_)
      · exact nm_r (nI_1 p) (hw l (fk_Mid_n hl (fun j j1 _ j3 => absurd j3 (by omega))))
      · refine ⟨vp_in_nI (by omega) (by decide), ?_⟩
        rw [nI_clamp (by omega)]
        refine br_c (fun y => ?_) (fun y => ?_)
        · refine nm_r (nI_1 p) (hw l (fk_Mid_n hl (fun j j1 j2 j3 j4 => ?_)))
          rw [j3, j4] at y
          exact absurd y (by decide)
        · refine ⟨vp_in_nI (by omega) (by decide), ?_⟩
          exact nm_e (nm_r (nI_1 p) (hw _ (fk_Mid_y (by omega) hl (by omega) ht y hR)))
    · exact nm_r (nI_1 p) (hw l (fk_Mid_n hl (fun j j1 j2 j3 j4 j5 => fk_Mid_nd hl hp e j3 j5)))
theorem fx_md45 {pst : SX → Prop} (H : fk_ok n b) (hv : ∀ j, 1 ≤ j → j ≤ n → fk_Lev g n b 0 j (lv j))
    (h : ∀ l : Nat → Int32, (∀ j, 1 ≤ j → j ≤ n → fk_Lev g n b n j (l j)) → pst (nI n, nI b, nI (2 + 8 * n + 4 * b), f, g, sv, ct, l)) : ∃ m, wX_measureDistances_45 pst (nI n) (nI b) (nI (2 + 8 * n + 4 * b)) f m 1 g sv ct lv := by
  have ⟨a3, a12, a2, a24⟩ := H
  refine pk_loop (fun m i (l : Nat → Int32) => wX_measureDistances_45 pst (nI n) (nI b) (nI (2 + 8 * n + 4 * b)) f m (nI i) g sv ct l) (fun i l => 1 ≤ i ∧ ∀ j, 1 ≤ j → j ≤ n → fk_Lev g n b (i - 1) j (l j)) (n + 1) 1 lv (by omega) ⟨by omega, hv⟩ (fun m l hl => ?_) (fun m i l hp hl hw => ?_)
  · exact pk_lt n (n + 1) (fun _ => h l hl.2) (fun c => absurd c (by omega))
  · refine pk_lt n i (fun c => absurd c (by omega)) (fun _ => ?_)
    obtain ⟨i, rfl⟩ : ∃ j, i = j + 1 := ⟨i - 1, by omega⟩
    refine fx_md55 (lv := l) H i (by omega) hl.2 (fun l2 h2 => ?_)
    rw [nI_1]
    exact hw l2 ⟨by omega, h2⟩
theorem fx_md {pst : SX → Prop} (H : fk_ok n b) (h : ∀ l : Nat → Int32, (∀ j, 1 ≤ j → j ≤ n → fk_Lev g n b n j (l j)) → pst (nI n, nI b, nI (2 + 8 * n + 4 * b), f, g, sv, ct, l)) : wpX_measureDistances pst (nI n, nI b, nI (2 + 8 * n + 4 * b), f, g, sv, ct, lv) := by
  have ⟨a3, a12, a2, a24⟩ := H
  unfold wpX_measureDistances
  dsimp only
  refine pk_loop (fun m i (l : Nat → Int32) => wX_measureDistances_2 pst (nI n) (nI b) (nI (2 + 8 * n + 4 * b)) f m (nI i) g sv ct l) (fun i l => 1 ≤ i ∧ ∀ j, 1 ≤ j → j < i → fk_Lev g n b 0 j (l j)) (n + 1) 1 lv (by omega) ⟨by omega, fun j j1 j2 => absurd j1 (by omega)⟩ (fun m l hl => ?_) (fun m i l hp hl hw => ?_)
  · refine pk_lt n (n + 1) (fun _ => ?_) (fun c => absurd c (by omega))
    exact fx_md45 (lv := l) H (fun j j1 j2 => hl.2 j j1 (by omega)) h
  · refine pk_lt n i (fun c => absurd c (by omega)) (fun _ => ?_)
    refine ⟨vp_in_nI (by omega) (by decide), ?_⟩
    rw [nI_clamp (by omega)]
    refine nm_e ?_
    have keep : ∀ (x : Int32), fk_Lev g n b 0 i x → 1 ≤ i + 1 ∧ ∀ j, 1 ≤ j → j < i + 1 → fk_Lev g n b 0 j (upd l i x j) := by
      intro x hx
      refine ⟨by omega, fun j j1 j2 => ?_⟩
      by_cases z : j = i
      · subst z; rw [pk_us]; exact hx
      · rw [pk_un z]; exact hl.2 j j1 (by omega)
    refine pk_lt 2 i (fun c => ?_) (fun c => ?_)
    · refine nm_r (nI_1 i) (hw _ (keep _ (Or.inr ⟨fun l2 hl2 => ?_, rfl⟩)))
      have : l2 = 0 := by omega
      subst this
      intro hr
      have := hr.1
      omega
    · refine fx_isDir H i hl.1 (by omega) rfl ?_
      refine fk_br0 (fun e => ?_) (fun e => ?_)
      · refine nm_r (nI_1 i) (hw _ (keep _ (Or.inr ⟨fun l2 hl2 => ?_, rfl⟩)))
        have : l2 = 0 := by omega
        subst this
        intro hr
        have := hr.2
        rw [e] at this
        exact absurd this (by decide)
      · refine ⟨vp_in_nI (by omega) (by decide), ?_⟩
        rw [fk_upd_upd]
        exact nm_e (nm_r (nI_1 i) (hw _ (keep _ (Or.inl ⟨0, Nat.le_refl 0, ⟨c, e⟩, fun l2 hl2 => absurd hl2 (by omega), rfl⟩))))
/-- the bits of m are the ends of rows of k steps -/
def fk_E (g : Nat → Int32) (n b k : Nat) (m : Int32) : Prop := ∀ j, 1 ≤ j → j ≤ n → (bt m j = true ↔ fk_R g n b k j)
theorem fy_ds82 {J : Int32 → Int32 → Prop} {ends : Int32} (H : fk_ok n b) (i k : Nat) (hi : 1 ≤ i) (hn : i ≤ n) (hk : k < n) (hE : fk_E g n b k ends)
    (hy : fk_R g n b (k + 1) i → post (nI (k + 1))) (hj : ∀ m, fk_E g n b (k + 1) m → ¬ fk_R g n b (k + 1) i → J m (nI (k + 1) + 1)) : ∃ l, wY_distance_82 post J (nI i) ends (nI (k + 1)) (nI n) (nI b) (nI (2 + 8 * n + 4 * b)) f g sv ct l 0 0 := by
  have ⟨a3, a12, a2, a24⟩ := H
  refine pk_loop (fun l p (m : Int32) => wY_distance_82 post J (nI i) ends (nI (k + 1)) (nI n) (nI b) (nI (2 + 8 * n + 4 * b)) f g sv ct l m (nI p)) (fun p m => ∀ j, 1 ≤ j → j ≤ n → (bt m j = true ↔ ∃ q, q < p ∧ fk_tg g n b q = j ∧ fk_R g n b k (q / 16 + 1))) (16 * n) 0 0 (by omega)
    (fun j _ _ => by
      rw [b_0]
      exact ⟨fun z => absurd z (by decide), fun ⟨q, q1, _⟩ => absurd q1 (by omega)⟩) (fun l m hm => ?_) (fun l p m hp hm hw => ?_)
  · refine pk_le (16 * n) (16 * n) (fun _ => ?_) (fun c => absurd c (by omega)) (fk_16m n)
    rw [fk_shr m (by omega)]
    refine fk_bI1 (fun e => ?_) (fun e => ?_)
    · exact hy ((hm i hi hn).mp e)
    · refine nm_e (hj m hm (fun z => ?_))
      rw [(hm i hi hn).mpr z] at e
      exact absurd e (by decide)
  · refine pk_le (16 * n) p (fun c => absurd c (by omega)) (fun _ => ?_) (fk_16m n)
    refine fy_tg H p hp rfl ?_
    have ht := fk_tg_le (g := g) p H
    refine pk_eq (fk_tg g n b p) 0 (fun e => ?_) (fun e => ?_)
    · refine nm_r (nI_1 p) (hw m (fun j j1 j2 => ?_))
      rw [hm j j1 j2]
      constructor
      · rintro ⟨q, q1, q2⟩
        exact ⟨q, by omega, q2⟩
      · rintro ⟨q, q1, q2, q3⟩
        by_cases z : q = p
        · subst z; omega
        · exact ⟨q, by omega, q2, q3⟩
    · refine ⟨fk_16, ?_⟩
      rw [fk_d161 (by omega), fk_shr ends (by omega)]
      have hd := hE (p / 16 + 1) (by omega) (by omega)
      refine fk_bI1 (fun e2 => ?_) (fun e2 => ?_)
      · refine nm_e (nm_r (nI_1 p) (hw _ (fun j j1 j2 => ?_)))
        rw [fk_or m (by omega) (by omega), Bool.or_eq_true, hm j j1 j2, decide_eq_true_iff]
        constructor
        · rintro (⟨q, q1, q2⟩ | z)
          · exact ⟨q, by omega, q2⟩
          · exact ⟨p, by omega, z.symm, hd.mp e2⟩
        · rintro ⟨q, q1, q2, q3⟩
          by_cases z : q = p
          · subst z; exact Or.inr q2.symm
          · exact Or.inl ⟨q, by omega, q2, q3⟩
      · refine nm_r (nI_1 p) (hw m (fun j j1 j2 => ?_))
        rw [hm j j1 j2]
        constructor
        · rintro ⟨q, q1, q2⟩
          exact ⟨q, by omega, q2⟩
        · rintro ⟨q, q1, q2, q3⟩
          by_cases z : q = p
          · subst z
            rw [hd.mpr q3] at e2
            exact absurd e2 (by decide)
          · exact ⟨q, by omega, q2, q3⟩
theorem fy_ds68 {ends : Int32} (H : fk_ok n b) (i : Nat) (hi : 3 ≤ i) (hn : i ≤ n) (hE : fk_E g n b 0 ends) (h : ∀ x, fk_Lev g n b n i x → post x) : ∃ l, wY_distance_68 post (nI i) (nI n) (nI b) (nI (2 + 8 * n + 4 * b)) f g sv ct l ends 1 := by
  have ⟨a3, a12, a2, a24⟩ := H
  refine pk_loop (fun l k (m : Int32) => wY_distance_68 post (nI i) (nI n) (nI b) (nI (2 + 8 * n + 4 * b)) f g sv ct l m (nI k)) (fun k m => 1 ≤ k ∧ fk_E g n b (k - 1) m ∧ ∀ l, l ≤ k - 1 → ¬ fk_R g n b l i) (n + 1) 1 ends (by omega) ⟨by omega, hE, fun l hl hr => ?_⟩ (fun l m hm => ?_) (fun l k m hp hm hw => ?_)
  · have : l = 0 := by omega
    subst this
    have := hr.1
    omega
  · exact pk_lt n (n + 1) (fun _ => h _ (Or.inr ⟨hm.2.2, rfl⟩)) (fun c => absurd c (by omega))
  · refine pk_lt n k (fun c => absurd c (by omega)) (fun _ => ?_)
    obtain ⟨k, rfl⟩ : ∃ j, k = j + 1 := ⟨k - 1, by omega⟩
    refine fy_ds82 H i k (by omega) hn (by omega) hm.2.1 (fun hr => ?_) (fun m2 h2 hr => ?_)
    · exact h _ (Or.inl ⟨k + 1, by omega, hr, fun l2 hl2 => hm.2.2 l2 (by omega), rfl⟩)
    · rw [nI_1]
      refine hw m2 ⟨by omega, h2, fun l2 hl2 => ?_⟩
      by_cases z : l2 = k + 1
      · subst z; exact hr
      · exact hm.2.2 l2 (by omega)
theorem fk_b6 : ∀ j, j < 32 → bt (((0 : Int32) ||| 2) ||| 4) j = (decide (j = 1) || decide (j = 2)) := by decide +kernel
theorem fk_b2 : ∀ j, j < 32 → bt ((0 : Int32) ||| 2) j = decide (j = 1) := by decide +kernel
theorem fk_b4 : ∀ j, j < 32 → bt ((0 : Int32) ||| 4) j = decide (j = 2) := by decide +kernel
theorem fk_E0 {m : Int32} (H : fk_ok n b) (hm : ∀ j, j < 32 → bt m j = (decide (j = 1) && fk_dr g 1 || decide (j = 2) && fk_dr g 2)) : fk_E g n b 0 m := by
  have ⟨a3, a12, a2, a24⟩ := H
  intro j j1 j2
  rw [hm j (by omega)]
  show _ ↔ (j ≤ 2 ∧ fk_dr g j = true)
  by_cases c1 : j = 1
  · subst c1
    rw [decide_eq_true rfl, decide_eq_false (by decide), Bool.true_and, Bool.false_and, Bool.or_false]
    exact ⟨fun z => ⟨by omega, z⟩, fun z => z.2⟩
  · by_cases c2 : j = 2
    · subst c2
      rw [decide_eq_true rfl, decide_eq_false (by decide), Bool.true_and, Bool.false_and, Bool.false_or]
      exact ⟨fun z => ⟨by omega, z⟩, fun z => z.2⟩
    · rw [decide_eq_false c1, decide_eq_false c2, Bool.false_and, Bool.false_and]
      exact ⟨fun z => absurd z (by decide), fun z => absurd z.1 (by omega)⟩
theorem fy_ds52 (x : Int32) (H : fk_ok n b) (i : Nat) (hi : 3 ≤ i) (hn : i ≤ n) (hx : x = (if fk_dr g 1 = true then (0 : Int32) ||| 2 else 0)) (h : ∀ x, fk_Lev g n b n i x → post x) : wY_distance_52 post (nI i) x (nI n) (nI b) (nI (2 + 8 * n + 4 * b)) f g sv ct := by
  have ⟨a3, a12, a2, a24⟩ := H
  unfold wY_distance_52
  refine fy_field H 2 0 (by omega) (by omega) (by omega) rfl rfl ?_
  refine br_c (fun e => ?_) (fun e => ?_)
  · have e2 : fk_dr g 2 = true := decide_eq_true e
    refine nm_e (fy_ds68 H i hi hn (fk_E0 H (fun j hj => ?_)) h)
    cases e1 : fk_dr g 1 with
    | true =>
      rw [hx, e1, if_pos rfl, fk_b6 j hj, e2, Bool.and_true, Bool.and_true]
    | false =>
      rw [hx, e1, if_neg (by decide), fk_b4 j hj, e2, Bool.and_true, Bool.and_false, Bool.false_or]
  · have e2 : fk_dr g 2 = false := decide_eq_false e
    refine fy_ds68 H i hi hn (fk_E0 H (fun j hj => ?_)) h
    cases e1 : fk_dr g 1 with
    | true =>
      rw [hx, e1, if_pos rfl, fk_b2 j hj, e2, Bool.and_true, Bool.and_false, Bool.or_false]
    | false =>
      rw [hx, e1, if_neg (by decide), b_0, e2, Bool.and_false, Bool.and_false]; rfl
theorem fy_ds {P : Int32} (H : fk_ok n b) (i : Nat) (hi : 1 ≤ i) (hn : i ≤ n) (hP : P = nI i) (h : ∀ x, fk_Lev g n b n i x → post x) : wpY_distance post (nI n, nI b, nI (2 + 8 * n + 4 * b), f, g, sv, ct) P := by
  have ⟨a3, a12, a2, a24⟩ := H
  subst hP
  unfold wpY_distance
  dsimp only
  refine br_f (nI_nlt (b := 1) hi (by omega)) (br_t (nI_le hn (by omega)) ?_)
  refine pk_lt 2 i (fun c => ?_) (fun c => ?_)
  · refine fy_field H 1 0 (by omega) (by omega) (by omega) rfl rfl ?_
    refine br_c (fun e => ?_) (fun e => ?_)
    · have e1 : fk_dr g 1 = true := decide_eq_true e
      exact nm_e (fy_ds52 _ H i c hn (by rw [e1]; rfl) h)
    · have e1 : fk_dr g 1 = false := decide_eq_false e
      exact fy_ds52 _ H i c hn (by rw [e1]; rfl) h
  · refine fy_field H i 0 hi hn (by omega) rfl rfl ?_
    refine br_c (fun e => ?_) (fun e => ?_)
    · have e1 : fk_dr g i = true := decide_eq_true e
      exact h 0 (Or.inl ⟨0, by omega, ⟨c, e1⟩, fun l hl => absurd hl (by omega), rfl⟩)
    · have e1 : fk_dr g i = false := decide_eq_false e
      refine h _ (Or.inr ⟨fun l hl hr => ?_, rfl⟩)
      cases l with
      | zero =>
        have := hr.2
        rw [e1] at this
        exact absurd this (by decide)
      | succ l => exact fk_R_lo H hi c hr
end FD
end
section
/-! check -/
def fk_cb (c1 c2 c3 c4 c5 c6 : Bool) : Int32 := (((((cond c1 1 0) ||| (cond c2 2 0)) ||| (cond c3 4 0)) ||| (cond c4 8 0)) ||| (cond c5 16 0)) ||| (cond c6 32 0)
theorem fk_cb1 (c1 c2 c3 c4 c5 c6 : Bool) : fk_cb c1 c2 c3 c4 c5 c6 ||| 1 = fk_cb true c2 c3 c4 c5 c6 := by
  cases c1 <;> cases c2 <;> cases c3 <;> cases c4 <;> cases c5 <;> cases c6 <;> rfl
theorem fk_cb2 (c1 c2 c3 c4 c5 c6 : Bool) : fk_cb c1 c2 c3 c4 c5 c6 ||| 2 = fk_cb c1 true c3 c4 c5 c6 := by
  cases c1 <;> cases c2 <;> cases c3 <;> cases c4 <;> cases c5 <;> cases c6 <;> rfl
theorem fk_cb4 (c1 c2 c3 c4 c5 c6 : Bool) : fk_cb c1 c2 c3 c4 c5 c6 ||| 4 = fk_cb c1 c2 true c4 c5 c6 := by
  cases c1 <;> cases c2 <;> cases c3 <;> cases c4 <;> cases c5 <;> cases c6 <;> rfl
theorem fk_cb8 (c1 c2 c3 c4 c5 c6 : Bool) : fk_cb c1 c2 c3 c4 c5 c6 ||| 8 = fk_cb c1 c2 c3 true c5 c6 := by
  cases c1 <;> cases c2 <;> cases c3 <;> cases c4 <;> cases c5 <;> cases c6 <;> rfl
theorem fk_cb16 (c1 c2 c3 c4 c5 c6 : Bool) : fk_cb c1 c2 c3 c4 c5 c6 ||| 16 = fk_cb c1 c2 c3 c4 true c6 := by
  cases c1 <;> cases c2 <;> cases c3 <;> cases c4 <;> cases c5 <;> cases c6 <;> rfl
theorem fk_cb32 (c1 c2 c3 c4 c5 c6 : Bool) : fk_cb c1 c2 c3 c4 c5 c6 ||| 32 = fk_cb c1 c2 c3 c4 c5 true := by
  cases c1 <;> cases c2 <;> cases c3 <;> cases c4 <;> cases c5 <;> cases c6 <;> rfl
noncomputable def fk_ur (g : Nat → Int32) (n b i : Nat) : Bool := @decide (∀ l, l ≤ n → ¬ fk_R g n b l i) (Classical.propDecidable _)
theorem fk_ur_c {g : Nat → Int32} {n b i : Nat} {x : Int32} (hn : n ≤ 12) (h : fk_Lev g n b n i x) : (fk_ur g n b i = true ∧ x = -1) ∨ (fk_ur g n b i = false ∧ 0 ≤ x) := by
  unfold fk_ur
  rcases h with ⟨j, j1, j2, j3, j4⟩ | ⟨j1, j2⟩
  · right
    refine ⟨@decide_eq_false _ (Classical.propDecidable _) (fun z => z j j1 j2), ?_⟩
    rw [j4]; exact nI_pos' (by omega)
  · exact Or.inl ⟨@decide_eq_true _ (Classical.propDecidable _) j1, j2⟩
/-- the clauses, by inode or place -/
def fk_k3 (g : Nat → Int32) (n b i : Nat) : Bool := fk_dr g i && (decide (3 ≤ i) && decide (2 ≤ fk_rf g n b i))
def fk_kp (g : Nat → Int32) (n b p : Nat) : Bool := fk_bw g n b p || fk_rp g n b p
noncomputable def fk_k4 (g : Nat → Int32) (n b i : Nat) : Bool := fk_iu g i && fk_ur g n b i
def fk_kq (g : Nat → Int32) (n b i : Nat) : Bool := fk_dr g i && !(decide (g (fk_ad i 2) = nI (fk_ep g n b i)))
def fk_kl (g : Nat → Int32) (n b i : Nat) : Bool := fk_iu g i && !(decide (g (fk_ad i 1) = nI (fk_el g n b i)))
def fk_k5 (g : Nat → Int32) (n b i : Nat) : Bool := fk_kq g n b i || fk_kl g n b i
def fk_k6 (g : Nat → Int32) (n b : Nat) : Bool := !(decide (g 0 = fk_om (fk_iu g) n)) || !(decide (g 1 = fk_om (fk_us g n b) b))
def fk_q3 (g : Nat → Int32) (n b : Nat) : Bool := fk_an (fk_k3 g n b) 1 n || fk_an (fk_kp g n b) 0 (16 * n)
section FC
variable {n b : Nat} {f : Int32} {g sv ct lv : Nat → Int32} {post : Int32 → Prop}
theorem fx_c1 (H : fk_ok n b) (h : post (fk_bI (fk_an (fk_nB g b) 1 n))) : wpX_inodesBroken post (nI n, nI b, nI (2 + 8 * n + 4 * b), f, g, sv, ct, lv) := by
  have ⟨a3, a12, a2, a24⟩ := H
  unfold wpX_inodesBroken
  dsimp only
  refine fk_scan (fun k x => wX_inodesBroken_2 post (nI n) (nI b) (nI (2 + 8 * n + 4 * b)) f g sv ct lv k x) (fk_nB g b) 1 n ?_ ?_
  · intro _ hq k
    rw [fk_an_f.mpr hq] at h
    exact pk_lt n (1 + n) (fun _ => h) (fun c => absurd c (by omega))
  · intro k i h1 h2 _ _ hf
    refine pk_lt n i (fun c => absurd c (by omega)) (fun _ => ?_)
    refine fx_nB H i h1 (by omega) rfl ?_
    refine fk_br0 (fun e => ?_) (fun e => ?_)
    · exact nm_r (nI_1 i) (hf e)
    · rw [fk_an_t.mpr ⟨i, h1, h2, e⟩] at h
      exact h
theorem fx_c3b (H : fk_ok n b) (h : post (fk_bI (fk_an (fk_k3 g n b) 1 n))) : ∃ k, wX_entriesBroken_49 post (nI n) (nI b) (nI (2 + 8 * n + 4 * b)) f g sv ct lv k 3 := by
  have ⟨a3, a12, a2, a24⟩ := H
  refine fk_scan (fun k x => wX_entriesBroken_49 post (nI n) (nI b) (nI (2 + 8 * n + 4 * b)) f g sv ct lv k x) (fk_k3 g n b) 3 (n - 2) ?_ ?_
  · intro _ hq k
    have ha : fk_an (fk_k3 g n b) 1 n = false := by
      rw [fk_an_f]
      intro q q1 q2
      by_cases c : 3 ≤ q
      · exact hq q c (by omega)
      · unfold fk_k3
        rw [decide_eq_false c, Bool.false_and, Bool.and_false]
    rw [ha] at h
    exact pk_lt n (3 + (n - 2)) (fun _ => h) (fun c => absurd c (by omega))
  · intro k i h1 h2 _ _ hf
    refine pk_lt n i (fun c => absurd c (by omega)) (fun _ => ?_)
    refine fx_isDir H i (by omega) (by omega) rfl ?_
    have hl := fk_rf_le (g := g) (n := n) (b := b) (x := i)
    refine fk_br0 (fun e => ?_) (fun e => ?_)
    · exact nm_r (nI_1 i) (hf (by unfold fk_k3; rw [e]; rfl))
    · refine fx_rf H i (by omega) rfl ?_
      refine pk_lt (fk_rf g n b i) 2 (fun c => ?_) (fun c => ?_)
      · exact nm_r (nI_1 i) (hf (by unfold fk_k3; rw [decide_eq_false (show ¬ 2 ≤ fk_rf g n b i by omega), Bool.and_false, Bool.and_false]))
      · rw [fk_an_t.mpr ⟨i, by omega, by omega, by unfold fk_k3; rw [e, decide_eq_true c, decide_eq_true h1]; rfl⟩] at h
        exact h
theorem fx_c3 (H : fk_ok n b) (h : post (fk_bI (fk_q3 g n b))) : wpX_entriesBroken post (nI n, nI b, nI (2 + 8 * n + 4 * b), f, g, sv, ct, lv) := by
  have ⟨a3, a12, a2, a24⟩ := H
  unfold wpX_entriesBroken
  dsimp only
  unfold fk_q3 at h
  refine fk_scan (fun k x => wX_entriesBroken_2 post (nI n) (nI b) (nI (2 + 8 * n + 4 * b)) f g sv ct lv k x) (fk_kp g n b) 0 (16 * n) ?_ ?_
  · intro _ hq k
    rw [fk_an_f.mpr hq, Bool.or_false] at h
    exact pk_le (16 * n) (0 + 16 * n) (fun _ => fx_c3b H h) (fun c => absurd c (by omega)) (fk_16m n)
  · intro k p h1 h2 _ _ hf
    refine pk_le (16 * n) p (fun c => absurd c (by omega)) (fun _ => ?_) (fk_16m n)
    have bad : fk_kp g n b p = true → post 1 := by
      intro hb
      rw [fk_an_t.mpr ⟨p, h1, h2, hb⟩, Bool.or_true] at h
      exact h
    refine fx_bw H p (by omega) rfl ?_
    refine fk_br0 (fun e => ?_) (fun e => ?_)
    · refine fx_tg H p (by omega) rfl ?_
      have ht := fk_tg_le (g := g) p H
      refine pk_eq (fk_tg g n b p) 0 (fun e2 => ?_) (fun e2 => ?_)
      · refine nm_r (nI_1 p) (hf ?_)
        unfold fk_kp fk_rp
        rw [e, decide_eq_true ((fk_nm_0 (g := g) p H).mpr e2)]; rfl
      · refine fx_rp H p (by omega) e2 rfl ?_
        refine fk_br0 (fun e3 => ?_) (fun e3 => ?_)
        · exact nm_r (nI_1 p) (hf (by unfold fk_kp; rw [e, e3]; rfl))
        · exact bad (by unfold fk_kp; rw [e3, Bool.or_true])
    · exact bad (by unfold fk_kp; rw [e, Bool.true_or])
theorem fx_c4 {pst : Int32 → SX → Prop} (H : fk_ok n b) (h : ∀ l, pst (fk_bI (fk_an (fk_k4 g n b) 1 n)) (nI n, nI b, nI (2 + 8 * n + 4 * b), f, g, sv, ct, l)) : wpX_connectionBroken pst (nI n, nI b, nI (2 + 8 * n + 4 * b), f, g, sv, ct, lv) := by
  have ⟨a3, a12, a2, a24⟩ := H
  unfold wpX_connectionBroken
  dsimp only
  refine fx_md H (fun l hl => ?_)
  have h := h l
  refine fk_scan (fun k x => wX_connectionBroken_6 pst (nI n) (nI b) (nI (2 + 8 * n + 4 * b)) f g sv ct l k x) (fk_k4 g n b) 1 n ?_ ?_
  · intro _ hq k
    rw [fk_an_f.mpr hq] at h
    exact pk_lt n (1 + n) (fun _ => h) (fun c => absurd c (by omega))
  · intro k i h1 h2 _ _ hf
    refine pk_lt n i (fun c => absurd c (by omega)) (fun _ => ?_)
    refine fx_inUse H i h1 (by omega) rfl ?_
    refine fk_br0 (fun e => ?_) (fun e => ?_)
    · exact nm_r (nI_1 i) (hf (by unfold fk_k4; rw [e]; rfl))
    · refine ⟨vp_in_nI (by omega) (by decide), ?_⟩
      rw [nI_clamp (by omega)]
      rcases fk_ur_c a12 (hl i h1 (by omega)) with ⟨c, d⟩ | ⟨c, d⟩
      · refine br_f (by rw [d]; decide) ?_
        rw [fk_an_t.mpr ⟨i, h1, h2, by unfold fk_k4; rw [e, c]; rfl⟩] at h
        exact h
      · exact br_t d (nm_r (nI_1 i) (hf (by unfold fk_k4; rw [e, c]; rfl)))
theorem fx_c5 (H : fk_ok n b) (h : post (fk_bI (fk_an (fk_k5 g n b) 1 n))) : wpX_countsBroken post (nI n, nI b, nI (2 + 8 * n + 4 * b), f, g, sv, ct, lv) := by
  have ⟨a3, a12, a2, a24⟩ := H
  unfold wpX_countsBroken
  dsimp only
  refine fk_scan (fun k x => wX_countsBroken_2 post (nI n) (nI b) (nI (2 + 8 * n + 4 * b)) f g sv ct lv k x) (fk_k5 g n b) 1 n ?_ ?_
  · intro _ hq k
    rw [fk_an_f.mpr hq] at h
    exact pk_lt n (1 + n) (fun _ => h) (fun c => absurd c (by omega))
  · intro k i h1 h2 _ _ hf
    refine pk_lt n i (fun c => absurd c (by omega)) (fun _ => ?_)
    have bad : fk_k5 g n b i = true → post 1 := by
      intro hb
      rw [fk_an_t.mpr ⟨i, h1, h2, hb⟩] at h
      exact h
    have tail : fk_kq g n b i = false → wX_countsBroken_34 post (wX_countsBroken_2 post (nI n) (nI b) (nI (2 + 8 * n + 4 * b)) f g sv ct lv k) (nI i) (nI n) (nI b) (nI (2 + 8 * n + 4 * b)) f g sv ct lv := by
      intro eq
      unfold wX_countsBroken_34
      refine fx_inUse H i h1 (by omega) rfl ?_
      refine fk_br0 (fun e => ?_) (fun e => ?_)
      · exact nm_r (nI_1 i) (hf (by unfold fk_k5 fk_kl; rw [eq, e]; rfl))
      · refine fx_field H i 1 h1 (by omega) (by omega) rfl rfl ?_
        refine fx_el H i h1 (by omega) rfl ?_
        refine br_c (fun e2 => ?_) (fun e2 => ?_)
        · exact nm_r (nI_1 i) (hf (by unfold fk_k5 fk_kl; rw [eq, decide_eq_true e2, Bool.not_true, Bool.and_false]; rfl))
        · exact bad (by unfold fk_k5 fk_kl; rw [e, decide_eq_false e2]; exact Bool.or_true _)
    refine fx_isDir H i h1 (by omega) rfl ?_
    refine fk_br0 (fun e => ?_) (fun e => ?_)
    · exact tail (by unfold fk_kq; rw [e]; rfl)
    · refine fx_field H i 2 h1 (by omega) (by omega) rfl rfl ?_
      refine fx_ep H i (by omega) rfl ?_
      refine br_c (fun e2 => ?_) (fun e2 => ?_)
      · exact tail (by unfold fk_kq; rw [decide_eq_true e2, Bool.not_true, Bool.and_false])
      · exact bad (by unfold fk_k5 fk_kq; rw [e, decide_eq_false e2]; rfl)
theorem fx_c6 (H : fk_ok n b) (h : post (fk_bI (fk_k6 g n b))) : wpX_mapsBroken post (nI n, nI b, nI (2 + 8 * n + 4 * b), f, g, sv, ct, lv) := by
  unfold wpX_mapsBroken
  dsimp only
  refine fx_nM H ?_
  unfold fk_k6 at h
  refine br_c (fun e => ?_) (fun e => ?_)
  · rw [decide_eq_true e, Bool.not_true, Bool.false_or] at h
    refine fx_bM H ?_
    exact fk_decn h
  · rw [decide_eq_false e, Bool.not_false, Bool.true_or] at h
    exact h
theorem fx_check {pst : Int32 → SX → Prop} (H : fk_ok n b) (h : ∀ l, pst (fk_cb (fk_an (fk_nB g b) 1 n) (fk_du g n b) (fk_q3 g n b) (fk_an (fk_k4 g n b) 1 n) (fk_an (fk_k5 g n b) 1 n) (fk_k6 g n b)) (nI n, nI b, nI (2 + 8 * n + 4 * b), f, g, sv, ct, l)) : wpX_check pst (nI n, nI b, nI (2 + 8 * n + 4 * b), f, g, sv, ct, lv) := by
  generalize e1 : fk_an (fk_nB g b) 1 n = c1 at h
  generalize e2 : fk_du g n b = c2 at h
  generalize e3 : fk_q3 g n b = c3 at h
  generalize e4 : fk_an (fk_k4 g n b) 1 n = c4 at h
  generalize e5 : fk_an (fk_k5 g n b) 1 n = c5 at h
  generalize e6 : fk_k6 g n b = c6 at h
  have s6 : ∀ l, wX_check_59 pst (fk_cb c1 c2 c3 c4 c5 false) (nI n) (nI b) (nI (2 + 8 * n + 4 * b)) f g sv ct l := by
    intro l
    unfold wX_check_59
    refine fx_c6 H ?_
    rw [e6]
    refine fk_br0 (fun e => ?_) (fun e => ?_)
    · have := h l; rw [e] at this; exact this
    · have := h l; rw [e] at this
      exact nm_r (fk_cb32 _ _ _ _ _ _) this
  have s5 : ∀ l, wX_check_47 pst (fk_cb c1 c2 c3 c4 false false) (nI n) (nI b) (nI (2 + 8 * n + 4 * b)) f g sv ct l := by
    intro l
    unfold wX_check_47
    refine fx_c5 H ?_
    rw [e5]
    refine fk_br0 (fun e => ?_) (fun e => ?_)
    · have := s6 l; rw [e] at this; exact this
    · have := s6 l; rw [e] at this
      exact nm_r (fk_cb16 _ _ _ _ _ _) this
  have s4 : wX_check_35 pst (fk_cb c1 c2 c3 false false false) (nI n) (nI b) (nI (2 + 8 * n + 4 * b)) f g sv ct lv := by
    unfold wX_check_35
    refine fx_c4 H (fun l => ?_)
    rw [e4]
    refine fk_br0 (fun e => ?_) (fun e => ?_)
    · have := s5 l; rw [e] at this; exact this
    · have := s5 l; rw [e] at this
      exact nm_r (fk_cb8 _ _ _ _ _ _) this
  have s3 : wX_check_24 pst (fk_cb c1 c2 false false false false) (nI n) (nI b) (nI (2 + 8 * n + 4 * b)) f g sv ct lv := by
    unfold wX_check_24
    refine fx_c3 H ?_
    rw [e3]
    refine fk_br0 (fun e => ?_) (fun e => ?_)
    · rw [e] at s4; exact s4
    · rw [e] at s4
      exact nm_r (fk_cb4 _ _ _ _ _ _) s4
  have s2 : wX_check_13 pst (fk_cb c1 false false false false false) (nI n) (nI b) (nI (2 + 8 * n + 4 * b)) f g sv ct lv := by
    unfold wX_check_13
    refine fx_du H ?_
    rw [e2]
    refine fk_br0 (fun e => ?_) (fun e => ?_)
    · rw [e] at s3; exact s3
    · rw [e] at s3
      exact nm_r (fk_cb2 _ _ _ _ _ _) s3
  unfold wpX_check
  dsimp only
  refine fx_c1 H ?_
  rw [e1]
  refine fk_br0 (fun e => ?_) (fun e => ?_)
  · rw [e] at s2; exact s2
  · rw [e] at s2
    exact nm_r (show (0 : Int32) ||| 1 = fk_cb true false false false false false by decide) s2
/-! Y's check -/
theorem fy_c107 {J : Int32 → Int32 → Prop} (c1 c2 c3 c4 c5 c6 : Bool) (H : fk_ok n b) (i : Nat) (hi : 1 ≤ i) (hn : i ≤ n) (h : J (fk_cb c1 c2 c3 c4 (c5 || fk_kl g n b i) c6) (nI (i + 1))) : wY_check_107 post J (fk_cb c1 c2 c3 c4 c5 c6) (nI i) (nI n) (nI b) (nI (2 + 8 * n + 4 * b)) f g sv ct := by
  unfold wY_check_107
  unfold fk_kl at h
  refine fy_inUse H i hi hn rfl ?_
  refine fk_br0 (fun e => ?_) (fun e => ?_)
  · rw [e, Bool.false_and, Bool.or_false] at h
    exact nm_r (nI_1 i) h
  · refine fy_field H i 1 hi hn (by omega) rfl rfl ?_
    refine fy_rl H i hi hn rfl ?_
    rw [fk_rl_el e]
    refine br_c (fun e2 => ?_) (fun e2 => ?_)
    · rw [decide_eq_true e2, Bool.not_true, Bool.and_false, Bool.or_false] at h
      exact nm_r (nI_1 i) h
    · rw [e, decide_eq_false e2, Bool.not_false, Bool.and_true, Bool.or_true] at h
      exact nm_r (fk_cb16 _ _ _ _ _ _) (nm_r (nI_1 i) h)
theorem fy_c84 {J : Int32 → Int32 → Prop} (c1 c2 c3 c4 c5 c6 : Bool) (H : fk_ok n b) (i : Nat) (hi : 1 ≤ i) (hn : i ≤ n) (h : J (fk_cb c1 c2 c3 c4 (c5 || fk_k5 g n b i) c6) (nI (i + 1))) : wY_check_84 post J (fk_cb c1 c2 c3 c4 c5 c6) (nI i) (fk_bI (fk_dr g i)) (nI n) (nI b) (nI (2 + 8 * n + 4 * b)) f g sv ct := by
  have ⟨a3, a12, a2, a24⟩ := H
  unfold wY_check_84
  unfold fk_k5 at h
  rw [← Bool.or_assoc] at h
  refine fk_br0 (fun e => ?_) (fun e => ?_)
  · refine fy_c107 c1 c2 c3 c4 c5 c6 H i hi hn ?_
    have z : fk_kq g n b i = false := by unfold fk_kq; rw [e]; rfl
    rw [z, Bool.or_false] at h
    exact h
  · refine fy_field H i 2 hi hn (by omega) rfl rfl ?_
    refine fy_ep H i (by omega) rfl ?_
    refine br_c (fun e2 => ?_) (fun e2 => ?_)
    · refine fy_c107 c1 c2 c3 c4 c5 c6 H i hi hn ?_
      have z : fk_kq g n b i = false := by unfold fk_kq; rw [decide_eq_true e2, Bool.not_true, Bool.and_false]
      rw [z, Bool.or_false] at h
      exact h
    · have z : fk_kq g n b i = true := by unfold fk_kq; rw [e, decide_eq_false e2]; rfl
      rw [z, Bool.or_true] at h
      exact nm_r (fk_cb16 _ _ _ _ _ _) (fy_c107 c1 c2 c3 c4 true c6 H i hi hn h)
theorem fy_c62 {J : Int32 → Int32 → Prop} (c1 c2 c3 c4 c5 c6 : Bool) (H : fk_ok n b) (i : Nat) (hi : 1 ≤ i) (hn : i ≤ n) (h : J (fk_cb c1 c2 c3 (c4 || fk_k4 g n b i) (c5 || fk_k5 g n b i) c6) (nI (i + 1))) : wY_check_62 post J (fk_cb c1 c2 c3 c4 c5 c6) (nI i) (fk_bI (fk_dr g i)) (nI n) (nI b) (nI (2 + 8 * n + 4 * b)) f g sv ct := by
  have ⟨a3, a12, a2, a24⟩ := H
  unfold wY_check_62
  unfold fk_k4 at h
  refine fy_inUse H i hi hn rfl ?_
  refine fk_br0 (fun e => ?_) (fun e => ?_)
  · rw [e, Bool.false_and, Bool.or_false] at h
    exact fy_c84 c1 c2 c3 c4 c5 c6 H i hi hn h
  · refine fy_ds H i hi hn rfl (fun x hx => ?_)
    rcases fk_ur_c a12 hx with ⟨c, d⟩ | ⟨c, d⟩
    · rw [e, c, Bool.and_true, Bool.or_true] at h
      exact br_t d (nm_r (fk_cb8 _ _ _ _ _ _) (fy_c84 c1 c2 c3 true c5 c6 H i hi hn h))
    · rw [c, Bool.and_false, Bool.or_false] at h
      exact br_f (by intro z; rw [z] at d; exact absurd d (by decide)) (fy_c84 c1 c2 c3 c4 c5 c6 H i hi hn h)
theorem fy_c40 {J : Int32 → Int32 → Prop} (c1 c2 c3 c4 c5 c6 : Bool) (H : fk_ok n b) (i : Nat) (hi : 1 ≤ i) (hn : i ≤ n) (h : J (fk_cb c1 c2 (c3 || fk_k3 g n b i) (c4 || fk_k4 g n b i) (c5 || fk_k5 g n b i) c6) (nI (i + 1))) : wY_check_40 post J (fk_cb c1 c2 c3 c4 c5 c6) (nI i) (fk_bI (fk_dr g i)) (nI n) (nI b) (nI (2 + 8 * n + 4 * b)) f g sv ct := by
  have ⟨a3, a12, a2, a24⟩ := H
  have hl := fk_rf_le (g := g) (n := n) (b := b) (x := i)
  unfold wY_check_40
  refine fk_br0 (fun e => ?_) (fun e => ?_)
  · have z : fk_k3 g n b i = false := by unfold fk_k3; rw [e]; rfl
    rw [z, Bool.or_false] at h
    exact fy_c62 c1 c2 c3 c4 c5 c6 H i hi hn h
  · refine pk_lt i 3 (fun c => ?_) (fun c => ?_)
    · have z : fk_k3 g n b i = false := by unfold fk_k3; rw [decide_eq_false (show ¬ 3 ≤ i by omega), Bool.false_and, Bool.and_false]
      rw [z, Bool.or_false] at h
      exact fy_c62 c1 c2 c3 c4 c5 c6 H i hi hn h
    · refine fy_rf H i hi hn rfl ?_
      refine pk_lt (fk_rf g n b i) 2 (fun c2 => ?_) (fun c2 => ?_)
      · have z : fk_k3 g n b i = false := by unfold fk_k3; rw [decide_eq_false (show ¬ 2 ≤ fk_rf g n b i by omega), Bool.and_false, Bool.and_false]
        rw [z, Bool.or_false] at h
        exact fy_c62 c1 _ c3 c4 c5 c6 H i hi hn h
      · have z : fk_k3 g n b i = true := by unfold fk_k3; rw [e, decide_eq_true c2, decide_eq_true c]; rfl
        rw [z, Bool.or_true] at h
        exact nm_r (fk_cb4 _ _ _ _ _ _) (fy_c62 c1 _ true c4 c5 c6 H i hi hn h)
theorem fy_c27 {J : Int32 → Int32 → Prop} (c1 c2 c3 c4 c5 c6 : Bool) (H : fk_ok n b) (i : Nat) (hi : 1 ≤ i) (hn : i ≤ n) (h : J (fk_cb (c1 || fk_nB g b i) c2 (c3 || fk_k3 g n b i) (c4 || fk_k4 g n b i) (c5 || fk_k5 g n b i) c6) (nI (i + 1))) : wY_check_27 post J (fk_cb c1 c2 c3 c4 c5 c6) (nI i) (fk_bI (fk_dr g i)) (nI n) (nI b) (nI (2 + 8 * n + 4 * b)) f g sv ct := by
  unfold wY_check_27
  refine fy_nB H i hi hn rfl ?_
  refine fk_br0 (fun e => ?_) (fun e => ?_)
  · rw [e, Bool.or_false] at h
    exact fy_c40 c1 c2 c3 c4 c5 c6 H i hi hn h
  · rw [e, Bool.or_true] at h
    exact nm_r (fk_cb1 _ _ _ _ _ _) (fy_c40 true c2 c3 c4 c5 c6 H i hi hn h)
theorem fy_c171 (c1 c2 c3 c4 c5 : Bool) (H : fk_ok n b) (h : post (fk_cb c1 c2 (c3 || fk_an (fk_kp g n b) 0 (16 * n)) c4 c5 (fk_k6 g n b))) : ∃ k, wY_check_171 post (nI n) (nI b) (nI (2 + 8 * n + 4 * b)) f g sv ct k (fk_cb c1 c2 c3 c4 c5 false) 0 := by
  have ⟨a3, a12, a2, a24⟩ := H
  refine pk_loop (fun k p (r : Int32) => wY_check_171 post (nI n) (nI b) (nI (2 + 8 * n + 4 * b)) f g sv ct k r (nI p)) (fun p r => r = fk_cb c1 c2 (c3 || fk_an (fk_kp g n b) 0 p) c4 c5 false) (16 * n) 0 _ (by omega) (by show _ = fk_cb c1 c2 (c3 || false) c4 c5 false; rw [Bool.or_false]) (fun k r hr => ?_) (fun k p r hp hr hw => ?_)
  · refine pk_le (16 * n) (16 * n) (fun _ => ?_) (fun c => absurd c (by omega)) (fk_16m n)
    subst hr
    unfold fk_k6 at h
    refine fy_nM H ?_
    refine br_c (fun e => ?_) (fun e => ?_)
    · rw [decide_eq_true e, Bool.not_true, Bool.false_or] at h
      refine fy_bM H ?_
      refine br_c (fun e2 => ?_) (fun e2 => ?_)
      · rw [decide_eq_true e2, Bool.not_true] at h
        exact h
      · rw [decide_eq_false e2, Bool.not_false] at h
        exact nm_r (fk_cb32 _ _ _ _ _ _) h
    · rw [decide_eq_false e, Bool.not_false, Bool.true_or] at h
      exact nm_r (fk_cb32 _ _ _ _ _ _) h
  · refine pk_le (16 * n) p (fun c => absurd c (by omega)) (fun _ => ?_) (fk_16m n)
    subst hr
    have E : fk_an (fk_kp g n b) 0 (p + 1) = (fk_an (fk_kp g n b) 0 p || (fk_bw g n b p || fk_rp g n b p)) := by
      show (fk_an (fk_kp g n b) 0 p || fk_kp g n b (0 + p)) = _
      rw [Nat.zero_add]; rfl
    have hw2 := hw (fk_cb c1 c2 ((c3 || fk_an (fk_kp g n b) 0 p) || (fk_bw g n b p || fk_rp g n b p)) c4 c5 false) (by rw [E, Bool.or_assoc])
    generalize (c3 || fk_an (fk_kp g n b) 0 p) = c at hw2 ⊢
    have tail : ∀ c' : Bool, c' = (c || fk_bw g n b p) → wY_check_213 post (wY_check_171 post (nI n) (nI b) (nI (2 + 8 * n + 4 * b)) f g sv ct k) (fk_cb c1 c2 c' c4 c5 false) (nI p) (nI n) (nI b) (nI (2 + 8 * n + 4 * b)) f g sv ct := by
      intro c' hc'
      rw [← Bool.or_assoc, ← hc'] at hw2
      unfold wY_check_213
      refine fy_rp H p hp rfl ?_
      refine fk_br0 (fun e => ?_) (fun e => ?_)
      · rw [e, Bool.or_false] at hw2
        exact nm_r (nI_1 p) hw2
      · rw [e, Bool.or_true] at hw2
        exact nm_r (fk_cb4 _ _ _ _ _ _) (nm_r (nI_1 p) hw2)
    have hl := fk_pl_lt (g := g) p H
    have ht := fk_tg_le (g := g) p H
    refine fy_pl H p hp rfl ?_
    refine pk_eq (fk_pl g n b p) 0 (fun e => ?_) (fun e => ?_)
    · exact tail c (by unfold fk_bw; rw [decide_eq_true e]; exact (Bool.or_false c).symm)
    · refine ⟨vp_in_nI hl (by decide), ?_⟩
      rw [nI_clamp (by omega)]
      refine br_c (fun e2 => ?_) (fun e2 => ?_)
      · exact tail c (by unfold fk_bw; rw [decide_eq_true e2, Bool.not_true, Bool.false_and, Bool.and_false, Bool.or_false])
      · refine fy_tg H p hp rfl ?_
        refine pk_eq (fk_tg g n b p) 0 (fun e3 => ?_) (fun e3 => ?_)
        · exact nm_r (fk_cb4 _ _ _ _ _ _) (tail true (by unfold fk_bw; rw [decide_eq_false e, decide_eq_false e2, decide_eq_true e3]; exact (Bool.or_true c).symm))
        · exact tail c (by unfold fk_bw; rw [decide_eq_false e3, Bool.and_false, Bool.and_false, Bool.or_false])
theorem fy_c142 (c1 c3 c4 c5 : Bool) (H : fk_ok n b) (h : post (fk_cb c1 (fk_du g n b) (c3 || fk_an (fk_kp g n b) 0 (16 * n)) c4 c5 (fk_k6 g n b))) : ∃ k, wY_check_142 post (nI n) (nI b) (nI (2 + 8 * n + 4 * b)) f g sv ct k (fk_cb c1 false c3 c4 c5 false) 1 := by
  have ⟨a3, a12, a2, a24⟩ := H
  refine pk_loop (fun k x (r : Int32) => wY_check_142 post (nI n) (nI b) (nI (2 + 8 * n + 4 * b)) f g sv ct k r (nI x)) (fun x r => 1 ≤ x ∧ r = fk_cb c1 (fk_an (fun x => decide (2 ≤ fk_cm g n b x)) 1 (x - 1)) c3 c4 c5 false) (b + 1) 1 _ (by omega) ⟨by omega, rfl⟩ (fun k r hr => ?_) (fun k x r hx hr hw => ?_)
  · refine pk_lt b (b + 1) (fun _ => ?_) (fun c => absurd c (by omega))
    rw [hr.2]
    exact fy_c171 c1 _ c3 c4 c5 H h
  · refine pk_lt b x (fun c => absurd c (by omega)) (fun _ => ?_)
    obtain ⟨x, rfl⟩ : ∃ j, x = j + 1 := ⟨x - 1, by omega⟩
    have hl := fk_cm_le (g := g) (n := n) (b := b) (x := x + 1)
    have E : fk_an (fun x => decide (2 ≤ fk_cm g n b x)) 1 (x + 1) = (fk_an (fun x => decide (2 ≤ fk_cm g n b x)) 1 x || decide (2 ≤ fk_cm g n b (x + 1))) := by
      show (fk_an _ 1 x || decide (2 ≤ fk_cm g n b (1 + x))) = _
      rw [Nat.add_comm 1 x]
    have hr2 : r = fk_cb c1 (fk_an (fun x => decide (2 ≤ fk_cm g n b x)) 1 x) c3 c4 c5 false := hr.2
    refine fy_cm H (x + 1) (by omega) (by omega) rfl ?_
    refine pk_lt (fk_cm g n b (x + 1)) 2 (fun c => ?_) (fun c => ?_)
    · refine nm_r (nI_1 _) (hw r ⟨by omega, ?_⟩)
      show r = fk_cb c1 (fk_an (fun x => decide (2 ≤ fk_cm g n b x)) 1 (x + 1)) c3 c4 c5 false
      rw [E, decide_eq_false (show ¬ 2 ≤ fk_cm g n b (x + 1) by omega), Bool.or_false]
      exact hr2
    · refine nm_e (nm_r (nI_1 _) (hw _ ⟨by omega, ?_⟩))
      show _ = fk_cb c1 (fk_an (fun x => decide (2 ≤ fk_cm g n b x)) 1 (x + 1)) c3 c4 c5 false
      rw [E, decide_eq_true c, Bool.or_true, hr2, fk_cb2]
theorem fy_check (H : fk_ok n b) (h : post (fk_cb (fk_an (fk_nB g b) 1 n) (fk_du g n b) (fk_q3 g n b) (fk_an (fk_k4 g n b) 1 n) (fk_an (fk_k5 g n b) 1 n) (fk_k6 g n b))) : wpY_check post (nI n, nI b, nI (2 + 8 * n + 4 * b), f, g, sv, ct) := by
  have ⟨a3, a12, a2, a24⟩ := H
  unfold wpY_check
  dsimp only
  refine pk_loop (fun k i (r : Int32) => wY_check_4 post (nI n) (nI b) (nI (2 + 8 * n + 4 * b)) f g sv ct k r (nI i)) (fun i r => 1 ≤ i ∧ r = fk_cb (fk_an (fk_nB g b) 1 (i - 1)) false (fk_an (fk_k3 g n b) 1 (i - 1)) (fk_an (fk_k4 g n b) 1 (i - 1)) (fk_an (fk_k5 g n b) 1 (i - 1)) false) (n + 1) 1 0 (by omega) ⟨by omega, by show (0 : Int32) = fk_cb false false false false false false; decide⟩ (fun k r hr => ?_) (fun k i r hi hr hw => ?_)
  · refine pk_lt n (n + 1) (fun _ => ?_) (fun c => absurd c (by omega))
    rw [hr.2]
    exact fy_c142 _ _ _ _ H h
  · refine pk_lt n i (fun c => absurd c (by omega)) (fun _ => ?_)
    obtain ⟨i, rfl⟩ : ∃ j, i = j + 1 := ⟨i - 1, by omega⟩
    have hw2 := hw _ ⟨by omega, rfl⟩
    have hr2 : r = fk_cb (fk_an (fk_nB g b) 1 i) false (fk_an (fk_k3 g n b) 1 i) (fk_an (fk_k4 g n b) 1 i) (fk_an (fk_k5 g n b) 1 i) false := hr.2
    have E : ∀ P : Nat → Bool, fk_an P 1 (i + 1 + 1 - 1) = (fk_an P 1 i || P (i + 1)) := by
      intro P
      show (fk_an P 1 i || P (1 + i)) = _
      rw [Nat.add_comm 1 i]
    rw [E, E, E, E] at hw2
    rw [hr2]
    refine fy_field H (i + 1) 0 (by omega) (by omega) (by omega) rfl rfl ?_
    have hx := fy_c27 (J := wY_check_4 post (nI n) (nI b) (nI (2 + 8 * n + 4 * b)) f g sv ct k) (post := post) (f := f) (sv := sv) (ct := ct) _ _ _ _ _ _ H (i + 1) (by omega) (by omega) hw2
    refine br_c (fun e => ?_) (fun e => ?_)
    · have e2 : fk_dr g (i + 1) = true := decide_eq_true e
      rw [e2] at hx
      exact hx
    · have e2 : fk_dr g (i + 1) = false := decide_eq_false e
      rw [e2] at hx
      exact hx
end FC
end
section
/-! repair: iteration, stage 1 -/
abbrev fk_St : Type := (Nat → Int32) × (Nat → Int32)
def fk_it {σ : Type} (F : Nat → σ → σ) (i : Nat) (s : σ) : Nat → σ
  | 0 => s
  | k + 1 => F (i + k) (fk_it F i s k)
theorem fk_iter {σ : Type} (W : Nat → Nat → σ → Prop) (F : Nat → σ → σ) (i d : Nat) (s : σ) (hend : ∀ k, W (k + 1) (i + d) (fk_it F i s d))
    (hstep : ∀ k p t, i ≤ p → p < i + d → W k (p + 1) (F p t) → W (k + 1) p t) : ∃ k, W k i s := by
  refine pk_loop W (fun p t => i ≤ p ∧ t = fk_it F i s (p - i)) (i + d) i s (by omega) ⟨Nat.le_refl i, by rw [Nat.sub_self]; rfl⟩ (fun k t ht => ?_) (fun k p t hp ht hw => ?_)
  · have := ht.2
    rw [show i + d - i = d by omega] at this
    rw [this]
    exact hend k
  · refine hstep k p t ht.1 hp (hw _ ⟨by omega, ?_⟩)
    rw [show p + 1 - i = (p - i) + 1 by omega]
    show F p t = F (i + (p - i)) (fk_it F i s (p - i))
    rw [← ht.2, show i + (p - i) = p by omega]
theorem fk_iterI {σ : Type} (W : Nat → Nat → σ → Prop) (F : Nat → σ → σ) (I : Nat → σ → Prop) (i d : Nat) (s : σ) (h0 : I i s) (hI : ∀ p t, i ≤ p → p < i + d → I p t → I (p + 1) (F p t)) (hend : ∀ k, W (k + 1) (i + d) (fk_it F i s d))
    (hstep : ∀ k p t, i ≤ p → p < i + d → I p t → W k (p + 1) (F p t) → W (k + 1) p t) : ∃ k, W k i s := by
  refine pk_loop W (fun p t => i ≤ p ∧ t = fk_it F i s (p - i) ∧ I p t) (i + d) i s (by omega) ⟨Nat.le_refl i, by rw [Nat.sub_self]; rfl, h0⟩ (fun k t ht => ?_) (fun k p t hp ht hw => ?_)
  · have := ht.2.1
    rw [show i + d - i = d by omega] at this
    rw [this]
    exact hend k
  · refine hstep k p t ht.1 hp ht.2.2 (hw _ ⟨by omega, ?_, hI p t ht.1 hp ht.2.2⟩)
    rw [show p + 1 - i = (p - i) + 1 by omega]
    show F p t = F (i + (p - i)) (fk_it F i s (p - i))
    rw [← ht.2.1, show i + (p - i) = p by omega]
def fk_cz (g : Nat → Int32) (i : Nat) : Nat → Nat → Int32
  | 0 => g
  | k + 1 => upd (fk_cz g i k) (fk_ad i k) 0
theorem fk_cz_e (g : Nat → Int32) (i k a : Nat) : fk_cz g i k a = if fk_ad i 0 ≤ a ∧ a < fk_ad i 0 + k then 0 else g a := by
  induction k with
  | zero =>
    rw [if_neg (by omega)]; rfl
  | succ k ih =>
    have e : fk_ad i k = fk_ad i 0 + k := rfl
    by_cases c : a = fk_ad i k
    · show upd (fk_cz g i k) (fk_ad i k) 0 a = _
      rw [c, pk_us, if_pos (by omega)]
    · show upd (fk_cz g i k) (fk_ad i k) 0 a = _
      rw [pk_un c, ih]
      by_cases c2 : fk_ad i 0 ≤ a ∧ a < fk_ad i 0 + k
      · rw [if_pos c2, if_pos (by omega)]
      · rw [if_neg c2, if_neg (by omega)]
theorem fk_cz_cz (g : Nat → Int32) (i : Nat) : fk_cz (fk_cz g i 8) i 8 = fk_cz g i 8 := by
  funext a
  rw [fk_cz_e, fk_cz_e]
  by_cases c : fk_ad i 0 ≤ a ∧ a < fk_ad i 0 + 8
  · rw [if_pos c, if_pos c]
  · rw [if_neg c]
theorem fk_cz_0 (g : Nat → Int32) (i k : Nat) (hk : k < 8) : fk_cz g i 8 (fk_ad i k) = 0 := by
  rw [fk_cz_e, if_pos]
  unfold fk_ad
  omega
def fk_md1 (i : Nat) (s : fk_St) : fk_St :=
  if i ≤ 2 then (if s.1 (fk_ad i 0) = 2 then s else (upd (fk_cz s.1 i 8) (fk_ad i 0) 2, upd s.2 0 (s.2 0 + 1)))
  else if s.1 (fk_ad i 0) = 1 ∨ s.1 (fk_ad i 0) = 2 then s else if s.1 (fk_ad i 0) = 0 then (fk_cz s.1 i 8, s.2) else (fk_cz s.1 i 8, upd s.2 0 (s.2 0 + 1))
def fk_pt1 (b i : Nat) (k : Nat) (s : fk_St) : fk_St := if fk_ib b (s.1 (fk_ad i (4 + k))) = true then s else (upd s.1 (fk_ad i (4 + k)) 0, upd s.2 1 (s.2 1 + 1))
def fk_sz1 (b i : Nat) (g : Nat → Int32) : Nat → Int32 :=
  if fk_dr g i = true then upd g (fk_ad i 3) 0
  else if fk_bf (upd g (fk_ad i 2) 0) b i = true then upd (upd g (fk_ad i 2) 0) (fk_ad i 3) (if fk_nd g b i 4 = 0 then 0 else nI (fk_nd g b i 4 + 3)) else upd g (fk_ad i 2) 0
def fk_st1 (b i : Nat) (s : fk_St) : fk_St :=
  if fk_iu (fk_md1 i s).1 i = true then (fk_sz1 b i (fk_it (fk_pt1 b i) 0 (fk_md1 i s) 4).1, (fk_it (fk_pt1 b i) 0 (fk_md1 i s) 4).2) else fk_md1 i s
theorem fk_pt1_0 {b i k : Nat} {s : fk_St} (hk : k ≤ 4) (a : Nat) (ha : ∀ l, l < 4 → a ≠ fk_ad i (4 + l)) : (fk_it (fk_pt1 b i) 0 s k).1 a = s.1 a := by
  induction k with
  | zero => rfl
  | succ k ih =>
    show (fk_pt1 b i (0 + k) (fk_it (fk_pt1 b i) 0 s k)).1 a = _
    unfold fk_pt1
    split
    · exact ih (by omega)
    · show upd _ _ _ a = _
      rw [pk_un (ha (0 + k) (by omega))]
      exact ih (by omega)
section FS1
variable {n b : Nat} {f : Int32} {g sv ct lv : Nat → Int32}
theorem fx_clear {pst : SX → Prop} {P : Int32} (H : fk_ok n b) (i : Nat) (hi : 1 ≤ i) (hn : i ≤ n) (hP : P = nI i) (h : pst (nI n, nI b, nI (2 + 8 * n + 4 * b), f, fk_cz g i 8, sv, ct, lv)) : wpX_clearNode pst (nI n, nI b, nI (2 + 8 * n + 4 * b), f, g, sv, ct, lv) P := by
  subst hP
  unfold wpX_clearNode
  dsimp only
  refine pk_loop (fun m k (q : Nat → Int32) => wX_clearNode_2 pst (nI i) m (nI k) (nI n) (nI b) (nI (2 + 8 * n + 4 * b)) f q sv ct lv) (fun k q => q = fk_cz g i k) 8 0 g (by omega) rfl (fun m q hq => ?_) (fun m k q hk hq hw => ?_)
  · subst hq
    exact br_t (nI_le (a := 8) (b := 8) (by omega) (by omega)) h
  · refine br_f (nI_ge (b := 8) hk (by omega)) ?_
    subst hq
    refine fx_set H i k hi hn hk rfl rfl ?_
    exact nm_r (nI_1 k) (hw _ rfl)
theorem fy_clear {pst : SY → Prop} {P : Int32} (H : fk_ok n b) (i : Nat) (hi : 1 ≤ i) (hn : i ≤ n) (hP : P = nI i) (h : pst (nI n, nI b, nI (2 + 8 * n + 4 * b), f, fk_cz g i 8, sv, ct)) : wpY_clear pst (nI n, nI b, nI (2 + 8 * n + 4 * b), f, g, sv, ct) P := by
  subst hP
  unfold wpY_clear
  dsimp only
  refine pk_loop (fun m k (q : Nat → Int32) => wY_clear_2 pst (nI i) m (nI k) (nI n) (nI b) (nI (2 + 8 * n + 4 * b)) f q sv ct) (fun k q => q = fk_cz g i k) 8 0 g (by omega) rfl (fun m q hq => ?_) (fun m k q hk hq hw => ?_)
  · subst hq
    exact br_t (nI_le (a := 8) (b := 8) (by omega) (by omega)) h
  · refine br_f (nI_ge (b := 8) hk (by omega)) ?_
    subst hq
    refine fy_set H i k hi hn hk rfl rfl ?_
    exact nm_r (nI_1 k) (hw _ rfl)
theorem fx_mode {pst : SX → Prop} {P : Int32} (H : fk_ok n b) (i : Nat) (hi : 1 ≤ i) (hn : i ≤ n) (hP : P = nI i) (h : pst (nI n, nI b, nI (2 + 8 * n + 4 * b), f, (fk_md1 i (g, ct)).1, sv, (fk_md1 i (g, ct)).2, lv)) : wpX_repairMode pst (nI n, nI b, nI (2 + 8 * n + 4 * b), f, g, sv, ct, lv) P := by
  have ⟨a3, a12, a2, a24⟩ := H
  subst hP
  unfold wpX_repairMode
  dsimp only
  refine fx_field H i 0 hi hn (by omega) rfl rfl ?_
  refine pk_lt 2 i (fun c => ?_) (fun c => ?_)
  · by_cases e1 : g (fk_ad i 0) = 1
    · have E : fk_md1 i (g, ct) = (g, ct) := by
        unfold fk_md1
        rw [if_neg (by omega), if_pos (Or.inl e1)]
      rw [E] at h
      exact br_t e1 h
    · refine br_f e1 ?_
      by_cases e2 : g (fk_ad i 0) = 2
      · have E : fk_md1 i (g, ct) = (g, ct) := by
          unfold fk_md1
          rw [if_neg (by omega), if_pos (Or.inr e2)]
        rw [E] at h
        exact br_t e2 h
      · refine br_f e2 ?_
        have nn : ¬ (g (fk_ad i 0) = 1 ∨ g (fk_ad i 0) = 2) := fun z => by rcases z with z | z; exact e1 z; exact e2 z
        by_cases e3 : g (fk_ad i 0) = 0
        · have E : fk_md1 i (g, ct) = (fk_cz g i 8, ct) := by
            unfold fk_md1
            rw [if_neg (by omega), if_neg nn, if_pos e3]
          rw [E] at h
          refine br_t e3 ?_
          unfold wX_repairMode_65
          exact fx_clear H i hi hn rfl h
        · have E : fk_md1 i (g, ct) = (fk_cz g i 8, upd ct 0 (ct 0 + 1)) := by
            unfold fk_md1
            rw [if_neg (by omega), if_neg nn, if_neg e3]
          rw [E] at h
          refine br_f e3 (nm_e ?_)
          unfold wX_repairMode_65
          exact fx_clear H i hi hn rfl h
  · by_cases e2 : g (fk_ad i 0) = 2
    · have E : fk_md1 i (g, ct) = (g, ct) := by
        unfold fk_md1
        rw [if_pos c, if_pos e2]
      rw [E] at h
      exact br_t e2 h
    · have E : fk_md1 i (g, ct) = (upd (fk_cz g i 8) (fk_ad i 0) 2, upd ct 0 (ct 0 + 1)) := by
        unfold fk_md1
        rw [if_pos c, if_neg e2]
      rw [E] at h
      refine br_f e2 ?_
      refine fx_clear H i hi hn rfl ?_
      refine fx_set H i 0 hi hn (by omega) rfl rfl ?_
      exact nm_e h
theorem fx_ptr {pst : SX → Prop} {P : Int32} (H : fk_ok n b) (i : Nat) (hi : 1 ≤ i) (hn : i ≤ n) (hP : P = nI i) (h : pst (nI n, nI b, nI (2 + 8 * n + 4 * b), f, (fk_it (fk_pt1 b i) 0 (g, ct) 4).1, sv, (fk_it (fk_pt1 b i) 0 (g, ct) 4).2, lv)) : wpX_repairPointers pst (nI n, nI b, nI (2 + 8 * n + 4 * b), f, g, sv, ct, lv) P := by
  subst hP
  unfold wpX_repairPointers
  dsimp only
  refine fk_iter (fun m k (s : fk_St) => wX_repairPointers_2 pst (nI i) m (nI k) (nI n) (nI b) (nI (2 + 8 * n + 4 * b)) f s.1 sv s.2 lv) (fk_pt1 b i) 0 4 (g, ct) (fun m => ?_) (fun m k s h1 h2 hw => ?_)
  · exact br_t (nI_le (a := 4) (b := 4) (by omega) (by omega)) h
  · obtain ⟨g, ct⟩ := s
    refine br_f (nI_ge (b := 4) h2 (by omega)) ?_
    have bad : fk_ib b (g (fk_ad i (4 + k))) = false → wX_repairPointers_28 pst (wX_repairPointers_2 pst (nI i) m) (nI i) (nI k) (nI n) (nI b) (nI (2 + 8 * n + 4 * b)) f g sv ct lv := by
      intro e
      have E : fk_pt1 b i k (g, ct) = (upd g (fk_ad i (4 + k)) 0, upd ct 1 (ct 1 + 1)) := if_neg (by rw [e]; decide)
      rw [E] at hw
      unfold wX_repairPointers_28
      refine fx_set H i (4 + k) hi hn (by omega) rfl (fk_4a k) ?_
      exact nm_e (nm_r (nI_1 k) hw)
    refine fx_field H i (4 + k) hi hn (by omega) rfl (fk_4a k) ?_
    refine br_c (fun e => ?_) (fun e => br_c (fun e2 => ?_) (fun e2 => ?_))
    · exact bad (by unfold fk_ib; rw [decide_eq_true e]; rfl)
    · have E : fk_pt1 b i k (g, ct) = (g, ct) := if_pos (by unfold fk_ib; rw [decide_eq_false e]; exact decide_eq_true e2)
      rw [E] at hw
      exact nm_r (nI_1 k) hw
    · exact bad (by unfold fk_ib; rw [decide_eq_false e2, Bool.and_false])
theorem fx_size {pst : SX → Prop} {P : Int32} (H : fk_ok n b) (i : Nat) (hi : 1 ≤ i) (hn : i ≤ n) (hP : P = nI i) (h : pst (nI n, nI b, nI (2 + 8 * n + 4 * b), f, fk_sz1 b i g, sv, ct, lv)) : wpX_repairSize pst (nI n, nI b, nI (2 + 8 * n + 4 * b), f, g, sv, ct, lv) P := by
  have ⟨a3, a12, a2, a24⟩ := H
  subst hP
  unfold wpX_repairSize
  dsimp only
  unfold fk_sz1 at h
  refine fx_isDir H i hi hn rfl ?_
  refine fk_br0 (fun e => ?_) (fun e => ?_)
  · rw [e, if_neg (by decide)] at h
    refine fx_set H i 2 hi hn (by omega) rfl rfl ?_
    refine fx_bf H i hi hn rfl ?_
    have en : fk_nd (upd g (fk_ad i 2) 0) b i 4 = fk_nd g b i 4 := fk_nd_congr (by omega) (fun k k1 k2 => pk_un (fk_ad_ne k2 (by omega) (by omega)))
    have hl := fk_nd_le (g := g) (b := b) (i := i) (s := 4)
    refine fk_br0 (fun e2 => ?_) (fun e2 => ?_)
    · rw [e2, if_neg (by decide)] at h
      exact h
    · rw [e2, if_pos rfl] at h
      refine fx_nd H i hi hn rfl ?_
      rw [en]
      refine pk_eq (fk_nd g b i 4) 0 (fun e3 => ?_) (fun e3 => ?_)
      · rw [if_pos e3] at h
        unfold wX_repairSize_47
        exact fx_set H i 3 hi hn (by omega) rfl rfl h
      · rw [if_neg e3] at h
        refine nm_r (nI_add _ 3) ?_
        unfold wX_repairSize_47
        exact fx_set H i 3 hi hn (by omega) rfl rfl h
  · rw [e, if_pos rfl] at h
    exact fx_set H i 3 hi hn (by omega) rfl rfl h
theorem fx_stage1 {pst : SX → Prop} (H : fk_ok n b) (h : pst (nI n, nI b, nI (2 + 8 * n + 4 * b), f, (fk_it (fk_st1 b) 1 (g, ct) n).1, sv, (fk_it (fk_st1 b) 1 (g, ct) n).2, lv)) : wpX_repairInodes pst (nI n, nI b, nI (2 + 8 * n + 4 * b), f, g, sv, ct, lv) := by
  have ⟨a3, a12, a2, a24⟩ := H
  unfold wpX_repairInodes
  dsimp only
  refine fk_iter (fun m i (s : fk_St) => wX_repairInodes_2 pst m (nI i) (nI n) (nI b) (nI (2 + 8 * n + 4 * b)) f s.1 sv s.2 lv) (fk_st1 b) 1 n (g, ct) (fun m => ?_) (fun m i s h1 h2 hw => ?_)
  · exact pk_lt n (1 + n) (fun _ => h) (fun c => absurd c (by omega))
  · obtain ⟨g, ct⟩ := s
    refine pk_lt n i (fun c => absurd c (by omega)) (fun _ => ?_)
    refine fx_mode H i h1 (by omega) rfl ?_
    unfold fk_st1 at hw
    generalize fk_md1 i (g, ct) = s1 at hw ⊢
    obtain ⟨g1, ct1⟩ := s1
    dsimp only at hw ⊢
    refine fx_inUse H i h1 (by omega) rfl ?_
    refine fk_br0 (fun e => ?_) (fun e => ?_)
    · rw [if_neg (by rw [e]; decide)] at hw
      dsimp only at hw
      exact nm_r (nI_1 i) hw
    · rw [if_pos e] at hw
      refine fx_ptr H i h1 (by omega) rfl ?_
      generalize fk_it (fk_pt1 b i) 0 (g1, ct1) 4 = s2 at hw ⊢
      obtain ⟨g2, ct2⟩ := s2
      dsimp only at hw ⊢
      refine fx_size H i h1 (by omega) rfl ?_
      exact nm_r (nI_1 i) hw
/-! Y's stage 1 -/
theorem fy_188 {pst : SY → Prop} (H : fk_ok n b) (i m : Nat) (hi : 1 ≤ i) (hn : i ≤ n) (hm : m < 100) (h : pst (nI n, nI b, nI (2 + 8 * n + 4 * b), f, upd g (fk_ad i 3) (if m = 0 then 0 else nI (m + 3)), sv, ct)) : wY_repairInode_188 pst (nI i) (nI m) (nI n) (nI b) (nI (2 + 8 * n + 4 * b)) f g sv ct := by
  unfold wY_repairInode_188
  refine pk_eq m 0 (fun e => ?_) (fun e => ?_)
  · rw [if_pos e] at h
    unfold wY_repairInode_202
    exact fy_set H i 3 hi hn (by omega) rfl rfl h
  · rw [if_neg e] at h
    have e2 : nI m + 3 = nI (m + 3) := nI_add m 3
    rw [e2]
    unfold wY_repairInode_202
    exact fy_set H i 3 hi hn (by omega) rfl rfl h
theorem fy_149 {pst : SY → Prop} (H : fk_ok n b) (i : Nat) (hi : 1 ≤ i) (hn : i ≤ n) (hm : g (fk_ad i 0) = 1) (h : pst (nI n, nI b, nI (2 + 8 * n + 4 * b), f, fk_sz1 b i g, sv, ct)) : wY_repairInode_149 pst (nI i) 1 (nI n) (nI b) (nI (2 + 8 * n + 4 * b)) f g sv ct := by
  unfold wY_repairInode_149
  refine br_t rfl ?_
  have hu : fk_iu g i = true := by unfold fk_iu fk_fl; rw [decide_eq_true hm]; rfl
  have hd : fk_dr g i = false := decide_eq_false (by rw [hm]; decide)
  unfold fk_sz1 at h
  rw [hd, if_neg (by decide)] at h
  refine fy_nd H i hi hn hu rfl ?_
  refine fy_set H i 2 hi hn (by omega) rfl rfl ?_
  refine fy_field H i 3 hi hn (by omega) rfl rfl ?_
  have en : fk_nd (upd g (fk_ad i 2) 0) b i 4 = fk_nd g b i 4 := fk_nd_congr (by omega) (fun k k1 k2 => pk_un (fk_ad_ne k2 (by omega) (by omega)))
  have hl := fk_nd_le (g := g) (b := b) (i := i) (s := 4)
  unfold fk_bf at h
  rw [en] at h
  refine br_c (fun e => ?_) (fun e => ?_)
  · rw [decide_eq_false (Int32.not_le.mpr e), Bool.not_false, Bool.or_true, if_pos rfl] at h
    exact fy_188 H i _ hi hn (by omega) h
  · rw [decide_eq_true (Int32.not_lt.mp e), Bool.not_true, Bool.or_false] at h
    refine fy_field H i 3 hi hn (by omega) rfl rfl ?_
    refine br_c (fun e2 => ?_) (fun e2 => ?_)
    · rw [decide_eq_false (Int32.not_lt.mpr e2), if_neg (by decide)] at h
      exact h
    · rw [decide_eq_true (Int32.not_le.mp e2), if_pos rfl] at h
      exact fy_188 H i _ hi hn (by omega) h
theorem fy_149n {pst : SY → Prop} {x2 : Int32} (i : Nat) (hx : ¬ x2 = 1) (h : pst (nI n, nI b, nI (2 + 8 * n + 4 * b), f, g, sv, ct)) : wY_repairInode_149 pst (nI i) x2 (nI n) (nI b) (nI (2 + 8 * n + 4 * b)) f g sv ct := by
  unfold wY_repairInode_149
  exact br_f hx h
/-- the pointers of inode i, and then -/
theorem fy_86 {pst : SY → Prop} {x2 : Int32} (H : fk_ok n b) (i : Nat) (hi : 1 ≤ i) (hn : i ≤ n) (h : ∀ m, wY_repairInode_86 pst (nI i) x2 (m + 1) (nI (4 + 4)) (nI n) (nI b) (nI (2 + 8 * n + 4 * b)) f ((fk_it (fk_pt1 b i) 0 (g, ct) 4).1) sv ((fk_it (fk_pt1 b i) 0 (g, ct) 4).2)) : ∃ m, wY_repairInode_86 pst (nI i) x2 m 4 (nI n) (nI b) (nI (2 + 8 * n + 4 * b)) f g sv ct := by
  refine fk_iter (fun m k (s : fk_St) => wY_repairInode_86 pst (nI i) x2 m (nI (4 + k)) (nI n) (nI b) (nI (2 + 8 * n + 4 * b)) f s.1 sv s.2) (fk_pt1 b i) 0 4 (g, ct) h (fun m k s h1 h2 hw => ?_)
  obtain ⟨g, ct⟩ := s
  refine br_f (nI_ge (b := 8) (by omega) (by omega)) ?_
  have bad : fk_ib b (g (fk_ad i (4 + k))) = false → wY_repairInode_114 pst (wY_repairInode_86 pst (nI i) x2 m) (nI i) x2 (nI (4 + k)) (nI n) (nI b) (nI (2 + 8 * n + 4 * b)) f g sv ct := by
    intro e
    have E : fk_pt1 b i k (g, ct) = (upd g (fk_ad i (4 + k)) 0, upd ct 1 (ct 1 + 1)) := if_neg (by rw [e]; decide)
    rw [E] at hw
    unfold wY_repairInode_114
    refine fy_set H i (4 + k) hi hn (by omega) rfl rfl ?_
    exact nm_e (nm_r (nI_1 (4 + k)) hw)
  refine fy_field H i (4 + k) hi hn (by omega) rfl rfl ?_
  refine br_c (fun e => ?_) (fun e => ?_)
  · exact bad (by unfold fk_ib; rw [decide_eq_true e]; rfl)
  · refine fy_field H i (4 + k) hi hn (by omega) rfl rfl ?_
    refine br_c (fun e2 => ?_) (fun e2 => ?_)
    · have E : fk_pt1 b i k (g, ct) = (g, ct) := if_pos (by unfold fk_ib; rw [decide_eq_false e]; exact decide_eq_true e2)
      rw [E] at hw
      exact nm_r (nI_1 (4 + k)) hw
    · exact bad (by unfold fk_ib; rw [decide_eq_false e2, Bool.and_false])
theorem fy_68 {pst : SY → Prop} (H : fk_ok n b) (i : Nat) (hi : 1 ≤ i) (hn : i ≤ n) (hm : g (fk_ad i 0) = 1 ∨ g (fk_ad i 0) = 2) (h : pst (nI n, nI b, nI (2 + 8 * n + 4 * b), f, fk_sz1 b i (fk_it (fk_pt1 b i) 0 (g, ct) 4).1, sv, (fk_it (fk_pt1 b i) 0 (g, ct) 4).2)) : wY_repairInode_68 pst (nI i) (nI n) (nI b) (nI (2 + 8 * n + 4 * b)) f g sv ct := by
  unfold wY_repairInode_68
  refine fy_field H i 0 hi hn (by omega) rfl rfl ?_
  refine br_f (by rcases hm with e | e; rw [e]; decide; rw [e]; decide) ?_
  refine fy_86 H i hi hn (fun m => ?_)
  have e0 : (fk_it (fk_pt1 b i) 0 (g, ct) 4).1 (fk_ad i 0) = g (fk_ad i 0) := fk_pt1_0 (Nat.le_refl 4) _ (fun l hl => fk_ad_ne (by omega) (by omega) (by omega))
  generalize fk_it (fk_pt1 b i) 0 (g, ct) 4 = s at h e0
  obtain ⟨g2, ct2⟩ := s
  have e0 : g2 (fk_ad i 0) = g (fk_ad i 0) := e0
  refine br_t (nI_le (a := 8) (b := 8) (by omega) (by omega)) ?_
  rcases hm with e | e
  · rw [e]
    exact br_f (by decide) (fy_149 H i hi hn (e0.trans e) h)
  · rw [e]
    refine br_t rfl ?_
    refine fy_set H i 3 hi hn (by omega) rfl rfl ?_
    refine fy_149n i (by decide) ?_
    have hd : fk_dr g2 i = true := decide_eq_true (e0.trans e)
    unfold fk_sz1 at h
    rw [hd, if_pos rfl] at h
    exact h
theorem fk_pt_z {b i k : Nat} {s : fk_St} (hb : b < 2 ^ 31) (hk : k ≤ 4) (hz : ∀ l, l < 4 → s.1 (fk_ad i (4 + l)) = 0) : fk_it (fk_pt1 b i) 0 s k = s := by
  induction k with
  | zero => rfl
  | succ k ih =>
    show fk_pt1 b i (0 + k) (fk_it (fk_pt1 b i) 0 s k) = s
    rw [ih (by omega)]
    unfold fk_pt1
    rw [hz (0 + k) (by omega), if_pos]
    unfold fk_ib
    rw [decide_eq_false (by decide), decide_eq_true (nI_pos' hb)]
    rfl
theorem fy_68z {pst : SY → Prop} (H : fk_ok n b) (i : Nat) (hi : 1 ≤ i) (hn : i ≤ n) (hm : g (fk_ad i 0) = 0) (h : pst (nI n, nI b, nI (2 + 8 * n + 4 * b), f, fk_cz g i 8, sv, ct)) : wY_repairInode_68 pst (nI i) (nI n) (nI b) (nI (2 + 8 * n + 4 * b)) f g sv ct := by
  have ⟨a3, a12, a2, a24⟩ := H
  unfold wY_repairInode_68
  refine fy_field H i 0 hi hn (by omega) rfl rfl ?_
  refine br_t hm ?_
  refine fy_clear H i hi hn rfl ?_
  refine fy_86 H i hi hn (fun m => ?_)
  rw [fk_pt_z (by omega) (Nat.le_refl 4) (fun l hl => fk_cz_0 g i (4 + l) (by omega))]
  refine br_t (nI_le (a := 8) (b := 8) (by omega) (by omega)) ?_
  rw [hm]
  exact br_f (by decide) (fy_149n i (by decide) h)
theorem fy_39 {pst : SY → Prop} {x2 : Int32} (H : fk_ok n b) (i : Nat) (hi : 1 ≤ i) (hn : i ≤ n) (h : pst (nI n, nI b, nI (2 + 8 * n + 4 * b), f, (fk_st1 b i (g, ct)).1, sv, (fk_st1 b i (g, ct)).2)) (h2 : i ≤ 2 → g (fk_ad i 0) = 2) (h3 : 3 ≤ i → x2 = g (fk_ad i 0)) : wY_repairInode_39 pst (nI i) x2 (nI n) (nI b) (nI (2 + 8 * n + 4 * b)) f g sv ct := by
  have ⟨a3, a12, a2, a24⟩ := H
  have main : (g (fk_ad i 0) = 1 ∨ g (fk_ad i 0) = 2) → fk_md1 i (g, ct) = (g, ct) → wY_repairInode_68 pst (nI i) (nI n) (nI b) (nI (2 + 8 * n + 4 * b)) f g sv ct := by
    intro hm E
    have hu : fk_iu g i = true := by
      unfold fk_iu fk_fl fk_dr
      rcases hm with e | e
      · rw [decide_eq_true e]; rfl
      · rw [decide_eq_true e, Bool.or_true]
    refine fy_68 H i hi hn hm ?_
    unfold fk_st1 at h
    rw [E, if_pos hu] at h
    generalize fk_it (fk_pt1 b i) 0 (g, ct) 4 = s2 at h ⊢
    obtain ⟨g2, ct2⟩ := s2
    dsimp only at h ⊢
    exact h
  unfold wY_repairInode_39
  refine pk_lt i 3 (fun c => ?_) (fun c => ?_)
  · have e := h2 (by omega)
    refine main (Or.inr e) ?_
    unfold fk_md1
    rw [if_pos (by omega), if_pos e]
  · have ex := h3 c
    subst ex
    have zero : fk_iu (fk_cz g i 8) i = false := by
      unfold fk_iu fk_fl fk_dr
      rw [fk_cz_0 g i 0 (by omega)]; rfl
    have bad : ¬ g (fk_ad i 0) = 0 → ¬ g (fk_ad i 0) = 1 → ¬ g (fk_ad i 0) = 2 → wY_repairInode_53 pst (nI i) (nI n) (nI b) (nI (2 + 8 * n + 4 * b)) f g sv ct := by
      intro n0 n1 n2
      have E : fk_md1 i (g, ct) = (fk_cz g i 8, upd ct 0 (ct 0 + 1)) := by
        unfold fk_md1
        rw [if_neg (by omega), if_neg (fun z => by rcases z with z | z; exact n1 z; exact n2 z), if_neg n0]
      unfold fk_st1 at h
      rw [E, if_neg (by rw [zero]; decide)] at h
      unfold wY_repairInode_53
      refine fy_clear H i hi hn rfl (nm_e ?_)
      refine fy_68z H i hi hn (fk_cz_0 g i 0 (by omega)) ?_
      rw [fk_cz_cz]
      exact h
    refine br_c (fun e => ?_) (fun e => br_c (fun e2 => ?_) (fun e2 => ?_))
    · exact bad (fun z => by rw [z] at e; exact absurd e (by decide)) (fun z => by rw [z] at e; exact absurd e (by decide)) (fun z => by rw [z] at e; exact absurd e (by decide))
    · rcases fk_mode e e2 with z | z | z
      · have E : fk_md1 i (g, ct) = (fk_cz g i 8, ct) := by
          have nn : ¬ (g (fk_ad i 0) = 1 ∨ g (fk_ad i 0) = 2) := by rw [z]; decide
          unfold fk_md1
          rw [if_neg (by omega), if_neg nn, if_pos z]
        unfold fk_st1 at h
        rw [E, if_neg (by rw [zero]; decide)] at h
        exact fy_68z H i hi hn z h
      · refine main (Or.inl z) ?_
        unfold fk_md1
        rw [if_neg (by omega), if_pos (Or.inl z)]
      · refine main (Or.inr z) ?_
        unfold fk_md1
        rw [if_neg (by omega), if_pos (Or.inr z)]
    · exact bad (fun z => by rw [z] at e2; exact absurd e2 (by decide)) (fun z => by rw [z] at e2; exact absurd e2 (by decide)) (fun z => by rw [z] at e2; exact absurd e2 (by decide))
theorem fy_inode {pst : SY → Prop} {P : Int32} (H : fk_ok n b) (i : Nat) (hi : 1 ≤ i) (hn : i ≤ n) (hP : P = nI i) (h : pst (nI n, nI b, nI (2 + 8 * n + 4 * b), f, (fk_st1 b i (g, ct)).1, sv, (fk_st1 b i (g, ct)).2)) : wpY_repairInode pst (nI n, nI b, nI (2 + 8 * n + 4 * b), f, g, sv, ct) P := by
  have ⟨a3, a12, a2, a24⟩ := H
  subst hP
  unfold wpY_repairInode
  dsimp only
  refine fy_field H i 0 hi hn (by omega) rfl rfl ?_
  refine pk_lt 2 i (fun c => ?_) (fun c => br_c (fun e => ?_) (fun e => ?_))
  · exact fy_39 H i hi hn h (fun z => absurd z (by omega)) (fun _ => rfl)
  · exact fy_39 H i hi hn h (fun _ => e) (fun _ => rfl)
  · refine fy_clear H i hi hn rfl ?_
    refine fy_set H i 0 hi hn (by omega) rfl rfl (nm_e ?_)
    have E : fk_md1 i (g, ct) = (upd (fk_cz g i 8) (fk_ad i 0) 2, upd ct 0 (ct 0 + 1)) := by
      unfold fk_md1
      rw [if_pos c, if_neg e]
    have E2 : fk_md1 i (upd (fk_cz g i 8) (fk_ad i 0) 2, upd ct 0 (ct 0 + 1)) = (upd (fk_cz g i 8) (fk_ad i 0) 2, upd ct 0 (ct 0 + 1)) := by
      unfold fk_md1
      rw [if_pos c]
      exact if_pos pk_us
    have E3 : fk_st1 b i (g, ct) = fk_st1 b i (upd (fk_cz g i 8) (fk_ad i 0) 2, upd ct 0 (ct 0 + 1)) := by
      unfold fk_st1
      rw [E, E2]
    rw [E3] at h
    exact fy_39 H i hi hn h (fun _ => pk_us) (fun z => absurd z (by omega))
theorem fy_stage1 {pst : Int32 → SY → Prop} (H : fk_ok n b) (h : ∀ k, wY_repair_51 pst (k + 1) (nI (1 + n)) (nI n) (nI b) (nI (2 + 8 * n + 4 * b)) f ((fk_it (fk_st1 b) 1 (g, ct) n).1) sv ((fk_it (fk_st1 b) 1 (g, ct) n).2)) : ∃ k, wY_repair_51 pst k 1 (nI n) (nI b) (nI (2 + 8 * n + 4 * b)) f g sv ct := by
  have ⟨a3, a12, a2, a24⟩ := H
  refine fk_iter (fun m i (s : fk_St) => wY_repair_51 pst m (nI i) (nI n) (nI b) (nI (2 + 8 * n + 4 * b)) f s.1 sv s.2) (fk_st1 b) 1 n (g, ct) h (fun m i s h1 h2 hw => ?_)
  obtain ⟨g, ct⟩ := s
  refine pk_lt n i (fun c => absurd c (by omega)) (fun _ => ?_)
  refine fy_inode H i h1 (by omega) rfl ?_
  exact nm_r (nI_1 i) hw
end FS1
end
section
/-! stage 2: duplicates -/
def fk_ca (q : Nat) : Nat := fk_ad (q / 4 + 1) (4 + q % 4)
def fk_cp (g : Nat → Int32) (F T : Nat) : Nat → Nat → Int32
  | 0 => g
  | c + 1 => upd (fk_cp g F T c) (T + c) (fk_cp g F T c (F + c))
def fk_dp (g : Nat → Int32) (b q : Nat) : Bool := !(decide (fk_cl g b q = 0)) && fk_an (fun e => decide (fk_cl g b e = fk_cl g b q)) 0 q
def fk_mv (n : Nat) (A x fr : Nat) (s : fk_St) : fk_St := if fr = 0 then (upd s.1 A 0, upd s.2 3 (s.2 3 + 1)) else (upd (fk_cp s.1 (fk_ce n x 0) (fk_ce n fr 0) 4) A (nI fr), upd s.2 2 (s.2 2 + 1))
def fk_st2 (n b q : Nat) (s : fk_St) : fk_St := if fk_dp s.1 b q = true then fk_mv n (fk_ca q) (fk_cl s.1 b q) (fk_fb s.1 n b) s else s
theorem fk_cp_lo {g : Nat → Int32} {F T c a : Nat} (h : a < T) : fk_cp g F T c a = g a := by
  induction c with
  | zero => rfl
  | succ c ih =>
    show upd _ (T + c) _ a = _
    rw [pk_un (by omega), ih]
theorem fk_ca_lt {n b q : Nat} (H : fk_ok n b) (h : q < 4 * n) : fk_ca q < 2 + 8 * n := fk_ad_lt' H (by omega) (by omega) (by omega)
theorem fk_ca_ne {q e : Nat} (h : q ≠ e) : fk_ca q ≠ fk_ca e := by
  unfold fk_ca fk_ad
  omega
theorem fk_fb_ex {g : Nat → Int32} {n b : Nat} : fk_fb g n b = 0 ∨ (1 ≤ fk_fb g n b ∧ fk_fb g n b ≤ b ∧ fk_us g n b (fk_fb g n b) = false) := by
  rcases fk_fs_spec (fun x => !(fk_us g n b x)) 1 b with ⟨a, c, d, e⟩ | ⟨a, c⟩
  · have E : fk_fb g n b = fk_fs (fun x => !(fk_us g n b x)) 1 b := if_pos (by omega)
    rw [E]
    refine Or.inr ⟨a, by omega, ?_⟩
    rw [Bool.not_eq_true'] at d
    exact d
  · exact Or.inl (if_neg (by omega))
/-- what moving claim q to fr does to the claims -/
def fk_Mv (g : Nat → Int32) (n b q fr : Nat) (g' : Nat → Int32) : Prop := (∀ e, e < 4 * n → e ≠ q → fk_cl g' b e = fk_cl g b e) ∧ fk_cl g' b q = fr
theorem fk_mv_cl {n b q x fr : Nat} {s : fk_St} (H : fk_ok n b) (hq : q < 4 * n) (h0 : ¬ fk_cl s.1 b q = 0) (hf : fr ≤ b) : fk_Mv s.1 n b q fr (fk_mv n (fk_ca q) x fr s).1 := by
  have ⟨a3, a12, a2, a24⟩ := H
  obtain ⟨g, ct⟩ := s
  have key : ∀ g' : Nat → Int32, (∀ a, a < 2 + 8 * n → a ≠ fk_ca q → g' a = g a) → g' (fk_ca q) = nI fr → fk_Mv g n b q fr g' := by
    intro g' h1 h2
    have hiu : ∀ i, 1 ≤ i → i ≤ n → fk_iu g' i = fk_iu g i := by
      intro i i1 i2
      unfold fk_iu fk_fl fk_dr
      rw [h1 (fk_ad i 0) (fk_ad_lt' H i1 i2 (by omega)) (fk_ad_ne (by omega) (by omega) (by omega))]
    constructor
    · intro e he hne
      unfold fk_cl
      rw [hiu (e / 4 + 1) (by omega) (by omega), h1 (fk_ad (e / 4 + 1) (4 + e % 4)) (fk_ca_lt H he) (fk_ca_ne hne)]
    · by_cases z : fr = 0
      · subst z
        exact fk_cl_nb (by show fk_bk b (g' (fk_ca q)) = false; rw [h2]; rfl)
      · refine fk_cl_y H ?_ h2 (by omega) hf
        rw [hiu (q / 4 + 1) (by omega) (by omega)]
        rcases fk_cl_ex (g := g) q H with c | c
        · exact absurd c h0
        · exact c.1
  unfold fk_mv
  by_cases z : fr = 0
  · rw [if_pos z]
    exact key _ (fun a _ h2 => pk_un h2) (by show upd g (fk_ca q) 0 (fk_ca q) = _; rw [pk_us, z]; rfl)
  · rw [if_neg z]
    refine key _ (fun a h1 h2 => ?_) pk_us
    show upd (fk_cp g (fk_ce n x 0) (fk_ce n fr 0) 4) (fk_ca q) (nI fr) a = g a
    rw [pk_un h2]
    exact fk_cp_lo (by unfold fk_ce; omega)
/-- the masks of X at claim q -/
def fk_T2 (g : Nat → Int32) (n b : Nat) (tk : Int32) : Prop := ∀ x, 1 ≤ x → x ≤ b → bt tk (x - 1) = fk_us g n b x
def fk_S2 (g : Nat → Int32) (n b q : Nat) (sn : Int32) : Prop := ∀ r, q ≤ r → r < 4 * n → fk_cl g b r ≠ 0 → bt sn (fk_cl g b r - 1) = fk_an (fun e => decide (fk_cl g b e = fk_cl g b r)) 0 q
theorem fk_an_s {P : Nat → Bool} {q : Nat} : fk_an P 0 (q + 1) = (fk_an P 0 q || P q) := by
  show (fk_an P 0 q || P (0 + q)) = _
  rw [Nat.zero_add]
theorem fk_S2_n {g : Nat → Int32} {n b q : Nat} {sn : Int32} (h : fk_S2 g n b q sn) (e : fk_cl g b q = 0) : fk_S2 g n b (q + 1) sn := by
  intro r h1 h2 h3
  rw [h r (by omega) h2 h3, fk_an_s, decide_eq_false (by omega), Bool.or_false]
theorem fk_S2_y {g : Nat → Int32} {n b q : Nat} {sn : Int32} (H : fk_ok n b) (h : fk_S2 g n b q sn) (e : ¬ fk_cl g b q = 0) : fk_S2 g n b (q + 1) (sn ||| ((1 : Int32) <<< (nI (fk_cl g b q - 1) &&& 31))) := by
  have ⟨a3, a12, a2, a24⟩ := H
  intro r h1 h2 h3
  have c1 := fk_cl_le (g := g) q H
  have c2 := fk_cl_le (g := g) r H
  rw [fk_or _ (by omega) (by omega), h r (by omega) h2 h3, fk_an_s]
  by_cases c : fk_cl g b q = fk_cl g b r
  · rw [decide_eq_true c, decide_eq_true (by rw [c])]
  · rw [decide_eq_false c, decide_eq_false (by omega)]
theorem fk_S2_m {g g' : Nat → Int32} {n b q : Nat} {sn : Int32} (hq : q < 4 * n) (h : fk_S2 g n b q sn) (M : fk_Mv g n b q (fk_fb g n b) g') : fk_S2 g' n b (q + 1) sn := by
  intro r h1 h2 h3
  have er := M.1 r h2 (by omega)
  rw [er] at h3 ⊢
  have e1 : fk_an (fun e => decide (fk_cl g' b e = fk_cl g b r)) 0 q = fk_an (fun e => decide (fk_cl g b e = fk_cl g b r)) 0 q := fk_an_congr (fun e _ he => by
    have := M.1 e (by omega) (by omega)
    show decide (fk_cl g' b e = fk_cl g b r) = decide (fk_cl g b e = fk_cl g b r)
    rw [this])
  rw [h r (by omega) h2 h3, fk_an_s, e1, M.2, decide_eq_false, Bool.or_false]
  intro z
  rcases fk_fb_ex (g := g) (n := n) (b := b) with c | ⟨_, _, c⟩
  · omega
  · have := fk_an_f.mp c r (by omega) (by omega)
    exact absurd z.symm (of_decide_eq_false this)
theorem fk_us_m {g g' : Nat → Int32} {n b q x : Nat} (hq : q < 4 * n) (hx : 1 ≤ x) (hd : fk_dp g b q = true) (M : fk_Mv g n b q (fk_fb g n b) g') : fk_us g' n b x = (fk_us g n b x || decide (x = fk_fb g n b)) := by
  unfold fk_dp at hd
  rw [Bool.and_eq_true] at hd
  obtain ⟨d, d1, d2, d3⟩ := fk_an_t.mp hd.2
  have d3 := of_decide_eq_true d3
  unfold fk_us
  rw [Bool.eq_iff_iff, Bool.or_eq_true, fk_an_t, fk_an_t, decide_eq_true_iff]
  constructor
  · rintro ⟨e, e1, e2, e3⟩
    have e3 := of_decide_eq_true e3
    by_cases c : e = q
    · subst c
      rw [M.2] at e3
      exact Or.inr e3.symm
    · rw [M.1 e (by omega) c] at e3
      exact Or.inl ⟨e, e1, e2, decide_eq_true e3⟩
  · rintro (⟨e, e1, e2, e3⟩ | z)
    · have e3 := of_decide_eq_true e3
      by_cases c : e = q
      · subst c
        refine ⟨d, by omega, by omega, decide_eq_true ?_⟩
        rw [M.1 d (by omega) (by omega), d3]
        exact e3
      · refine ⟨e, e1, e2, decide_eq_true ?_⟩
        rw [M.1 e (by omega) c]
        exact e3
    · refine ⟨q, by omega, by omega, decide_eq_true ?_⟩
      rw [M.2, z]
theorem fk_T2_m0 {g g' : Nat → Int32} {n b q : Nat} {tk : Int32} (hq : q < 4 * n) (hd : fk_dp g b q = true) (M : fk_Mv g n b q (fk_fb g n b) g') (hz : fk_fb g n b = 0) (h : fk_T2 g n b tk) : fk_T2 g' n b tk := by
  intro x x1 x2
  rw [h x x1 x2, fk_us_m hq x1 hd M, decide_eq_false (by omega), Bool.or_false]
theorem fk_T2_m1 {g g' : Nat → Int32} {n b q : Nat} {tk : Int32} (H : fk_ok n b) (hq : q < 4 * n) (hd : fk_dp g b q = true) (M : fk_Mv g n b q (fk_fb g n b) g') (hz : ¬ fk_fb g n b = 0) (h : fk_T2 g n b tk) : fk_T2 g' n b (tk ||| ((1 : Int32) <<< (nI (fk_fb g n b - 1) &&& 31))) := by
  have ⟨a3, a12, a2, a24⟩ := H
  have hb : fk_fb g n b ≤ b := by
    rcases fk_fb_ex (g := g) (n := n) (b := b) with c | c <;> omega
  intro x x1 x2
  rw [fk_or _ (by omega) (by omega), h x x1 x2, fk_us_m hq x1 hd M]
  by_cases c : x = fk_fb g n b
  · rw [decide_eq_true c, decide_eq_true (by omega)]
  · rw [decide_eq_false c, decide_eq_false (by omega)]
section FS2
variable {n b : Nat} {f : Int32} {g sv ct lv : Nat → Int32}
theorem fx_lfb {post : Int32 → Prop} {m : Int32} (H : fk_ok n b) (hm : fk_T2 g n b m) (h : post (nI (fk_fb g n b))) : wpX_lowestFree post (nI n, nI b, nI (2 + 8 * n + 4 * b), f, g, sv, ct, lv) m := fx_lf (fk_us g n b) H hm h
theorem fx_move {pst : SX → Prop} {P Q R S : Int32} (H : fk_ok n b) (q x fr : Nat) (hq : q < 4 * n) (hx : 1 ≤ x) (hb : x ≤ b) (hf : fr ≤ b) (hP : P = nI (q / 4 + 1)) (hQ : Q = nI (q % 4)) (hR : R = nI x) (hS : S = nI fr) (h : pst (nI n, nI b, nI (2 + 8 * n + 4 * b), f, (fk_mv n (fk_ca q) x fr (g, ct)).1, sv, (fk_mv n (fk_ca q) x fr (g, ct)).2, lv)) : wpX_moveClaim pst (nI n, nI b, nI (2 + 8 * n + 4 * b), f, g, sv, ct, lv) P Q R S := by
  have ⟨a3, a12, a2, a24⟩ := H
  subst hP hQ hR hS
  unfold wpX_moveClaim
  dsimp only
  refine fx_set H (q / 4 + 1) (4 + q % 4) (by omega) (by omega) (by omega) rfl (fk_4a _) ?_
  unfold fk_mv at h
  refine pk_eq fr 0 (fun z => ?_) (fun z => ?_)
  · rw [if_pos z] at h
    subst z
    exact nm_e h
  · rw [if_neg z] at h
    have hA := fk_ca_lt H hq
    refine fx_ce x 0 hx rfl rfl ?_
    refine fx_ce fr 0 (by omega) rfl rfl ?_
    have eF : fk_ce n x 0 = 2 + 8 * n + 4 * (x - 1) := rfl
    have eT : fk_ce n fr 0 = 2 + 8 * n + 4 * (fr - 1) := rfl
    refine pk_loop (fun m c (w : Nat → Int32) => wX_moveClaim_46 pst (nI (fk_ce n x 0)) (nI (fk_ce n fr 0)) (nI n) (nI b) (nI (2 + 8 * n + 4 * b)) f m (nI c) w sv ct lv) (fun c w => w = upd (fk_cp g (fk_ce n x 0) (fk_ce n fr 0) c) (fk_ca q) (nI fr)) 4 0 _ (by omega) rfl (fun m w hw => ?_) (fun m c w hc hw hn => ?_)
    · subst hw
      exact br_t (nI_le (a := 4) (b := 4) (by omega) (by omega)) (nm_e h)
    · subst hw
      refine br_f (nI_ge (b := 4) hc (by omega)) ?_
      rw [nI_add, nI_add]
      refine ⟨vp_in_nI (by omega) (by decide), vp_in_nI (by omega) (by decide), ?_⟩
      rw [nI_clamp (by omega), nI_clamp (by omega)]
      refine nm_e (nm_r (nI_1 c) (hn _ ?_))
      show _ = upd (upd (fk_cp g (fk_ce n x 0) (fk_ce n fr 0) c) (fk_ce n fr 0 + c) (fk_cp g (fk_ce n x 0) (fk_ce n fr 0) c (fk_ce n x 0 + c))) (fk_ca q) (nI fr)
      rw [pk_un (show fk_ce n x 0 + c ≠ fk_ca q by omega), fk_upd_comm (show fk_ca q ≠ fk_ce n fr 0 + c by omega)]
theorem fx_stage2 {pst : SX → Prop} (H : fk_ok n b) (h : pst (nI n, nI b, nI (2 + 8 * n + 4 * b), f, (fk_it (fk_st2 n b) 0 (g, ct) (4 * n)).1, sv, (fk_it (fk_st2 n b) 0 (g, ct) (4 * n)).2, lv)) : wpX_repairDuplicates pst (nI n, nI b, nI (2 + 8 * n + 4 * b), f, g, sv, ct, lv) := by
  have ⟨a3, a12, a2, a24⟩ := H
  unfold wpX_repairDuplicates
  dsimp only
  refine fx_bM H ?_
  refine fk_nest (fun k i (z : Int32 × Int32 × fk_St) => wX_repairDuplicates_9 pst k z.1 z.2.1 (nI i) (nI n) (nI b) (nI (2 + 8 * n + 4 * b)) f z.2.2.1 sv z.2.2.2 lv) (fun k i l j z => wX_repairDuplicates_20 pst (wX_repairDuplicates_9 pst k) (nI i) l z.1 z.2.1 (nI j) (nI n) (nI b) (nI (2 + 8 * n + 4 * b)) f z.2.2.1 sv z.2.2.2 lv)
    (fun q z => z.2.2 = fk_it (fk_st2 n b) 0 (g, ct) q ∧ fk_T2 z.2.2.1 n b z.1 ∧ fk_S2 z.2.2.1 n b q z.2.1) n (fun k z hz => ?_) (fun k i z h1 h2 hw => ?_) (fun k i l z h1 h2 hw => ?_) (fun k i l j z h1 h2 hj hz hw => ?_) (fk_om (fk_us g n b) b, 0, (g, ct)) ⟨rfl, fun x x1 x2 => fk_om_us H x1 x2, fun r _ _ _ => b_0 _⟩
  · obtain ⟨tk, sn, s⟩ := z
    have e : s = fk_it (fk_st2 n b) 0 (g, ct) (4 * n) := hz.1
    subst e
    exact pk_lt n (n + 1) (fun _ => h) (fun c => absurd c (by omega))
  · exact pk_lt n i (fun c => absurd c (by omega)) (fun _ => hw)
  · exact br_t (nI_le (a := 4) (b := 4) (by omega) (by omega)) (nm_r (nI_1 i) hw)
  · obtain ⟨tk, sn, g', ct'⟩ := z
    obtain ⟨hs, hT, hS⟩ := hz
    dsimp only
    have hs : (g', ct') = fk_it (fk_st2 n b) 0 (g, ct) (4 * (i - 1) + j) := hs
    have hT : fk_T2 g' n b tk := hT
    have hS : fk_S2 g' n b (4 * (i - 1) + j) sn := hS
    have hw : ∀ (tk' sn' : Int32) (s' : fk_St), (s' = fk_st2 n b (4 * (i - 1) + j) (g', ct') ∧ fk_T2 s'.1 n b tk' ∧ fk_S2 s'.1 n b (4 * (i - 1) + j + 1) sn') → wX_repairDuplicates_20 pst (wX_repairDuplicates_9 pst k) (nI i) l tk' sn' (nI (j + 1)) (nI n) (nI b) (nI (2 + 8 * n + 4 * b)) f s'.1 sv s'.2 lv := by
      intro tk' sn' s' h'
      refine hw (tk', sn', s') ⟨?_, h'.2⟩
      show s' = fk_st2 n b (0 + (4 * (i - 1) + j)) (fk_it (fk_st2 n b) 0 (g, ct) (4 * (i - 1) + j))
      rw [← hs, Nat.zero_add]
      exact h'.1
    generalize hqe : 4 * (i - 1) + j = q at hs hS hw
    have hq : q < 4 * n := by omega
    have e1 : q / 4 + 1 = i := by omega
    have e2 : q % 4 = j := by omega
    refine br_f (nI_ge (b := 4) hj (by omega)) ?_
    refine fx_cl H i j h1 h2 hj rfl rfl ?_
    rw [hqe]
    have hc := fk_cl_le (g := g') q H
    refine pk_eq (fk_cl g' b q) 0 (fun e => ?_) (fun e => ?_)
    · refine nm_r (nI_1 j) (hw tk sn (g', ct') ⟨?_, hT, fk_S2_n hS e⟩)
      exact (if_neg (by unfold fk_dp; dsimp only; rw [decide_eq_true e]; exact Bool.false_ne_true)).symm
    · rw [fk_s1 (by omega)]
      refine nm_e ?_
      have hb := hS q (Nat.le_refl q) hq e
      refine br_c (fun c => ?_) (fun c => ?_)
      · rw [fk_and0 sn (by omega)] at c
        refine nm_e (nm_r (nI_1 j) (hw tk _ (g', ct') ⟨?_, hT, fk_S2_y H hS e⟩))
        rw [c] at hb
        exact (if_neg (by unfold fk_dp; dsimp only; rw [← hb, Bool.and_false]; exact Bool.false_ne_true)).symm
      · rw [fk_and0 sn (by omega)] at c
        have hd : fk_dp g' b q = true := by
          unfold fk_dp
          rw [← hb, decide_eq_false e]
          cases hz : bt sn (fk_cl g' b q - 1) with
          | false => exact absurd hz c
          | true => rfl
        have hfb := fk_fb_ex (g := g') (n := n) (b := b)
        have hfl : fk_fb g' n b ≤ b := by rcases hfb with z | z <;> omega
        have M := fk_mv_cl (s := (g', ct')) (x := fk_cl g' b q) H hq e hfl
        have E : fk_st2 n b q (g', ct') = fk_mv n (fk_ca q) (fk_cl g' b q) (fk_fb g' n b) (g', ct') := if_pos hd
        refine fx_lfb H hT ?_
        refine fx_move H q (fk_cl g' b q) (fk_fb g' n b) hq (by omega) hc hfl (by rw [e1]) (by rw [e2]) rfl rfl ?_
        refine pk_eq (fk_fb g' n b) 0 (fun z => ?_) (fun z => ?_)
        · exact nm_r (nI_1 j) (hw tk sn _ ⟨E.symm, fk_T2_m0 hq hd M z hT, fk_S2_m hq hS M⟩)
        · rw [fk_s1 (by omega)]
          exact nm_e (nm_r (nI_1 j) (hw _ sn _ ⟨E.symm, fk_T2_m1 H hq hd M z hT, fk_S2_m hq hS M⟩))
theorem fy_114 {pst : SY → Prop} {J : Int32 → Int32 → Int32 → Int32 → Int32 → (Nat → Int32) → (Nat → Int32) → (Nat → Int32) → Prop} (H : fk_ok n b) (q fr : Nat) (hq : q < 4 * n) (hf : fr ≤ b) (h : J (nI (q + 1)) (nI n) (nI b) (nI (2 + 8 * n + 4 * b)) f (upd g (fk_ca q) (nI fr)) sv (if fr = 0 then upd ct 3 (ct 3 + 1) else upd ct 2 (ct 2 + 1))) : wY_repairDuplicates_114 pst J (nI q) (nI fr) (nI n) (nI b) (nI (2 + 8 * n + 4 * b)) f g sv ct := by
  have ⟨a3, a12, a2, a24⟩ := H
  unfold wY_repairDuplicates_114
  refine ⟨fk_4, fk_4, ?_⟩
  refine fy_set H (q / 4 + 1) (4 + q % 4) (by omega) (by omega) (by omega) (fk_d41 (by omega)) (by rw [fk_m4 (by omega)]; exact fk_4a _) ?_
  refine pk_eq fr 0 (fun z => ?_) (fun z => ?_)
  · rw [if_pos z] at h
    exact nm_e (nm_r (nI_1 q) h)
  · rw [if_neg z] at h
    exact nm_e (nm_r (nI_1 q) h)
theorem fy_64 {pst : SY → Prop} {J : Int32 → Int32 → Int32 → Int32 → Int32 → (Nat → Int32) → (Nat → Int32) → (Nat → Int32) → Prop} (H : fk_ok n b) (q x fr : Nat) (hq : q < 4 * n) (hx : 1 ≤ x) (hb : x ≤ b) (hf : fr ≤ b) (h : J (nI (q + 1)) (nI n) (nI b) (nI (2 + 8 * n + 4 * b)) f ((fk_mv n (fk_ca q) x fr (g, ct)).1) sv ((fk_mv n (fk_ca q) x fr (g, ct)).2)) : ∃ m, wY_repairDuplicates_64 pst J (nI q) (nI x) (nI fr) (nI n) (nI b) (nI (2 + 8 * n + 4 * b)) f m 0 g sv ct := by
  have ⟨a3, a12, a2, a24⟩ := H
  unfold fk_mv at h
  by_cases z : fr = 0
  · rw [if_pos z] at h
    refine ⟨1, br_f (by decide) (br_t (by rw [z]; rfl) ?_)⟩
    refine fy_114 H q fr hq hf ?_
    rw [if_pos z, z]
    exact h
  · rw [if_neg z] at h
    refine pk_loop (fun m c (w : Nat → Int32) => wY_repairDuplicates_64 pst J (nI q) (nI x) (nI fr) (nI n) (nI b) (nI (2 + 8 * n + 4 * b)) f m (nI c) w sv ct) (fun c w => w = fk_cp g (fk_ce n x 0) (fk_ce n fr 0) c) 4 0 g (by omega) rfl (fun m w hw => ?_) (fun m c w hc hw hn => ?_)
    · subst hw
      refine br_t (nI_le (a := 4) (b := 4) (by omega) (by omega)) ?_
      refine fy_114 H q fr hq hf ?_
      rw [if_neg z]
      exact h
    · subst hw
      refine br_f (nI_ge (b := 4) hc (by omega)) ?_
      refine br_f (nI_ne0 (by omega) (by omega)) ?_
      refine fy_ce x c hx rfl rfl ?_
      refine fy_ce fr c (by omega) rfl rfl ?_
      have l1 := fk_ce_lt (x := x) H hb hc
      have l2 := fk_ce_lt (x := fr) H hf hc
      refine ⟨vp_in_nI l1 (by decide), vp_in_nI l2 (by decide), ?_⟩
      rw [nI_clamp (by omega), nI_clamp (by omega)]
      exact nm_e (nm_r (nI_1 c) (hn _ rfl))
theorem fy_stage2 {pst : SY → Prop} (H : fk_ok n b) (h : pst (nI n, nI b, nI (2 + 8 * n + 4 * b), f, (fk_it (fk_st2 n b) 0 (g, ct) (4 * n)).1, sv, (fk_it (fk_st2 n b) 0 (g, ct) (4 * n)).2)) : wpY_repairDuplicates pst (nI n, nI b, nI (2 + 8 * n + 4 * b), f, g, sv, ct) := by
  have ⟨a3, a12, a2, a24⟩ := H
  unfold wpY_repairDuplicates
  dsimp only
  refine fk_iter (fun m q (s : fk_St) => wY_repairDuplicates_2 pst m (nI q) (nI n) (nI b) (nI (2 + 8 * n + 4 * b)) f s.1 sv s.2) (fk_st2 n b) 0 (4 * n) (g, ct) (fun m => ?_) (fun m q s h1 h2 hw => ?_)
  · exact pk_le (4 * n) (0 + 4 * n) (fun _ => h) (fun c => absurd c (by omega)) (fk_4m n)
  · obtain ⟨g, ct⟩ := s
    refine pk_le (4 * n) q (fun c => absurd c (by omega)) (fun _ => ?_) (fk_4m n)
    refine fy_cl H q (by omega) rfl ?_
    have hc := fk_cl_le (g := g) q H
    refine pk_loop (fun l e (d : Int32) => wY_repairDuplicates_23 pst (wY_repairDuplicates_2 pst m) (nI q) (nI (fk_cl g b q)) (nI n) (nI b) (nI (2 + 8 * n + 4 * b)) f g sv ct l d (nI e)) (fun e d => d = fk_bI (!(decide (fk_cl g b q = 0)) && fk_an (fun e => decide (fk_cl g b e = fk_cl g b q)) 0 e)) q 0 0 (by omega) (by show (0 : Int32) = fk_bI (_ && false); rw [Bool.and_false]; rfl) (fun l d hd => ?_) (fun l e d he hd hn => ?_)
    · subst hd
      refine pk_le q q (fun _ => ?_) (fun c => absurd c (by omega))
      show (fk_bI (fk_dp g b q) = 0 → _) ∧ (¬ fk_bI (fk_dp g b q) = 0 → _)
      refine fk_br0 (fun z => ?_) (fun z => ?_)
      · have E : fk_st2 n b q (g, ct) = (g, ct) := if_neg (by show ¬ fk_dp g b q = true; rw [z]; decide)
        rw [E] at hw
        exact nm_r (nI_1 q) hw
      · have E : fk_st2 n b q (g, ct) = fk_mv n (fk_ca q) (fk_cl g b q) (fk_fb g n b) (g, ct) := if_pos z
        rw [E] at hw
        have hfb := fk_fb_ex (g := g) (n := n) (b := b)
        have hz : ¬ fk_cl g b q = 0 := by
          intro y
          unfold fk_dp at z
          rw [decide_eq_true y] at z
          exact absurd z Bool.false_ne_true
        refine fy_fb H ?_
        exact fy_64 H q (fk_cl g b q) (fk_fb g n b) (by omega) (by omega) hc (by rcases hfb with y | y <;> omega) hw
    · subst hd
      refine pk_le q e (fun c => absurd c (by omega)) (fun _ => ?_)
      refine pk_eq (fk_cl g b q) 0 (fun z => ?_) (fun z => ?_)
      · refine nm_r (nI_1 e) (hn _ ?_)
        rw [decide_eq_true z]; rfl
      · refine fy_cl H e (by omega) rfl ?_
        have hce := fk_cl_le (g := g) e H
        refine pk_eq (fk_cl g b e) (fk_cl g b q) (fun y => ?_) (fun y => ?_)
        · refine nm_r (nI_1 e) (hn _ ?_)
          rw [fk_an_s, decide_eq_true y, Bool.or_true, decide_eq_false z]; rfl
        · refine nm_r (nI_1 e) (hn _ ?_)
          rw [fk_an_s, decide_eq_false y, Bool.or_false]
end FS2
end
section
/-! stage 3: words, names, extra entries -/
def fk_wp (n b k p : Nat) (s : fk_St) : fk_St := (upd s.1 (fk_pl s.1 n b p) 0, upd s.2 k (s.2 k + 1))
def fk_sa (n b p : Nat) (s : fk_St) : fk_St := if fk_bw s.1 n b p = true then fk_wp n b 4 p s else s
def fk_sb (n b p : Nat) (s : fk_St) : fk_St := if fk_rp s.1 n b p = true then fk_wp n b 5 p s else s
def fk_kP (g : Nat → Int32) (n b i p : Nat) : Bool := decide (nI (p / 16 + 1) = g (fk_ad i 2)) && decide (fk_tg g n b p = i)
def fk_kx (g : Nat → Int32) (n b i j : Nat) : Nat := if fk_fs (fk_kP g n b i) j (16 * n - j) < 16 * n then fk_fs (fk_kP g n b i) j (16 * n - j) else fk_fi g n b i
def fk_sw (n b i kp p : Nat) (s : fk_St) : fk_St := if fk_tg s.1 n b p = i ∧ p ≠ kp then fk_wp n b 6 p s else s
def fk_sc (n b i : Nat) (s : fk_St) : fk_St := if fk_dr s.1 i = true then fk_it (fk_sw n b i (fk_kx s.1 n b i 0)) 0 s (16 * n) else s
theorem fk_m1_eq {p N k : Nat} (hp : p < N) (hk : k ≤ N) (hN : N < 2 ^ 31) : nI p = fk_m1 N k ↔ p = k := by
  unfold fk_m1
  by_cases c : k < N
  · rw [if_pos c, nI_eq (by omega) (by omega)]
  · rw [if_neg c]
    constructor
    · intro e; exact absurd e.symm (fk_m1ne p (by omega))
    · intro e; omega
theorem fk_fi_le {g : Nat → Int32} {n b i : Nat} : fk_fi g n b i ≤ 16 * n := by
  rcases fk_fi_ex g n b i with h | h <;> omega
theorem fk_kx_le {g : Nat → Int32} {n b i j : Nat} : fk_kx g n b i j ≤ 16 * n := by
  unfold fk_kx
  split
  · omega
  · exact fk_fi_le
theorem fk_kx_e {g : Nat → Int32} {n b i : Nat} : fk_kx g n b i (16 * n) = fk_fi g n b i := by
  unfold fk_kx
  rw [Nat.sub_self]
  exact if_neg (by show ¬ 16 * n < 16 * n; omega)
theorem fk_kx_y {g : Nat → Int32} {n b i j : Nat} (hj : j < 16 * n) (h : fk_kP g n b i j = true) : fk_kx g n b i j = j := by
  have E : fk_fs (fk_kP g n b i) j (16 * n - j) = j := fk_fs_eq (Nat.le_refl j) (by omega) h (fun e h1 h2 => absurd h1 (by omega))
  unfold fk_kx
  rw [E, if_pos hj]
theorem fk_kx_n {g : Nat → Int32} {n b i j : Nat} (hj : j < 16 * n) (h : fk_kP g n b i j = false) : fk_kx g n b i j = fk_kx g n b i (j + 1) := by
  have E : fk_fs (fk_kP g n b i) j (16 * n - j) = fk_fs (fk_kP g n b i) (j + 1) (16 * n - (j + 1)) := by
    rcases fk_fs_spec (fk_kP g n b i) (j + 1) (16 * n - (j + 1)) with ⟨a, c, d, e⟩ | ⟨a, c⟩
    · refine fk_fs_eq (by omega) (by omega) d (fun q h1 h2 => ?_)
      by_cases z : q = j
      · subst z; exact h
      · exact e q (by omega) h2
    · rw [a, fk_fs_no (fun q h1 h2 => ?_)]
      · omega
      · by_cases z : q = j
        · subst z; exact h
        · exact c q (by omega) (by omega)
  unfold fk_kx
  rw [E]
theorem fk_kx_tg {g : Nat → Int32} {n b i p : Nat} (hp : p < 16 * n) (h : fk_tg g n b p = i) : fk_kx g n b i 0 < 16 * n ∧ fk_tg g n b (fk_kx g n b i 0) = i := by
  unfold fk_kx
  by_cases c : fk_fs (fk_kP g n b i) 0 (16 * n - 0) < 16 * n
  · rw [if_pos c]
    rcases fk_fs_spec (fk_kP g n b i) 0 (16 * n - 0) with ⟨a, _, d, _⟩ | ⟨a, _⟩
    · unfold fk_kP at d
      rw [Bool.and_eq_true] at d
      exact ⟨c, of_decide_eq_true d.2⟩
    · omega
  · rw [if_neg c]
    rcases fk_fi_ex g n b i with z | z
    · exact ⟨z.1, z.2.1⟩
    · exact absurd h (z.2 p hp)
theorem fk_sw_no {n b i : Nat} {s : fk_St} (h : fk_rf s.1 n b i < 2) : ∀ k, k ≤ 16 * n → fk_it (fk_sw n b i (fk_kx s.1 n b i 0)) 0 s k = s := by
  intro k
  induction k with
  | zero => intro _; rfl
  | succ k ih =>
    intro hk
    show fk_sw n b i (fk_kx s.1 n b i 0) (0 + k) (fk_it (fk_sw n b i (fk_kx s.1 n b i 0)) 0 s k) = s
    rw [ih (by omega), Nat.zero_add]
    unfold fk_sw
    rw [if_neg]
    rintro ⟨h1, h2⟩
    obtain ⟨k1, k2⟩ := fk_kx_tg (p := k) (by omega) h1
    have h3 : ¬ 2 ≤ fk_rf s.1 n b i := by omega
    apply h3
    unfold fk_rf
    rw [fk_ct_2]
    rcases Nat.lt_or_gt_of_ne h2 with c | c
    · exact ⟨k, fk_kx s.1 n b i 0, by omega, c, by omega, decide_eq_true h1, decide_eq_true k2⟩
    · exact ⟨fk_kx s.1 n b i 0, k, by omega, c, by omega, decide_eq_true k2, decide_eq_true h1⟩
theorem fk_rp_tg {g : Nat → Int32} {n b p : Nat} (H : fk_ok n b) (h : fk_rp g n b p = true) : ¬ fk_tg g n b p = 0 := by
  intro z
  unfold fk_rp at h
  rw [decide_eq_true ((fk_nm_0 (g := g) p H).mpr z)] at h
  exact absurd h Bool.false_ne_true
theorem fk_tg_pl {g : Nat → Int32} {n b p : Nat} (h : ¬ fk_tg g n b p = 0) : ¬ fk_pl g n b p = 0 := fun z => h (fk_tg_n (Or.inl z))
theorem fk_bw_pl {g : Nat → Int32} {n b p : Nat} (h : fk_bw g n b p = true) : ¬ fk_pl g n b p = 0 := by
  intro z
  unfold fk_bw at h
  rw [decide_eq_true z] at h
  exact absurd h Bool.false_ne_true
section FS3
variable {n b : Nat} {f : Int32} {g sv ct lv : Nat → Int32}
theorem fx_3a {pst : SX → Prop} (H : fk_ok n b) (h : pst (nI n, nI b, nI (2 + 8 * n + 4 * b), f, (fk_it (fk_sa n b) 0 (g, ct) (16 * n)).1, sv, (fk_it (fk_sa n b) 0 (g, ct) (16 * n)).2, lv)) : wpX_clearBadWords pst (nI n, nI b, nI (2 + 8 * n + 4 * b), f, g, sv, ct, lv) := by
  have ⟨a3, a12, a2, a24⟩ := H
  unfold wpX_clearBadWords
  dsimp only
  refine fk_iter (fun m p (s : fk_St) => wX_clearBadWords_2 pst m (nI p) (nI n) (nI b) (nI (2 + 8 * n + 4 * b)) f s.1 sv s.2 lv) (fk_sa n b) 0 (16 * n) (g, ct) (fun m => ?_) (fun m p s h1 h2 hw => ?_)
  · exact pk_le (16 * n) (0 + 16 * n) (fun _ => h) (fun c => absurd c (by omega)) (fk_16m n)
  · obtain ⟨g, ct⟩ := s
    dsimp only
    refine pk_le (16 * n) p (fun c => absurd c (by omega)) (fun _ => ?_) (fk_16m n)
    refine fx_bw H p (by omega) rfl ?_
    refine fk_br0 (fun e => ?_) (fun e => ?_)
    · have E : fk_sa n b p (g, ct) = (g, ct) := if_neg (by show ¬ fk_bw g n b p = true; rw [e]; decide)
      rw [E] at hw
      exact nm_r (nI_1 p) hw
    · have E : fk_sa n b p (g, ct) = fk_wp n b 4 p (g, ct) := if_pos e
      rw [E] at hw
      refine fx_clearPlace H p (by omega) rfl (fk_bw_pl e) ?_
      exact nm_e (nm_r (nI_1 p) hw)
theorem fx_3b {pst : SX → Prop} (H : fk_ok n b) (h : pst (nI n, nI b, nI (2 + 8 * n + 4 * b), f, (fk_it (fk_sb n b) 0 (g, ct) (16 * n)).1, sv, (fk_it (fk_sb n b) 0 (g, ct) (16 * n)).2, lv)) : wpX_clearEqualNames pst (nI n, nI b, nI (2 + 8 * n + 4 * b), f, g, sv, ct, lv) := by
  have ⟨a3, a12, a2, a24⟩ := H
  unfold wpX_clearEqualNames
  dsimp only
  refine fk_iter (fun m p (s : fk_St) => wX_clearEqualNames_2 pst m (nI p) (nI n) (nI b) (nI (2 + 8 * n + 4 * b)) f s.1 sv s.2 lv) (fk_sb n b) 0 (16 * n) (g, ct) (fun m => ?_) (fun m p s h1 h2 hw => ?_)
  · exact pk_le (16 * n) (0 + 16 * n) (fun _ => h) (fun c => absurd c (by omega)) (fk_16m n)
  · obtain ⟨g, ct⟩ := s
    dsimp only
    refine pk_le (16 * n) p (fun c => absurd c (by omega)) (fun _ => ?_) (fk_16m n)
    have no : fk_rp g n b p = false → wX_clearEqualNames_2 pst m (nI (p + 1)) (nI n) (nI b) (nI (2 + 8 * n + 4 * b)) f g sv ct lv := by
      intro e
      have E : fk_sb n b p (g, ct) = (g, ct) := if_neg (by show ¬ fk_rp g n b p = true; rw [e]; decide)
      rw [E] at hw
      exact hw
    have ht := fk_tg_le (g := g) p H
    refine fx_tg H p (by omega) rfl ?_
    refine pk_eq (fk_tg g n b p) 0 (fun z => ?_) (fun z => ?_)
    · refine nm_r (nI_1 p) (no ?_)
      cases hr : fk_rp g n b p with
      | false => rfl
      | true => exact absurd z (fk_rp_tg H hr)
    · refine fx_rp H p (by omega) z rfl ?_
      refine fk_br0 (fun e => ?_) (fun e => ?_)
      · exact nm_r (nI_1 p) (no e)
      · have E : fk_sb n b p (g, ct) = fk_wp n b 5 p (g, ct) := if_pos e
        rw [E] at hw
        refine fx_clearPlace H p (by omega) rfl (fk_tg_pl z) ?_
        exact nm_e (nm_r (nI_1 p) hw)
theorem fx_kx {post : Int32 → Prop} {P : Int32} (H : fk_ok n b) (i : Nat) (hi : 1 ≤ i) (hn : i ≤ n) (hP : P = nI i) (h : post (fk_m1 (16 * n) (fk_kx g n b i 0))) : wpX_entryToKeep post (nI n, nI b, nI (2 + 8 * n + 4 * b), f, g, sv, ct, lv) P := by
  have ⟨a3, a12, a2, a24⟩ := H
  subst hP
  unfold wpX_entryToKeep
  dsimp only
  refine fx_field H i 2 hi hn (by omega) rfl rfl ?_
  refine fk_scan (fun k x => wX_entryToKeep_9 post (nI i) (g (fk_ad i 2)) (nI n) (nI b) (nI (2 + 8 * n + 4 * b)) f g sv ct lv k x) (fk_kP g n b i) 0 (16 * n) ?_ ?_
  · intro e _ k
    refine pk_le (16 * n) (0 + 16 * n) (fun _ => ?_) (fun c => absurd c (by omega)) (fk_16m n)
    refine fx_fi H i (by omega) rfl ?_
    have E : fk_kx g n b i 0 = fk_fi g n b i := if_neg (by show ¬ fk_fs (fk_kP g n b i) 0 (16 * n) < 16 * n; omega)
    rw [E] at h
    exact h
  · intro k p _ hp _ ht hf
    refine pk_le (16 * n) p (fun c => absurd c (by omega)) (fun _ => ?_) (fk_16m n)
    refine fx_pd p (by omega) rfl ?_
    have hl := fk_tg_le (g := g) p H
    refine br_c (fun e => ?_) (fun e => ?_)
    · refine fx_tg H p (by omega) rfl ?_
      refine pk_eq (fk_tg g n b p) i (fun e2 => ?_) (fun e2 => ?_)
      · have e3 := ht (by unfold fk_kP; rw [decide_eq_true e, decide_eq_true e2]; rfl)
        have E : fk_m1 (16 * n) (fk_kx g n b i 0) = nI p := by
          have E2 : fk_kx g n b i 0 = p := by
            unfold fk_kx
            rw [Nat.sub_zero, e3, if_pos (by omega)]
          rw [E2]
          exact if_pos (by omega)
        rw [E] at h
        exact h
      · exact nm_r (nI_1 p) (hf (by unfold fk_kP; rw [decide_eq_false e2, Bool.and_false]))
    · exact nm_r (nI_1 p) (hf (by unfold fk_kP; rw [decide_eq_false e]; rfl))
theorem fx_3c {pst : SX → Prop} (H : fk_ok n b) (h : pst (nI n, nI b, nI (2 + 8 * n + 4 * b), f, (fk_it (fk_sc n b) 3 (g, ct) (n - 2)).1, sv, (fk_it (fk_sc n b) 3 (g, ct) (n - 2)).2, lv)) : wpX_clearExtraEntries pst (nI n, nI b, nI (2 + 8 * n + 4 * b), f, g, sv, ct, lv) := by
  have ⟨a3, a12, a2, a24⟩ := H
  unfold wpX_clearExtraEntries
  dsimp only
  refine fk_iter (fun m i (s : fk_St) => wX_clearExtraEntries_2 pst m (nI i) (nI n) (nI b) (nI (2 + 8 * n + 4 * b)) f s.1 sv s.2 lv) (fk_sc n b) 3 (n - 2) (g, ct) (fun m => ?_) (fun m i s h1 h2 hw => ?_)
  · exact pk_lt n (3 + (n - 2)) (fun _ => h) (fun c => absurd c (by omega))
  · obtain ⟨g, ct⟩ := s
    dsimp only
    refine pk_lt n i (fun c => absurd c (by omega)) (fun _ => ?_)
    refine fx_isDir H i (by omega) (by omega) rfl ?_
    refine fk_br0 (fun e => ?_) (fun e => ?_)
    · have E : fk_sc n b i (g, ct) = (g, ct) := if_neg (by show ¬ fk_dr g i = true; rw [e]; decide)
      rw [E] at hw
      exact nm_r (nI_1 i) hw
    · have E : fk_sc n b i (g, ct) = fk_it (fk_sw n b i (fk_kx g n b i 0)) 0 (g, ct) (16 * n) := if_pos e
      rw [E] at hw
      refine fx_kx H i (by omega) (by omega) rfl ?_
      have hk := fk_kx_le (g := g) (n := n) (b := b) (i := i) (j := 0)
      generalize fk_kx g n b i 0 = kp at hw hk
      refine fk_iter (fun l p (s : fk_St) => wX_clearExtraEntries_26 pst (wX_clearExtraEntries_2 pst m) (nI i) (fk_m1 (16 * n) kp) l (nI p) (nI n) (nI b) (nI (2 + 8 * n + 4 * b)) f s.1 sv s.2 lv) (fk_sw n b i kp) 0 (16 * n) (g, ct) (fun l => ?_) (fun l p s h3 h4 hv => ?_)
      · exact pk_le (16 * n) (0 + 16 * n) (fun _ => nm_r (nI_1 i) hw) (fun c => absurd c (by omega)) (fk_16m n)
      · obtain ⟨g, ct⟩ := s
        dsimp only
        refine pk_le (16 * n) p (fun c => absurd c (by omega)) (fun _ => ?_) (fk_16m n)
        have no : ¬ (fk_tg g n b p = i ∧ p ≠ kp) → wX_clearExtraEntries_26 pst (wX_clearExtraEntries_2 pst m) (nI i) (fk_m1 (16 * n) kp) l (nI (p + 1)) (nI n) (nI b) (nI (2 + 8 * n + 4 * b)) f g sv ct lv := by
          intro z
          have E : fk_sw n b i kp p (g, ct) = (g, ct) := if_neg z
          rw [E] at hv
          exact hv
        have ht := fk_tg_le (g := g) p H
        refine br_c (fun c => ?_) (fun c => ?_)
        · rw [fk_m1_eq (by omega) hk (by omega)] at c
          exact nm_r (nI_1 p) (no (fun z => z.2 c))
        · rw [fk_m1_eq (by omega) hk (by omega)] at c
          refine fx_tg H p (by omega) rfl ?_
          refine pk_eq (fk_tg g n b p) i (fun y => ?_) (fun y => ?_)
          · have E : fk_sw n b i kp p (g, ct) = fk_wp n b 6 p (g, ct) := if_pos ⟨y, c⟩
            rw [E] at hv
            refine fx_clearPlace H p (by omega) rfl (fk_tg_pl (by omega)) ?_
            exact nm_e (nm_r (nI_1 p) hv)
          · exact nm_r (nI_1 p) (no (fun z => y z.1))
/-! Y's stage 3 -/
theorem fy_3c {pst : SY → Prop} (H : fk_ok n b) (h : pst (nI n, nI b, nI (2 + 8 * n + 4 * b), f, (fk_it (fk_sc n b) 3 (g, ct) (n - 2)).1, sv, (fk_it (fk_sc n b) 3 (g, ct) (n - 2)).2)) : ∃ k, wY_repairEntries_87 pst k 3 (nI n) (nI b) (nI (2 + 8 * n + 4 * b)) f g sv ct := by
  have ⟨a3, a12, a2, a24⟩ := H
  refine fk_iter (fun m i (s : fk_St) => wY_repairEntries_87 pst m (nI i) (nI n) (nI b) (nI (2 + 8 * n + 4 * b)) f s.1 sv s.2) (fk_sc n b) 3 (n - 2) (g, ct) (fun m => ?_) (fun m i s h1 h2 hw => ?_)
  · exact pk_lt n (3 + (n - 2)) (fun _ => h) (fun c => absurd c (by omega))
  · obtain ⟨g, ct⟩ := s
    dsimp only
    refine pk_lt n i (fun c => absurd c (by omega)) (fun _ => ?_)
    refine fy_field H i 0 (by omega) (by omega) (by omega) rfl rfl ?_
    refine br_c (fun e0 => ?_) (fun e0 => ?_)
    · have e : fk_dr g i = true := decide_eq_true e0
      have E : fk_sc n b i (g, ct) = fk_it (fk_sw n b i (fk_kx g n b i 0)) 0 (g, ct) (16 * n) := if_pos e
      rw [E] at hw
      have hl := fk_rf_le (g := g) (n := n) (b := b) (x := i)
      refine fy_rf H i (by omega) (by omega) rfl ?_
      refine pk_lt (fk_rf g n b i) 2 (fun c => ?_) (fun c => ?_)
      · rw [fk_sw_no (s := (g, ct)) c (16 * n) (Nat.le_refl _)] at hw
        exact nm_r (nI_1 i) hw
      · refine fy_fi H i (by omega) rfl ?_
        have em : 16 * nI n - 1 = nI (16 * n) + (-1) := by
          rw [fk_16m, Int32.sub_eq_add_neg]
        refine nm_r em ?_
        refine ⟨16 * n + 1, ?_⟩
        refine pk_loopD (fun l j (kp : Int32) => wY_repairEntries_130 pst (wY_repairEntries_87 pst m) (nI i) (nI n) (nI b) (nI (2 + 8 * n + 4 * b)) f g sv ct l kp (nI j + (-1))) (fun j kp => j ≤ 16 * n ∧ kp = fk_m1 (16 * n) (fk_kx g n b i j)) (fun l kp hk => ?_) (fun l j kp hk hn => ?_) (16 * n) _ ⟨Nat.le_refl _, by rw [fk_kx_e]⟩
        · refine br_t (by decide) ?_
          rw [hk.2]
          have hk := fk_kx_le (g := g) (n := n) (b := b) (i := i) (j := 0)
          generalize fk_kx g n b i 0 = kp at hw hk
          refine fk_iter (fun l p (s : fk_St) => wY_repairEntries_168 pst (wY_repairEntries_87 pst m) (nI i) (fk_m1 (16 * n) kp) l (nI p) (nI n) (nI b) (nI (2 + 8 * n + 4 * b)) f s.1 sv s.2) (fk_sw n b i kp) 0 (16 * n) (g, ct) (fun l => ?_) (fun l p s h3 h4 hv => ?_)
          · exact pk_le (16 * n) (0 + 16 * n) (fun _ => nm_r (nI_1 i) hw) (fun c => absurd c (by omega)) (fk_16m n)
          · obtain ⟨g, ct⟩ := s
            dsimp only
            refine pk_le (16 * n) p (fun c => absurd c (by omega)) (fun _ => ?_) (fk_16m n)
            have no : ¬ (fk_tg g n b p = i ∧ p ≠ kp) → wY_repairEntries_168 pst (wY_repairEntries_87 pst m) (nI i) (fk_m1 (16 * n) kp) l (nI (p + 1)) (nI n) (nI b) (nI (2 + 8 * n + 4 * b)) f g sv ct := by
              intro z
              have E : fk_sw n b i kp p (g, ct) = (g, ct) := if_neg z
              rw [E] at hv
              exact hv
            have ht := fk_tg_le (g := g) p H
            refine fy_tg H p (by omega) rfl ?_
            refine pk_eq (fk_tg g n b p) i (fun y => ?_) (fun y => ?_)
            · refine br_c (fun c => ?_) (fun c => ?_)
              · rw [fk_m1_eq (by omega) hk (by omega)] at c
                exact nm_r (nI_1 p) (no (fun z => z.2 c))
              · rw [fk_m1_eq (by omega) hk (by omega)] at c
                have E : fk_sw n b i kp p (g, ct) = fk_wp n b 6 p (g, ct) := if_pos ⟨y, c⟩
                rw [E] at hv
                refine fy_wipe H p 6 (by omega) (by omega) rfl rfl ?_
                exact nm_r (nI_1 p) hv
            · exact nm_r (nI_1 p) (no (fun z => y z.1))
        · rw [pk_m1]
          have hj : j < 16 * n := by have := hk.1; omega
          refine br_f (nI_pos (by omega)) ?_
          refine fy_tg H j hj rfl ?_
          have ht := fk_tg_le (g := g) j H
          refine pk_eq (fk_tg g n b j) i (fun y => ?_) (fun y => ?_)
          · refine ⟨fk_16, ?_⟩
            refine fy_field H i 2 (by omega) (by omega) (by omega) rfl rfl ?_
            rw [fk_d161 (by omega)]
            refine br_c (fun z => ?_) (fun z => ?_)
            · refine nm_e (hn _ ⟨by omega, ?_⟩)
              rw [fk_kx_y hj (by unfold fk_kP; rw [decide_eq_true z, decide_eq_true y]; rfl)]
              exact (if_pos hj).symm
            · refine nm_e (hn _ ⟨by omega, ?_⟩)
              rw [fk_kx_n hj (by unfold fk_kP; rw [decide_eq_false z]; rfl)]
              exact hk.2
          · refine nm_e (hn _ ⟨by omega, ?_⟩)
            rw [fk_kx_n hj (by unfold fk_kP; rw [decide_eq_false y, Bool.and_false])]
            exact hk.2
    · have e : fk_dr g i = false := decide_eq_false e0
      have E : fk_sc n b i (g, ct) = (g, ct) := if_neg (by show ¬ fk_dr g i = true; rw [e]; decide)
      rw [E] at hw
      exact nm_r (nI_1 i) hw
theorem fy_3b {pst : SY → Prop} (H : fk_ok n b) (h : ∃ k, wY_repairEntries_87 pst k 3 (nI n) (nI b) (nI (2 + 8 * n + 4 * b)) f ((fk_it (fk_sb n b) 0 (g, ct) (16 * n)).1) sv ((fk_it (fk_sb n b) 0 (g, ct) (16 * n)).2)) : ∃ k, wY_repairEntries_54 pst k 0 (nI n) (nI b) (nI (2 + 8 * n + 4 * b)) f g sv ct := by
  have ⟨a3, a12, a2, a24⟩ := H
  refine fk_iter (fun m p (s : fk_St) => wY_repairEntries_54 pst m (nI p) (nI n) (nI b) (nI (2 + 8 * n + 4 * b)) f s.1 sv s.2) (fk_sb n b) 0 (16 * n) (g, ct) (fun m => ?_) (fun m p s h1 h2 hw => ?_)
  · exact pk_le (16 * n) (0 + 16 * n) (fun _ => h) (fun c => absurd c (by omega)) (fk_16m n)
  · obtain ⟨g, ct⟩ := s
    dsimp only
    refine pk_le (16 * n) p (fun c => absurd c (by omega)) (fun _ => ?_) (fk_16m n)
    refine fy_rp H p (by omega) rfl ?_
    refine fk_br0 (fun e => ?_) (fun e => ?_)
    · have E : fk_sb n b p (g, ct) = (g, ct) := if_neg (by show ¬ fk_rp g n b p = true; rw [e]; decide)
      rw [E] at hw
      exact nm_r (nI_1 p) hw
    · have E : fk_sb n b p (g, ct) = fk_wp n b 5 p (g, ct) := if_pos e
      rw [E] at hw
      refine fy_wipe H p 5 (by omega) (by omega) rfl rfl ?_
      exact nm_r (nI_1 p) hw
theorem fy_3a {pst : SY → Prop} (H : fk_ok n b) (h : ∃ k, wY_repairEntries_54 pst k 0 (nI n) (nI b) (nI (2 + 8 * n + 4 * b)) f ((fk_it (fk_sa n b) 0 (g, ct) (16 * n)).1) sv ((fk_it (fk_sa n b) 0 (g, ct) (16 * n)).2)) : wpY_repairEntries pst (nI n, nI b, nI (2 + 8 * n + 4 * b), f, g, sv, ct) := by
  have ⟨a3, a12, a2, a24⟩ := H
  unfold wpY_repairEntries
  dsimp only
  refine fk_iter (fun m p (s : fk_St) => wY_repairEntries_2 pst m (nI p) (nI n) (nI b) (nI (2 + 8 * n + 4 * b)) f s.1 sv s.2) (fk_sa n b) 0 (16 * n) (g, ct) (fun m => ?_) (fun m p s h1 h2 hw => ?_)
  · exact pk_le (16 * n) (0 + 16 * n) (fun _ => h) (fun c => absurd c (by omega)) (fk_16m n)
  · obtain ⟨g, ct⟩ := s
    dsimp only
    refine pk_le (16 * n) p (fun c => absurd c (by omega)) (fun _ => ?_) (fk_16m n)
    have no : fk_bw g n b p = false → wY_repairEntries_2 pst m (nI (p + 1)) (nI n) (nI b) (nI (2 + 8 * n + 4 * b)) f g sv ct := by
      intro e
      have E : fk_sa n b p (g, ct) = (g, ct) := if_neg (by show ¬ fk_bw g n b p = true; rw [e]; decide)
      rw [E] at hw
      exact hw
    have hl := fk_pl_lt (g := g) p H
    have ht := fk_tg_le (g := g) p H
    refine fy_pl H p (by omega) rfl ?_
    refine pk_eq (fk_pl g n b p) 0 (fun z => ?_) (fun z => ?_)
    · exact nm_r (nI_1 p) (no (by unfold fk_bw; rw [decide_eq_true z]; rfl))
    · refine ⟨vp_in_nI hl (by decide), ?_⟩
      rw [nI_clamp (by omega)]
      refine br_c (fun e => ?_) (fun e => ?_)
      · exact nm_r (nI_1 p) (no (by unfold fk_bw; rw [decide_eq_true e, Bool.not_true, Bool.false_and, Bool.and_false]))
      · refine fy_tg H p (by omega) rfl ?_
        refine pk_eq (fk_tg g n b p) 0 (fun y => ?_) (fun y => ?_)
        · have hb : fk_bw g n b p = true := by unfold fk_bw; rw [decide_eq_false z, decide_eq_false e, decide_eq_true y]; rfl
          have E : fk_sa n b p (g, ct) = fk_wp n b 4 p (g, ct) := if_pos hb
          rw [E] at hw
          refine fy_wipe H p 4 (by omega) (by omega) rfl rfl ?_
          exact nm_r (nI_1 p) hw
        · exact nm_r (nI_1 p) (no (by unfold fk_bw; rw [decide_eq_false y, Bool.and_false, Bool.and_false]))
end FS3
end
section
/-! stage 4a: cycles -/
theorem fk_pig : ∀ (n : Nat) (o : Nat → Nat), (∀ k, k ≤ n → o k < n) → ∃ j k, j < k ∧ k ≤ n ∧ o j = o k := by
  intro n
  induction n with
  | zero =>
    intro o h
    exact absurd (h 0 (Nat.le_refl 0)) (by omega)
  | succ n ih =>
    intro o h
    by_cases c : ∃ j, j ≤ n ∧ o j = o (n + 1)
    · obtain ⟨j, j1, j2⟩ := c
      exact ⟨j, n + 1, by omega, Nat.le_refl _, j2⟩
    · have hne : ∀ j, j ≤ n → o j ≠ o (n + 1) := fun j hj e => c ⟨j, hj, e⟩
      have hv := h (n + 1) (Nat.le_refl _)
      obtain ⟨j, k, h1, h2, h3⟩ := ih (fun j => if o j < o (n + 1) then o j else o j - 1) (fun k hk => by
        have a := h k (by omega)
        have d := hne k hk
        show (if o k < o (n + 1) then o k else o k - 1) < n
        split <;> omega)
      have h3 : (if o j < o (n + 1) then o j else o j - 1) = (if o k < o (n + 1) then o k else o k - 1) := h3
      have d1 := hne j (by omega)
      have d2 := hne k h2
      refine ⟨j, k, h1, by omega, ?_⟩
      by_cases c1 : o j < o (n + 1)
      · by_cases c2 : o k < o (n + 1)
        · rw [if_pos c1, if_pos c2] at h3; exact h3
        · rw [if_pos c1, if_neg c2] at h3; omega
      · by_cases c2 : o k < o (n + 1)
        · rw [if_neg c1, if_pos c2] at h3; omega
        · rw [if_neg c1, if_neg c2] at h3; omega
def fk_ob (g : Nat → Int32) (n b i : Nat) : Nat → Nat
  | 0 => i
  | k + 1 => if fk_ob g n b i k = 0 then 0 else fk_ho g n b (fk_ob g n b i k)
def fk_oc (g : Nat → Int32) (n b i : Nat) : Bool := fk_an (fun k => decide (fk_ob g n b i k = i)) 1 n
theorem fk_ob_s {g : Nat → Int32} {n b i k : Nat} (h : ¬ fk_ob g n b i k = 0) : fk_ob g n b i (k + 1) = fk_ho g n b (fk_ob g n b i k) := if_neg h
theorem fk_ob_0 {g : Nat → Int32} {n b i k : Nat} (h : fk_ob g n b i k = 0) : ∀ m, fk_ob g n b i (k + m) = 0 := by
  intro m
  induction m with
  | zero => exact h
  | succ m ih => exact if_pos ih
theorem fk_ob_le {g : Nat → Int32} {n b i : Nat} (hi : i ≤ n) : ∀ k, fk_ob g n b i k ≤ n := by
  intro k
  cases k with
  | zero => exact hi
  | succ k =>
    show (if fk_ob g n b i k = 0 then 0 else fk_ho g n b (fk_ob g n b i k)) ≤ n
    split
    · omega
    · exact fk_ho_le
theorem fk_ob_sh {g : Nat → Int32} {n b i j k : Nat} (h : fk_ob g n b i j = fk_ob g n b i k) : ∀ m, fk_ob g n b i (j + m) = fk_ob g n b i (k + m) := by
  intro m
  induction m with
  | zero => exact h
  | succ m ih =>
    show (if fk_ob g n b i (j + m) = 0 then 0 else fk_ho g n b (fk_ob g n b i (j + m))) = (if fk_ob g n b i (k + m) = 0 then 0 else fk_ho g n b (fk_ob g n b i (k + m)))
    rw [ih]
theorem fk_ob_ret {g : Nat → Int32} {n b i : Nat} (hi : 1 ≤ i) (hn : i ≤ n) (h : ∀ k, 1 ≤ k → k ≤ n → fk_ob g n b i k ≠ i ∧ fk_ob g n b i k ≠ 0) : fk_ob g n b i (n + 1) ≠ i := by
  intro e
  obtain ⟨j, k, h1, h2, h3⟩ := fk_pig n (fun k => fk_ob g n b i k - 1) (fun k hk => by
    have a := fk_ob_le (g := g) (n := n) (b := b) hn k
    have c : fk_ob g n b i k ≠ 0 := by
      by_cases z : k = 0
      · subst z
        show i ≠ 0
        omega
      · exact (h k (by omega) hk).2
    show fk_ob g n b i k - 1 < n
    omega)
  have nz : ∀ k, k ≤ n → fk_ob g n b i k ≠ 0 := by
    intro k hk
    by_cases z : k = 0
    · subst z
      show i ≠ 0
      omega
    · exact (h k (by omega) hk).2
  have h3 : fk_ob g n b i j - 1 = fk_ob g n b i k - 1 := h3
  have a1 := nz j (by omega)
  have a2 := nz k h2
  have h4 := fk_ob_sh (show fk_ob g n b i j = fk_ob g n b i k by omega) (n + 1 - k)
  rw [show k + (n + 1 - k) = n + 1 by omega, e] at h4
  exact (h (j + (n + 1 - k)) (by omega) (by omega)).1 h4
/-- the way up stops, or comes back, at step t + 1 -/
theorem fk_oc_z {g : Nat → Int32} {n b i t : Nat} (hi : 1 ≤ i) (h : ∀ k, 1 ≤ k → k ≤ t → fk_ob g n b i k ≠ i) (e : fk_ob g n b i (t + 1) = 0) : fk_oc g n b i = false := by
  unfold fk_oc
  rw [fk_an_f]
  intro k k1 k2
  refine decide_eq_false ?_
  by_cases c : k ≤ t
  · exact h k k1 c
  · have := fk_ob_0 e (k - (t + 1))
    rw [show t + 1 + (k - (t + 1)) = k by omega] at this
    omega
theorem fk_oc_y {g : Nat → Int32} {n b i t : Nat} (ht : t < n) (e : fk_ob g n b i (t + 1) = i) : fk_oc g n b i = true := by
  unfold fk_oc
  rw [fk_an_t]
  exact ⟨t + 1, by omega, by omega, decide_eq_true e⟩
theorem fk_oc_n {g : Nat → Int32} {n b i : Nat} (h : ∀ k, 1 ≤ k → k ≤ n → fk_ob g n b i k ≠ i) : fk_oc g n b i = false := by
  unfold fk_oc
  rw [fk_an_f]
  intro k k1 k2
  exact decide_eq_false (h k k1 (by omega))
theorem fk_oc_fi {g : Nat → Int32} {n b i : Nat} (hi : 1 ≤ i) (h : fk_oc g n b i = true) : fk_fi g n b i < 16 * n := by
  apply Classical.byContradiction
  intro c
  have e : fk_ob g n b i (0 + 1) = 0 := by
    rw [fk_ob_s (show ¬ fk_ob g n b i 0 = 0 by show ¬ i = 0; omega)]
    exact if_neg c
  rw [fk_oc_z hi (fun k k1 k2 => absurd k1 (by omega)) e] at h
  exact absurd h (by decide)
def fk_s4 (n b i : Nat) (s : fk_St) : fk_St := if fk_dr s.1 i = true ∧ fk_oc s.1 n b i = true then fk_wp n b 7 (fk_fi s.1 n b i) s else s
section FS4
variable {n b : Nat} {f : Int32} {g sv ct lv : Nat → Int32}
theorem fx_oc {post : Int32 → Prop} {P : Int32} (H : fk_ok n b) (i : Nat) (hi : 1 ≤ i) (hn : i ≤ n) (hP : P = nI i) (h : post (fk_bI (fk_oc g n b i))) : wpX_onCycle post (nI n, nI b, nI (2 + 8 * n + 4 * b), f, g, sv, ct, lv) P := by
  have ⟨a3, a12, a2, a24⟩ := H
  subst hP
  unfold wpX_onCycle
  dsimp only
  refine pk_loop (fun k t (a : Int32) => wX_onCycle_4 post (nI i) (nI n) (nI b) (nI (2 + 8 * n + 4 * b)) f g sv ct lv k a (nI t)) (fun t a => a = nI (fk_ob g n b i t) ∧ ¬ fk_ob g n b i t = 0 ∧ ∀ k, 1 ≤ k → k ≤ t → fk_ob g n b i k ≠ i) n 0 (nI i) (by omega) ⟨rfl, by show ¬ i = 0; omega, fun k k1 k2 => absurd k1 (by omega)⟩ (fun k a ha => ?_) (fun k t a ht ha hw => ?_)
  · rw [fk_oc_n ha.2.2] at h
    exact pk_le n n (fun _ => h) (fun c => absurd c (by omega))
  · obtain ⟨e, h0, hk⟩ := ha
    subst e
    have hl := fk_ob_le (g := g) (n := n) (b := b) hn t
    have hs := fk_ob_s h0
    refine pk_le n t (fun c => absurd c (by omega)) (fun _ => ?_)
    refine fx_fi H (fk_ob g n b i t) (by omega) rfl ?_
    unfold fk_m1
    by_cases c : fk_fi g n b (fk_ob g n b i t) < 16 * n
    · rw [if_pos c]
      have eh : fk_ho g n b (fk_ob g n b i t) = fk_fi g n b (fk_ob g n b i t) / 16 + 1 := if_pos c
      refine br_t (nI_pos' (by omega)) ?_
      refine fx_pd _ (by omega) rfl ?_
      rw [← eh, ← hs]
      have hl2 := fk_ob_le (g := g) (n := n) (b := b) hn (t + 1)
      refine pk_eq (fk_ob g n b i (t + 1)) i (fun z => ?_) (fun z => ?_)
      · rw [fk_oc_y ht z] at h
        exact h
      · refine nm_r (nI_1 t) (hw _ ⟨rfl, by omega, fun k k1 k2 => ?_⟩)
        by_cases y : k = t + 1
        · subst y; exact z
        · exact hk k k1 (by omega)
    · rw [if_neg c]
      have eh : fk_ho g n b (fk_ob g n b i t) = 0 := if_neg c
      rw [fk_oc_z hi hk (hs.trans eh)] at h
      exact br_f (by decide) h
theorem fx_4a {pst : SX → Prop} (H : fk_ok n b) (h : pst (nI n, nI b, nI (2 + 8 * n + 4 * b), f, (fk_it (fk_s4 n b) 3 (g, ct) (n - 2)).1, sv, (fk_it (fk_s4 n b) 3 (g, ct) (n - 2)).2, lv)) : wpX_breakCycles pst (nI n, nI b, nI (2 + 8 * n + 4 * b), f, g, sv, ct, lv) := by
  have ⟨a3, a12, a2, a24⟩ := H
  unfold wpX_breakCycles
  dsimp only
  refine fk_iter (fun m i (s : fk_St) => wX_breakCycles_2 pst m (nI i) (nI n) (nI b) (nI (2 + 8 * n + 4 * b)) f s.1 sv s.2 lv) (fk_s4 n b) 3 (n - 2) (g, ct) (fun m => ?_) (fun m i s h1 h2 hw => ?_)
  · exact pk_lt n (3 + (n - 2)) (fun _ => h) (fun c => absurd c (by omega))
  · obtain ⟨g, ct⟩ := s
    dsimp only
    refine pk_lt n i (fun c => absurd c (by omega)) (fun _ => ?_)
    have no : ¬ (fk_dr g i = true ∧ fk_oc g n b i = true) → wX_breakCycles_2 pst m (nI (i + 1)) (nI n) (nI b) (nI (2 + 8 * n + 4 * b)) f g sv ct lv := by
      intro z
      have E : fk_s4 n b i (g, ct) = (g, ct) := if_neg z
      rw [E] at hw
      exact hw
    refine fx_isDir H i (by omega) (by omega) rfl ?_
    refine fk_br0 (fun e => ?_) (fun e => ?_)
    · exact nm_r (nI_1 i) (no (by rw [e]; intro z; exact absurd z.1 (by decide)))
    · refine fx_oc H i (by omega) (by omega) rfl ?_
      refine fk_br0 (fun e2 => ?_) (fun e2 => ?_)
      · exact nm_r (nI_1 i) (no (by rw [e2]; intro z; exact absurd z.2 (by decide)))
      · have E : fk_s4 n b i (g, ct) = fk_wp n b 7 (fk_fi g n b i) (g, ct) := if_pos ⟨e, e2⟩
        rw [E] at hw
        have hf := fk_oc_fi (by omega) e2
        refine fx_fi H i (by omega) rfl ?_
        have E2 : fk_m1 (16 * n) (fk_fi g n b i) = nI (fk_fi g n b i) := if_pos hf
        rw [E2]
        refine br_f (nI_pos (by omega)) ?_
        have ht : fk_tg g n b (fk_fi g n b i) = i := by
          rcases fk_fi_ex g n b i with z | z
          · exact z.2.1
          · omega
        refine fx_clearPlace H (fk_fi g n b i) hf rfl (fk_tg_pl (by omega)) ?_
        exact nm_e (nm_r (nI_1 i) hw)
theorem fy_57 {pst : SY → Prop} {J : Int32 → Int32 → Int32 → Int32 → Int32 → (Nat → Int32) → (Nat → Int32) → (Nat → Int32) → Prop} {x2 : Int32} (H : fk_ok n b) (i : Nat) (hi : 3 ≤ i) (hn : i ≤ n) (hd : fk_dr g i = true) (hx : x2 = nI i ↔ fk_oc g n b i = true) (h : J (nI (i + 1)) (nI n) (nI b) (nI (2 + 8 * n + 4 * b)) f ((fk_s4 n b i (g, ct)).1) sv ((fk_s4 n b i (g, ct)).2)) : wY_repairCycles_57 pst J (nI i) x2 (nI n) (nI b) (nI (2 + 8 * n + 4 * b)) f g sv ct := by
  have ⟨a3, a12, a2, a24⟩ := H
  unfold wY_repairCycles_57
  refine fy_fi H i (by omega) rfl ?_
  refine br_c (fun e => ?_) (fun e => ?_)
  · have e2 := hx.mp e
    have E : fk_s4 n b i (g, ct) = fk_wp n b 7 (fk_fi g n b i) (g, ct) := if_pos ⟨hd, e2⟩
    rw [E] at h
    have hf := fk_oc_fi (by omega) e2
    refine fy_wipe H (fk_fi g n b i) 7 hf (by omega) (if_pos hf) rfl ?_
    exact nm_r (nI_1 i) h
  · have E : fk_s4 n b i (g, ct) = (g, ct) := if_neg (fun z => e (hx.mpr z.2))
    rw [E] at h
    exact nm_r (nI_1 i) h
theorem fy_4a {pst : SY → Prop} (H : fk_ok n b) (h : pst (nI n, nI b, nI (2 + 8 * n + 4 * b), f, (fk_it (fk_s4 n b) 3 (g, ct) (n - 2)).1, sv, (fk_it (fk_s4 n b) 3 (g, ct) (n - 2)).2)) : wpY_repairCycles pst (nI n, nI b, nI (2 + 8 * n + 4 * b), f, g, sv, ct) := by
  have ⟨a3, a12, a2, a24⟩ := H
  unfold wpY_repairCycles
  dsimp only
  refine fk_iter (fun m i (s : fk_St) => wY_repairCycles_2 pst m (nI i) (nI n) (nI b) (nI (2 + 8 * n + 4 * b)) f s.1 sv s.2) (fk_s4 n b) 3 (n - 2) (g, ct) (fun m => ?_) (fun m i s h1 h2 hw => ?_)
  · exact pk_lt n (3 + (n - 2)) (fun _ => h) (fun c => absurd c (by omega))
  · obtain ⟨g, ct⟩ := s
    dsimp only
    have hn : i ≤ n := by omega
    refine pk_lt n i (fun c => absurd c (by omega)) (fun _ => ?_)
    refine fy_field H i 0 (by omega) (by omega) (by omega) rfl rfl ?_
    refine br_c (fun e0 => ?_) (fun e0 => ?_)
    · have e : fk_dr g i = true := decide_eq_true e0
      refine fy_ho H i (by omega) rfl ?_
      have eb : fk_ob g n b i (0 + 1) = fk_ho g n b i := fk_ob_s (show ¬ fk_ob g n b i 0 = 0 by show ¬ i = 0; omega)
      refine pk_loop (fun l t (x : Int32) => wY_repairCycles_28 pst (wY_repairCycles_2 pst m) (nI i) (nI n) (nI b) (nI (2 + 8 * n + 4 * b)) f g sv ct l x (nI t)) (fun t x => x = nI (fk_ob g n b i (t + 1)) ∧ ∀ k, 1 ≤ k → k ≤ t → fk_ob g n b i k ≠ i ∧ fk_ob g n b i k ≠ 0) n 0 _ (by omega) ⟨by rw [eb], fun k k1 k2 => absurd k1 (by omega)⟩ (fun l x hx => ?_) (fun l t x ht hx hv => ?_)
      · obtain ⟨ex, hk⟩ := hx
        subst ex
        have hl := fk_ob_le (g := g) (n := n) (b := b) hn (n + 1)
        refine pk_le n n (fun _ => ?_) (fun c => absurd c (by omega))
        refine fy_57 H i h1 hn e ?_ hw
        rw [nI_eq (by omega) (by omega), fk_oc_n (fun k k1 k2 => (hk k k1 k2).1)]
        exact ⟨fun z => absurd z (fk_ob_ret (by omega) hn hk), fun z => absurd z (by decide)⟩
      · obtain ⟨ex, hk⟩ := hx
        subst ex
        have hl := fk_ob_le (g := g) (n := n) (b := b) hn (t + 1)
        refine pk_le n t (fun c => absurd c (by omega)) (fun _ => ?_)
        refine pk_eq (fk_ob g n b i (t + 1)) 0 (fun z => ?_) (fun z => ?_)
        · refine fy_57 H i h1 hn e ?_ hw
          rw [nI_eq (by omega) (by omega), fk_oc_z (by omega) (fun k k1 k2 => (hk k k1 k2).1) z]
          exact ⟨fun y => absurd y (by omega), fun y => absurd y (by decide)⟩
        · refine pk_eq (fk_ob g n b i (t + 1)) i (fun y => ?_) (fun y => ?_)
          · refine fy_57 H i h1 hn e ?_ hw
            rw [fk_oc_y ht y, y]
            exact ⟨fun _ => rfl, fun _ => rfl⟩
          · refine fy_ho H (fk_ob g n b i (t + 1)) (by omega) rfl ?_
            rw [← fk_ob_s z]
            refine nm_r (nI_1 t) (hv _ ⟨rfl, fun k k1 k2 => ?_⟩)
            by_cases w : k = t + 1
            · subst w; exact ⟨y, z⟩
            · exact hk k k1 (by omega)
    · have e : fk_dr g i = false := decide_eq_false e0
      have E : fk_s4 n b i (g, ct) = (g, ct) := if_neg (by rintro ⟨z, _⟩; rw [show fk_dr (g, ct).1 i = false from e] at z; exact absurd z (by decide))
      rw [E] at hw
      exact nm_r (nI_1 i) hw
end FS4
end
section
/-! stage 4b: orphans -/
def fk_lk (g : Nat → Int32) (n b d m : Nat) : Nat := if fk_fn g n b d m < 16 * d then fk_tg g n b (fk_fn g n b d m) else 0
def fk_op (g : Nat → Int32) (n b i : Nat) : Bool := fk_iu g i && !(decide (fk_fi g n b i < 16 * n))
def fk_lo (g : Nat → Int32) (n b : Nat) : Nat := fk_z (n + 1) (fk_fs (fk_op g n b) 3 (n - 2))
def fk_un (g : Nat → Int32) (n b : Nat) : Nat := fk_fs (fun m => !(decide (fk_fn g n b 2 m < 32))) 1 16
def fk_eP (g : Nat → Int32) (n b p : Nat) : Bool := !(decide (fk_pl g n b p = 0)) && decide (g (fk_pl g n b p) = 0)
def fk_ev (g : Nat → Int32) (n b : Nat) : Nat := fk_fs (fk_eP g n b) 16 16
def fk_gP (g : Nat → Int32) (n b s : Nat) : Bool := !(decide (fk_fb g n b = 0)) && decide (g (fk_ad 2 (4 + s)) = 0)
def fk_gs (g : Nat → Int32) (n b : Nat) : Nat := fk_fs (fk_gP g n b) 0 4
def fk_wd (g : Nat → Int32) (n b o : Nat) : Int32 := nI (fk_un g n b) * 16 + nI o
def fk_zc (g : Nat → Int32) (A : Nat) : Nat → Nat → Int32
  | 0 => g
  | k + 1 => upd (fk_zc g A k) (A + k) 0
def fk_se (n b o : Nat) (s : fk_St) : fk_St :=
  if fk_ev s.1 n b < 32 then (upd s.1 (fk_pl s.1 n b (fk_ev s.1 n b)) (fk_wd s.1 n b o), upd s.2 8 (s.2 8 + 1))
  else if fk_gs s.1 n b < 4 then (upd (fk_zc (upd s.1 (fk_ad 2 (4 + fk_gs s.1 n b)) (nI (fk_fb s.1 n b))) (fk_ce n (fk_fb s.1 n b) 0) 4) (fk_ce n (fk_fb s.1 n b) 0) (fk_wd s.1 n b o), upd s.2 8 (s.2 8 + 1))
  else (fk_cz s.1 o 8, upd s.2 9 (s.2 9 + 1))
def fk_s6 (n b : Nat) (_ : Nat) (s : fk_St) : fk_St := if fk_lo s.1 n b = 0 then s else fk_se n b (fk_lo s.1 n b) s
theorem fk_it_s {σ : Type} {F : Nat → σ → σ} {i : Nat} {s : σ} : ∀ k, fk_it F i s (k + 1) = fk_it F (i + 1) (F i s) k := by
  intro k
  induction k with
  | zero => rfl
  | succ k ih =>
    show F (i + (k + 1)) (fk_it F i s (k + 1)) = F (i + 1 + k) (fk_it F (i + 1) (F i s) k)
    rw [ih, show i + (k + 1) = i + 1 + k by omega]
theorem fk_it_fix {σ : Type} {F : Nat → σ → σ} {s : σ} (h : ∀ i, F i s = s) : ∀ k i, fk_it F i s k = s := by
  intro k
  induction k with
  | zero => intro i; rfl
  | succ k ih =>
    intro i
    show F (i + k) (fk_it F i s k) = s
    rw [ih i, h]
theorem fk_lo_ex {g : Nat → Int32} {n b : Nat} : fk_lo g n b = 0 ∨ (3 ≤ fk_lo g n b ∧ fk_lo g n b ≤ n) := by
  rcases fk_fs_spec (fk_op g n b) 3 (n - 2) with ⟨a, c, d, e⟩ | ⟨a, c⟩
  · have E : fk_lo g n b = fk_fs (fk_op g n b) 3 (n - 2) := if_pos (by omega)
    rw [E]
    exact Or.inr ⟨a, by omega⟩
  · exact Or.inl (if_neg (by omega))
theorem fk_rf_fi {g : Nat → Int32} {n b i : Nat} : fk_rf g n b i = 0 ↔ ¬ fk_fi g n b i < 16 * n := by
  unfold fk_rf
  rw [fk_ct_0]
  rcases fk_fi_ex g n b i with ⟨h1, h2, h3⟩ | ⟨h1, h2⟩
  · constructor
    · intro h
      exact absurd h2 (of_decide_eq_false (h _ (by omega) (by omega)))
    · intro h
      exact absurd h1 h
  · exact ⟨fun _ => by omega, fun _ q _ hq => decide_eq_false (h2 q (by omega))⟩
section FS5
variable {n b : Nat} {f : Int32} {g sv ct lv : Nat → Int32} {post : Int32 → Prop}
theorem fy_lk {P Q : Int32} (H : fk_ok n b) (d m : Nat) (hd : 1 ≤ d) (hn : d ≤ n) (h1 : 1 ≤ m) (h2 : m ≤ 255) (hP : P = nI d) (hQ : Q = nI m) (h : post (nI (fk_lk g n b d m))) : wpY_lookup post (nI n, nI b, nI (2 + 8 * n + 4 * b), f, g, sv, ct) P Q := by
  have ⟨a3, a12, a2, a24⟩ := H
  subst hP hQ
  unfold wpY_lookup
  dsimp only
  refine br_f (nI_nlt (b := 1) hd (by omega)) (br_f (nI_nlt hn (by omega)) (br_f (nI_nlt (b := 1) h1 (by omega)) (br_t (nI_le (b := 255) h2 (by decide)) ?_)))
  refine nm_r (fk_16d hd) ?_
  refine fk_scan (fun k x => wY_lookup_34 post (nI d) (nI m) (nI n) (nI b) (nI (2 + 8 * n + 4 * b)) f g sv ct k x) (fun p => decide (fk_nm g n b p = m)) (16 * (d - 1)) 16 ?_ ?_
  · intro e _ k
    refine pk_le (16 * d) (16 * (d - 1) + 16) (fun _ => ?_) (fun c => absurd c (by omega)) (fk_16m d)
    have E : fk_lk g n b d m = 0 := if_neg (by unfold fk_fn; omega)
    rw [E] at h
    exact h
  · intro k p _ hp _ ht hf
    refine pk_le (16 * d) p (fun c => absurd c (by omega)) (fun _ => ?_) (fk_16m d)
    refine fy_nm H p (by omega) rfl ?_
    have hl := fk_nm_le (g := g) p H
    refine pk_eq (fk_nm g n b p) m (fun c => ?_) (fun c => ?_)
    · have e := ht (decide_eq_true c)
      have E : fk_lk g n b d m = fk_tg g n b p := by
        unfold fk_lk fk_fn
        rw [e, if_pos (by omega)]
      rw [E] at h
      exact fy_tg H p (by omega) rfl h
    · exact nm_r (nI_1 p) (hf (decide_eq_false c))
theorem fk_lk_0 {d m : Nat} (H : fk_ok n b) (hd : 1 ≤ d) (hm : 1 ≤ m) : fk_lk g n b d m = 0 ↔ ¬ fk_fn g n b d m < 16 * d := by
  unfold fk_lk
  by_cases c : fk_fn g n b d m < 16 * d
  · rw [if_pos c]
    have hn : fk_nm g n b (fk_fn g n b d m) = m := by
      rcases fk_fs_spec (fun p => decide (fk_nm g n b p = m)) (16 * (d - 1)) 16 with ⟨_, _, e, _⟩ | ⟨e, _⟩
      · exact of_decide_eq_true e
      · unfold fk_fn at c
        omega
    constructor
    · intro z
      have := (fk_nm_0 (g := g) (fk_fn g n b d m) H).mpr z
      omega
    · intro z; exact absurd c z
  · rw [if_neg c]
    exact ⟨fun _ => c, fun _ => rfl⟩
theorem fx_lo (H : fk_ok n b) (h : post (nI (fk_lo g n b))) : wpX_leastOrphan post (nI n, nI b, nI (2 + 8 * n + 4 * b), f, g, sv, ct, lv) := by
  have ⟨a3, a12, a2, a24⟩ := H
  unfold wpX_leastOrphan
  dsimp only
  refine fk_scan (fun k x => wX_leastOrphan_2 post (nI n) (nI b) (nI (2 + 8 * n + 4 * b)) f g sv ct lv k x) (fk_op g n b) 3 (n - 2) ?_ ?_
  · intro e _ k
    refine pk_lt n (3 + (n - 2)) (fun _ => ?_) (fun c => absurd c (by omega))
    have E : fk_lo g n b = 0 := if_neg (by omega)
    rw [E] at h
    exact h
  · intro k i h1 h2 _ ht hf
    refine pk_lt n i (fun c => absurd c (by omega)) (fun _ => ?_)
    refine fx_inUse H i (by omega) (by omega) rfl ?_
    refine fk_br0 (fun e => ?_) (fun e => ?_)
    · exact nm_r (nI_1 i) (hf (by unfold fk_op; rw [e]; rfl))
    · refine fx_fi H i (by omega) rfl ?_
      unfold fk_m1
      by_cases c : fk_fi g n b i < 16 * n
      · rw [if_pos c]
        exact br_t (nI_pos' (by omega)) (nm_r (nI_1 i) (hf (by unfold fk_op; rw [decide_eq_true c, Bool.not_true, Bool.and_false])))
      · rw [if_neg c]
        have e1 := ht (by unfold fk_op; rw [e, decide_eq_false c]; rfl)
        have E : fk_lo g n b = i := by
          unfold fk_lo
          rw [e1]
          exact if_pos (by omega)
        rw [E] at h
        exact br_f (by decide) h
theorem fy_lo (H : fk_ok n b) (h : post (nI (fk_lo g n b))) : wpY_orphan post (nI n, nI b, nI (2 + 8 * n + 4 * b), f, g, sv, ct) := by
  have ⟨a3, a12, a2, a24⟩ := H
  unfold wpY_orphan
  dsimp only
  refine fk_scan (fun k x => wY_orphan_2 post (nI n) (nI b) (nI (2 + 8 * n + 4 * b)) f g sv ct k x) (fk_op g n b) 3 (n - 2) ?_ ?_
  · intro e _ k
    refine pk_lt n (3 + (n - 2)) (fun _ => ?_) (fun c => absurd c (by omega))
    have E : fk_lo g n b = 0 := if_neg (by omega)
    rw [E] at h
    exact h
  · intro k i h1 h2 _ ht hf
    refine pk_lt n i (fun c => absurd c (by omega)) (fun _ => ?_)
    refine fy_inUse H i (by omega) (by omega) rfl ?_
    have hl := fk_rf_le (g := g) (n := n) (b := b) (x := i)
    refine fk_br0 (fun e => ?_) (fun e => ?_)
    · exact nm_r (nI_1 i) (hf (by unfold fk_op; rw [e]; rfl))
    · refine fy_rf H i (by omega) (by omega) rfl ?_
      refine pk_eq (fk_rf g n b i) 0 (fun c => ?_) (fun c => ?_)
      · have c := fk_rf_fi.mp c
        have e1 := ht (by unfold fk_op; rw [e, decide_eq_false c]; rfl)
        have E : fk_lo g n b = i := by
          unfold fk_lo
          rw [e1]
          exact if_pos (by omega)
        rw [E] at h
        exact h
      · have c : fk_fi g n b i < 16 * n := by
          apply Classical.byContradiction
          intro z
          exact c (fk_rf_fi.mpr z)
        exact nm_r (nI_1 i) (hf (by unfold fk_op; rw [decide_eq_true c, Bool.not_true, Bool.and_false]))
theorem fx_un (H : fk_ok n b) (h : post (nI (fk_un g n b))) : wpX_unusedName post (nI n, nI b, nI (2 + 8 * n + 4 * b), f, g, sv, ct, lv) := by
  have ⟨a3, a12, a2, a24⟩ := H
  unfold wpX_unusedName
  dsimp only
  refine fk_scan (fun k x => wX_unusedName_2 post (nI n) (nI b) (nI (2 + 8 * n + 4 * b)) f g sv ct lv k x) (fun m => !(decide (fk_fn g n b 2 m < 32))) 1 16 ?_ ?_
  · intro e _ k
    have E : fk_un g n b = 17 := e
    rw [E] at h
    exact pk_lt 16 (1 + 16) (fun _ => h) (fun c => absurd c (by omega))
  · intro k m h1 h2 _ ht hf
    refine pk_lt 16 m (fun c => absurd c (by omega)) (fun _ => ?_)
    refine fx_fn H 2 m (by omega) (by omega) h1 (by omega) rfl rfl ?_
    unfold fk_m1
    by_cases c : fk_fn g n b 2 m < 16 * 2
    · rw [if_pos c]
      exact br_t (nI_pos' (by omega)) (nm_r (nI_1 m) (hf (by rw [decide_eq_true c]; rfl)))
    · rw [if_neg c]
      have E : fk_un g n b = m := ht (by rw [decide_eq_false c]; rfl)
      rw [E] at h
      exact br_f (by decide) h
theorem fy_un (H : fk_ok n b) (h : post (nI (fk_un g n b))) : wpY_freshName post (nI n, nI b, nI (2 + 8 * n + 4 * b), f, g, sv, ct) := by
  have ⟨a3, a12, a2, a24⟩ := H
  unfold wpY_freshName
  dsimp only
  refine fk_scan (fun k x => wY_freshName_2 post (nI n) (nI b) (nI (2 + 8 * n + 4 * b)) f g sv ct k x) (fun m => !(decide (fk_fn g n b 2 m < 32))) 1 16 ?_ ?_
  · intro e _ k
    have E : fk_un g n b = 17 := e
    rw [E] at h
    exact pk_lt 16 (1 + 16) (fun _ => h) (fun c => absurd c (by omega))
  · intro k m h1 h2 _ ht hf
    refine pk_lt 16 m (fun c => absurd c (by omega)) (fun _ => ?_)
    refine fy_lk H 2 m (by omega) (by omega) h1 (by omega) rfl rfl ?_
    have hz := fk_lk_0 (g := g) (d := 2) (m := m) H (by omega) h1
    have hl : fk_lk g n b 2 m ≤ n := by
      unfold fk_lk
      split
      · exact fk_tg_le _ H
      · omega
    refine pk_eq (fk_lk g n b 2 m) 0 (fun c => ?_) (fun c => ?_)
    · have E : fk_un g n b = m := ht (by rw [decide_eq_false (hz.mp c)]; rfl)
      rw [E] at h
      exact h
    · have c : fk_fn g n b 2 m < 32 := by
        apply Classical.byContradiction
        intro z
        exact c (hz.mpr z)
      exact nm_r (nI_1 m) (hf (by rw [decide_eq_true c]; rfl))
theorem fk_un_le : fk_un g n b ≤ 17 := by
  rcases fk_fs_spec (fun m => !(decide (fk_fn g n b 2 m < 32))) 1 16 with h | h
  · unfold fk_un; omega
  · unfold fk_un; omega
theorem fx_ev (H : fk_ok n b) (h : post (if fk_ev g n b < 32 then nI (fk_pl g n b (fk_ev g n b)) else -1)) : wpX_emptyPlaceAddress post (nI n, nI b, nI (2 + 8 * n + 4 * b), f, g, sv, ct, lv) := by
  have ⟨a3, a12, a2, a24⟩ := H
  unfold wpX_emptyPlaceAddress
  dsimp only
  refine fk_scan (fun k x => wX_emptyPlaceAddress_3 post (nI n) (nI b) (nI (2 + 8 * n + 4 * b)) f g sv ct lv k x) (fk_eP g n b) 16 16 ?_ ?_
  · intro e _ k
    rw [if_neg (by unfold fk_ev; omega)] at h
    exact pk_le 32 (16 + 16) (fun _ => h) (fun c => absurd c (by omega))
  · intro k p h1 h2 _ ht hf
    refine pk_le 32 p (fun c => absurd c (by omega)) (fun _ => ?_)
    refine fx_pl H p (by omega) rfl ?_
    have hl := fk_pl_lt (g := g) p H
    unfold fk_xa
    by_cases c : fk_pl g n b p = 0
    · rw [if_pos c]
      exact br_t (by decide) (nm_r (nI_1 p) (hf (by unfold fk_eP; rw [decide_eq_true c]; rfl)))
    · rw [if_neg c]
      refine br_f (nI_pos (by omega)) ⟨vp_in_nI hl (by decide), ?_⟩
      rw [nI_clamp (by omega)]
      refine br_c (fun e => ?_) (fun e => ?_)
      · have E : fk_ev g n b = p := ht (by unfold fk_eP; rw [decide_eq_false c, decide_eq_true e]; rfl)
        rw [E, if_pos (by omega)] at h
        exact h
      · exact nm_r (nI_1 p) (hf (by unfold fk_eP; rw [decide_eq_false e, Bool.and_false]))
theorem fx_grow {pst : Int32 → SX → Prop} (H : fk_ok n b) (hN : ¬ fk_gs g n b < 4 → pst (-1) (nI n, nI b, nI (2 + 8 * n + 4 * b), f, g, sv, ct, lv)) (hY : fk_gs g n b < 4 → pst (nI (fk_ce n (fk_fb g n b) 0)) (nI n, nI b, nI (2 + 8 * n + 4 * b), f, fk_zc (upd g (fk_ad 2 (4 + fk_gs g n b)) (nI (fk_fb g n b))) (fk_ce n (fk_fb g n b) 0) 4, sv, ct, lv)) : wpX_growLostAndFound pst (nI n, nI b, nI (2 + 8 * n + 4 * b), f, g, sv, ct, lv) := by
  have ⟨a3, a12, a2, a24⟩ := H
  unfold wpX_growLostAndFound
  dsimp only
  refine fx_bM H ?_
  refine fx_lfb H (fun x x1 x2 => fk_om_us H x1 x2) ?_
  have hfb := fk_fb_ex (g := g) (n := n) (b := b)
  have hfl : fk_fb g n b ≤ b := by rcases hfb with z | z <;> omega
  refine pk_eq (fk_fb g n b) 0 (fun z => ?_) (fun z => ?_)
  · refine hN ?_
    unfold fk_gs
    rw [fk_fs_no (fun q _ _ => by unfold fk_gP; rw [decide_eq_true z]; rfl)]
    omega
  · refine fk_scan (fun k x => wX_growLostAndFound_19 pst (nI (fk_fb g n b)) (nI n) (nI b) (nI (2 + 8 * n + 4 * b)) f g sv ct lv k x) (fk_gP g n b) 0 4 ?_ ?_
    · intro e _ k
      exact br_t (nI_le (a := 4) (b := 4) (by omega) (by omega)) (hN (by unfold fk_gs; omega))
    · intro k s h1 h2 _ ht hf
      refine br_f (nI_ge (b := 4) (by omega) (by omega)) ?_
      refine fx_field H 2 (4 + s) (by omega) (by omega) (by omega) rfl (fk_4a s) ?_
      refine br_c (fun e => ?_) (fun e => ?_)
      · have E : fk_gs g n b = s := ht (by unfold fk_gP; rw [decide_eq_false z, decide_eq_true e]; rfl)
        rw [E] at hY
        have hY := hY (by omega)
        refine fx_set H 2 (4 + s) (by omega) (by omega) (by omega) rfl (fk_4a s) ?_
        refine fx_ce (fk_fb g n b) 0 (by omega) rfl rfl ?_
        have eA : fk_ce n (fk_fb g n b) 0 = 2 + 8 * n + 4 * (fk_fb g n b - 1) := rfl
        refine pk_loop (fun m c (w : Nat → Int32) => wX_growLostAndFound_55 pst (nI (fk_ce n (fk_fb g n b) 0)) (nI n) (nI b) (nI (2 + 8 * n + 4 * b)) f m (nI c) w sv ct lv) (fun c w => w = fk_zc (upd g (fk_ad 2 (4 + s)) (nI (fk_fb g n b))) (fk_ce n (fk_fb g n b) 0) c) 4 0 _ (by omega) rfl (fun m w hw => ?_) (fun m c w hc hw hn => ?_)
        · subst hw
          exact br_t (nI_le (a := 4) (b := 4) (by omega) (by omega)) hY
        · subst hw
          refine br_f (nI_ge (b := 4) hc (by omega)) ?_
          rw [nI_add]
          refine ⟨vp_in_nI (by omega) (by decide), ?_⟩
          rw [nI_clamp (by omega)]
          exact nm_e (nm_r (nI_1 c) (hn _ rfl))
      · exact nm_r (nI_1 s) (hf (by unfold fk_gP; rw [decide_eq_false e, Bool.and_false]))
theorem fx_att19 {pst : Int32 → SX → Prop} {x1 x2 : Int32} (a : Nat) (ha : a < 194) (h : pst 1 (nI n, nI b, nI (2 + 8 * n + 4 * b), f, upd g a (x2 * 16 + x1), sv, ct, lv)) : wX_attachOrphan_19 pst x1 x2 (nI a) (nI n) (nI b) (nI (2 + 8 * n + 4 * b)) f g sv ct lv := by
  unfold wX_attachOrphan_19
  refine br_t (nI_pos' (by omega)) ⟨vp_in_nI ha (by decide), ?_⟩
  rw [nI_clamp (by omega)]
  exact nm_e h
theorem fx_att {pst : Int32 → SX → Prop} {P : Int32} (H : fk_ok n b) (o : Nat) (hP : P = nI o)
    (h1 : fk_ev g n b < 32 → pst 1 (nI n, nI b, nI (2 + 8 * n + 4 * b), f, upd g (fk_pl g n b (fk_ev g n b)) (fk_wd g n b o), sv, ct, lv))
    (h2 : ¬ fk_ev g n b < 32 → fk_gs g n b < 4 → pst 1 (nI n, nI b, nI (2 + 8 * n + 4 * b), f, upd (fk_zc (upd g (fk_ad 2 (4 + fk_gs g n b)) (nI (fk_fb g n b))) (fk_ce n (fk_fb g n b) 0) 4) (fk_ce n (fk_fb g n b) 0) (fk_wd g n b o), sv, ct, lv))
    (h3 : ¬ fk_ev g n b < 32 → ¬ fk_gs g n b < 4 → pst 0 (nI n, nI b, nI (2 + 8 * n + 4 * b), f, g, sv, ct, lv)) : wpX_attachOrphan pst (nI n, nI b, nI (2 + 8 * n + 4 * b), f, g, sv, ct, lv) P := by
  have ⟨a3, a12, a2, a24⟩ := H
  subst hP
  unfold wpX_attachOrphan
  dsimp only
  refine fx_un H ?_
  refine fx_ev H ?_
  by_cases c : fk_ev g n b < 32
  · rw [if_pos c]
    have hl := fk_pl_lt (g := g) (fk_ev g n b) H
    refine br_t (nI_pos' (by omega)) ?_
    exact fx_att19 _ hl (h1 c)
  · rw [if_neg c]
    refine br_f (by decide) ?_
    refine fx_grow H (fun z => ?_) (fun z => ?_)
    · unfold wX_attachOrphan_19
      exact br_f (by decide) (h3 c z)
    · have hfb := fk_fb_ex (g := g) (n := n) (b := b)
      have hfl : fk_fb g n b ≤ b := by rcases hfb with z | z <;> omega
      exact fx_att19 _ (fk_ce_lt H hfl (by omega)) (h2 c z)
theorem fx_4b {pst : SX → Prop} (H : fk_ok n b) (h : pst (nI n, nI b, nI (2 + 8 * n + 4 * b), f, (fk_it (fk_s6 n b) 0 (g, ct) n).1, sv, (fk_it (fk_s6 n b) 0 (g, ct) n).2, lv)) : wpX_settleOrphans pst (nI n, nI b, nI (2 + 8 * n + 4 * b), f, g, sv, ct, lv) := by
  have ⟨a3, a12, a2, a24⟩ := H
  unfold wpX_settleOrphans
  dsimp only
  generalize hfin : fk_it (fk_s6 n b) 0 (g, ct) n = fin at h
  refine pk_loop (fun m r (s : fk_St) => wX_settleOrphans_2 pst m (nI r) (nI n) (nI b) (nI (2 + 8 * n + 4 * b)) f s.1 sv s.2 lv) (fun r s => fk_it (fk_s6 n b) r s (n - r) = fin) n 0 (g, ct) (by omega) hfin (fun m s hs => ?_) (fun m r s hr hs hw => ?_)
  · rw [Nat.sub_self] at hs
    have hs : s = fin := hs
    subst hs
    exact pk_le n n (fun _ => h) (fun c => absurd c (by omega))
  · obtain ⟨g, ct⟩ := s
    dsimp only
    refine pk_le n r (fun c => absurd c (by omega)) (fun _ => ?_)
    refine fx_lo H ?_
    have hlo := fk_lo_ex (g := g) (n := n) (b := b)
    refine pk_eq (fk_lo g n b) 0 (fun z => ?_) (fun z => ?_)
    · have hfx : ∀ i, fk_s6 n b i (g, ct) = (g, ct) := fun i => if_pos z
      have E : fk_it (fk_s6 n b) r (g, ct) (n - r) = (g, ct) := fk_it_fix hfx _ _
      rw [E] at hs
      subst hs
      exact h
    · have hw := hw (fk_s6 n b r (g, ct)) (by
        rw [← fk_it_s, show n - (r + 1) + 1 = n - r by omega]
        exact hs)
      have E : fk_s6 n b r (g, ct) = fk_se n b (fk_lo g n b) (g, ct) := if_neg z
      rw [E] at hw
      refine fx_att H (fk_lo g n b) rfl (fun c => ?_) (fun c c2 => ?_) (fun c c2 => ?_)
      · have E : fk_se n b (fk_lo g n b) (g, ct) = (upd g (fk_pl g n b (fk_ev g n b)) (fk_wd g n b (fk_lo g n b)), upd ct 8 (ct 8 + 1)) := if_pos c
        rw [E] at hw
        exact br_f (by decide) (nm_e (nm_r (nI_1 r) hw))
      · have E : fk_se n b (fk_lo g n b) (g, ct) = (upd (fk_zc (upd g (fk_ad 2 (4 + fk_gs g n b)) (nI (fk_fb g n b))) (fk_ce n (fk_fb g n b) 0) 4) (fk_ce n (fk_fb g n b) 0) (fk_wd g n b (fk_lo g n b)), upd ct 8 (ct 8 + 1)) := (if_neg c).trans (if_pos c2)
        rw [E] at hw
        exact br_f (by decide) (nm_e (nm_r (nI_1 r) hw))
      · have E : fk_se n b (fk_lo g n b) (g, ct) = (fk_cz g (fk_lo g n b) 8, upd ct 9 (ct 9 + 1)) := (if_neg c).trans (if_neg c2)
        rw [E] at hw
        refine br_t rfl ?_
        refine fx_clear H (fk_lo g n b) (by omega) (by omega) rfl ?_
        exact nm_e (nm_r (nI_1 r) hw)
/-! Y's stage 4b -/
theorem fy_se110 {pst : SY → Prop} {x2 : Int32} (H : fk_ok n b) (x : Nat) (hx : 1 ≤ x) (hb : x ≤ b) (h : pst (nI n, nI b, nI (2 + 8 * n + 4 * b), f, upd (fk_zc g (fk_ce n x 0) 4) (fk_ce n x 0) x2, sv, upd ct 8 (ct 8 + 1))) : ∃ m, wY_settle_110 pst x2 (nI x) (nI n) (nI b) (nI (2 + 8 * n + 4 * b)) f m 0 g sv ct := by
  have ⟨a3, a12, a2, a24⟩ := H
  refine pk_loop (fun m c (w : Nat → Int32) => wY_settle_110 pst x2 (nI x) (nI n) (nI b) (nI (2 + 8 * n + 4 * b)) f m (nI c) w sv ct) (fun c w => (c = 0 ∧ w = g) ∨ (1 ≤ c ∧ w = upd (fk_zc g (fk_ce n x 0) c) (fk_ce n x 0) x2)) 4 0 g (by omega) (Or.inl ⟨rfl, rfl⟩) (fun m w hw => ?_) (fun m c w hc hw hn => ?_)
  · rcases hw with ⟨z, _⟩ | ⟨_, z⟩
    · exact absurd z (by decide)
    · subst z
      exact br_t (nI_le (a := 4) (b := 4) (by omega) (by omega)) (nm_e h)
  · refine br_f (nI_ge (b := 4) hc (by omega)) ?_
    refine fy_ce x c hx rfl rfl ?_
    have l1 := fk_ce_lt (x := x) H hb hc
    have eA : fk_ce n x c = fk_ce n x 0 + c := rfl
    refine pk_eq c 0 (fun z => ?_) (fun z => ?_)
    · subst z
      refine ⟨vp_in_nI l1 (by decide), ?_⟩
      rw [nI_clamp (by omega)]
      refine nm_e (nm_r (nI_1 0) (hn _ (Or.inr ⟨by omega, ?_⟩)))
      rcases hw with ⟨_, y⟩ | ⟨y, _⟩
      · subst y
        show _ = upd (upd w (fk_ce n x 0 + 0) 0) (fk_ce n x 0) x2
        rw [Nat.add_zero, fk_upd_upd]
      · omega
    · refine ⟨vp_in_nI l1 (by decide), ?_⟩
      rw [nI_clamp (by omega)]
      refine nm_e (nm_r (nI_1 c) (hn _ (Or.inr ⟨by omega, ?_⟩)))
      rcases hw with ⟨y, _⟩ | ⟨_, y⟩
      · omega
      · subst y
        show _ = upd (upd (fk_zc g (fk_ce n x 0) c) (fk_ce n x 0 + c) 0) (fk_ce n x 0) x2
        rw [eA, fk_upd_comm (by omega)]
theorem fy_settle {pst : SY → Prop} {P : Int32} (H : fk_ok n b) (o : Nat) (ho : 1 ≤ o) (hn : o ≤ n) (hP : P = nI o) (h : pst (nI n, nI b, nI (2 + 8 * n + 4 * b), f, (fk_se n b o (g, ct)).1, sv, (fk_se n b o (g, ct)).2)) : wpY_settle pst (nI n, nI b, nI (2 + 8 * n + 4 * b), f, g, sv, ct) P := by
  have ⟨a3, a12, a2, a24⟩ := H
  subst hP
  unfold wpY_settle
  dsimp only
  refine fy_un H ?_
  refine nm_e ?_
  show ∃ n13, wY_settle_13 pst (nI o) (fk_wd g n b o) _ _ _ _ _ _ _ n13 16
  refine fk_scan (fun k x => wY_settle_13 pst (nI o) (fk_wd g n b o) (nI n) (nI b) (nI (2 + 8 * n + 4 * b)) f g sv ct k x) (fk_eP g n b) 16 16 ?_ ?_
  · intro e _ k
    have c : ¬ fk_ev g n b < 32 := by unfold fk_ev; omega
    refine pk_le 32 (16 + 16) (fun _ => ?_) (fun c => absurd c (by omega))
    refine fy_fb H ?_
    have hfb := fk_fb_ex (g := g) (n := n) (b := b)
    have hfl : fk_fb g n b ≤ b := by rcases hfb with z | z <;> omega
    refine fk_scan (fun k x => wY_settle_75 pst (nI o) (fk_wd g n b o) (nI (fk_fb g n b)) (nI n) (nI b) (nI (2 + 8 * n + 4 * b)) f g sv ct k x) (fk_gP g n b) 0 4 ?_ ?_
    · intro e2 _ k
      have c2 : ¬ fk_gs g n b < 4 := by unfold fk_gs; omega
      have E : fk_se n b o (g, ct) = (fk_cz g o 8, upd ct 9 (ct 9 + 1)) := (if_neg c).trans (if_neg c2)
      rw [E] at h
      refine br_t (nI_le (a := 4) (b := 4) (by omega) (by omega)) ?_
      refine fy_clear H o ho hn rfl ?_
      exact nm_e h
    · intro k s h1 h2 _ ht hf
      refine br_f (nI_ge (b := 4) (by omega) (by omega)) ?_
      refine pk_eq (fk_fb g n b) 0 (fun z => ?_) (fun z => ?_)
      · exact nm_r (nI_1 s) (hf (by unfold fk_gP; rw [decide_eq_true z]; rfl))
      · refine fy_field H 2 (4 + s) (by omega) (by omega) (by omega) rfl (fk_4a s) ?_
        refine br_c (fun y => ?_) (fun y => ?_)
        · have E0 : fk_gs g n b = s := ht (by unfold fk_gP; rw [decide_eq_false z, decide_eq_true y]; rfl)
          have E : fk_se n b o (g, ct) = (upd (fk_zc (upd g (fk_ad 2 (4 + fk_gs g n b)) (nI (fk_fb g n b))) (fk_ce n (fk_fb g n b) 0) 4) (fk_ce n (fk_fb g n b) 0) (fk_wd g n b o), upd ct 8 (ct 8 + 1)) := (if_neg c).trans (if_pos (by show fk_gs g n b < 4; omega))
          rw [E, E0] at h
          refine fy_set H 2 (4 + s) (by omega) (by omega) (by omega) rfl (fk_4a s) ?_
          exact fy_se110 H (fk_fb g n b) (by omega) hfl h
        · exact nm_r (nI_1 s) (hf (by unfold fk_gP; rw [decide_eq_false y, Bool.and_false]))
  · intro k p h1 h2 _ ht hf
    refine pk_le 32 p (fun c => absurd c (by omega)) (fun _ => ?_)
    refine fy_pl H p (by omega) rfl ?_
    have hl := fk_pl_lt (g := g) p H
    refine pk_eq (fk_pl g n b p) 0 (fun c => ?_) (fun c => ?_)
    · exact nm_r (nI_1 p) (hf (by unfold fk_eP; rw [decide_eq_true c]; rfl))
    · refine ⟨vp_in_nI hl (by decide), ?_⟩
      rw [nI_clamp (by omega)]
      refine br_c (fun e => ?_) (fun e => ?_)
      · have E0 : fk_ev g n b = p := ht (by unfold fk_eP; rw [decide_eq_false c, decide_eq_true e]; rfl)
        have E : fk_se n b o (g, ct) = (upd g (fk_pl g n b (fk_ev g n b)) (fk_wd g n b o), upd ct 8 (ct 8 + 1)) := if_pos (by show fk_ev g n b < 32; omega)
        rw [E, E0] at h
        exact ⟨vp_in_nI hl (by decide), nm_e (nm_e h)⟩
      · exact nm_r (nI_1 p) (hf (by unfold fk_eP; rw [decide_eq_false e, Bool.and_false]))
theorem fy_4b {pst : Int32 → SY → Prop} (H : fk_ok n b) (h : ∃ k, wY_repair_114 pst k 1 (nI n) (nI b) (nI (2 + 8 * n + 4 * b)) f ((fk_it (fk_s6 n b) 0 (g, ct) n).1) sv ((fk_it (fk_s6 n b) 0 (g, ct) n).2)) : ∃ k, wY_repair_84 pst k 0 (nI n) (nI b) (nI (2 + 8 * n + 4 * b)) f g sv ct := by
  have ⟨a3, a12, a2, a24⟩ := H
  refine fk_iter (fun m r (s : fk_St) => wY_repair_84 pst m (nI r) (nI n) (nI b) (nI (2 + 8 * n + 4 * b)) f s.1 sv s.2) (fk_s6 n b) 0 n (g, ct) (fun m => ?_) (fun m r s h1 h2 hw => ?_)
  · exact pk_le n (0 + n) (fun _ => h) (fun c => absurd c (by omega))
  · obtain ⟨g, ct⟩ := s
    dsimp only
    refine pk_le n r (fun c => absurd c (by omega)) (fun _ => ?_)
    refine fy_lo H ?_
    have hlo := fk_lo_ex (g := g) (n := n) (b := b)
    refine pk_eq (fk_lo g n b) 0 (fun z => ?_) (fun z => ?_)
    · have E : fk_s6 n b r (g, ct) = (g, ct) := if_pos z
      rw [E] at hw
      exact nm_r (nI_1 r) hw
    · have E : fk_s6 n b r (g, ct) = fk_se n b (fk_lo g n b) (g, ct) := if_neg z
      rw [E] at hw
      refine fy_settle H (fk_lo g n b) (by omega) (by omega) rfl ?_
      exact nm_r (nI_1 r) hw
end FS5
end
section
/-! stage 5, differences, repair -/
def fk_g5 (g : Nat → Int32) (n b i : Nat) : Nat → Int32 := if fk_dr g i = true then upd g (fk_ad i 2) (nI (fk_ep g n b i)) else g
def fk_s5 (n b i : Nat) (g : Nat → Int32) : Nat → Int32 := if fk_iu g i = true then upd (fk_g5 g n b i) (fk_ad i 1) (nI (fk_el g n b i)) else fk_g5 g n b i
def fk_df (g sv : Nat → Int32) (w : Nat) : Nat := fk_ct (fun a => !(decide (g a = sv a))) 0 w
def fk_cy (d s : Nat → Int32) : Nat → Nat → Int32
  | 0 => d
  | k + 1 => upd (fk_cy d s k) k (s k)
def fk_zz (d : Nat → Int32) : Nat → Nat → Int32
  | 0 => d
  | k + 1 => upd (fk_zz d k) k 0
theorem fk_fr_el {g g' : Nat → Int32} {n b i : Nat} (H : fk_ok n b) (F : fk_fr n g g') (hi : 1 ≤ i) (hn : i ≤ n) : fk_el g' n b i = fk_el g n b i := by
  have e1 : fk_sd g' n b i = fk_sd g n b i := fk_ct_congr (fun q h1 h2 => by
    show (!(decide (fk_tg g' n b q = 0)) && fk_dr g' (fk_tg g' n b q)) = (!(decide (fk_tg g n b q = 0)) && fk_dr g (fk_tg g n b q))
    rw [fk_fr_tg H F (by omega)]
    by_cases z : fk_tg g n b q = 0
    · rw [decide_eq_true z]; rfl
    · rw [fk_fr_dr F (by omega) (fk_tg_le q H)])
  have e2 : fk_rf g' n b i = fk_rf g n b i := fk_ct_congr (fun q h1 h2 => by
    show decide (fk_tg g' n b q = i) = decide (fk_tg g n b q = i)
    rw [fk_fr_tg H F (by omega)])
  unfold fk_el
  rw [e1, e2, fk_fr_dr F hi hn]
theorem fk_g5_fr {g : Nat → Int32} {n b i : Nat} (hi : 1 ≤ i) (hn : i ≤ n) : fk_fr n g (fk_g5 g n b i) := by
  unfold fk_g5
  split
  · exact fk_fr_upd hi hn (by omega)
  · exact ⟨fun _ _ _ _ _ _ => rfl, fun _ _ => rfl⟩
section FR
variable {n b : Nat} {f : Int32} {g sv ct lv : Nat → Int32} {post : Int32 → Prop}
theorem fx_s5t {pst : SX → Prop} {J : Int32 → Int32 → Int32 → Int32 → Int32 → (Nat → Int32) → (Nat → Int32) → (Nat → Int32) → (Nat → Int32) → Prop} {g' : Nat → Int32} (H : fk_ok n b) (i : Nat) (hi : 1 ≤ i) (hn : i ≤ n) (hg : g' = fk_g5 g n b i) (h : J (nI (i + 1)) (nI n) (nI b) (nI (2 + 8 * n + 4 * b)) f (fk_s5 n b i g) sv ct lv) : wX_repairCounts_31 pst J (nI i) (nI n) (nI b) (nI (2 + 8 * n + 4 * b)) f g' sv ct lv := by
  subst hg
  unfold wX_repairCounts_31
  have F := fk_g5_fr (g := g) (n := n) (b := b) hi hn
  unfold fk_s5 at h
  refine fx_inUse H i hi hn rfl ?_
  rw [fk_fr_iu F hi hn]
  refine fk_br0 (fun e => ?_) (fun e => ?_)
  · rw [if_neg (by rw [e]; decide)] at h
    exact nm_r (nI_1 i) h
  · rw [if_pos e] at h
    refine fx_el H i hi hn rfl ?_
    rw [fk_fr_el H F hi hn]
    refine fx_set H i 1 hi hn (by omega) rfl rfl ?_
    exact nm_r (nI_1 i) h
theorem fx_5 {pst : SX → Prop} (H : fk_ok n b) (h : pst (nI n, nI b, nI (2 + 8 * n + 4 * b), f, fk_it (fk_s5 n b) 1 g n, sv, ct, lv)) : wpX_repairCounts pst (nI n, nI b, nI (2 + 8 * n + 4 * b), f, g, sv, ct, lv) := by
  have ⟨a3, a12, a2, a24⟩ := H
  unfold wpX_repairCounts
  dsimp only
  refine fk_iter (fun m i (g : Nat → Int32) => wX_repairCounts_2 pst m (nI i) (nI n) (nI b) (nI (2 + 8 * n + 4 * b)) f g sv ct lv) (fk_s5 n b) 1 n g (fun m => ?_) (fun m i g h1 h2 hw => ?_)
  · exact pk_lt n (1 + n) (fun _ => h) (fun c => absurd c (by omega))
  · refine pk_lt n i (fun c => absurd c (by omega)) (fun _ => ?_)
    refine fx_isDir H i h1 (by omega) rfl ?_
    refine fk_br0 (fun e => ?_) (fun e => ?_)
    · exact fx_s5t H i h1 (by omega) (if_neg (by rw [e]; decide)).symm hw
    · refine fx_ep H i (by omega) rfl ?_
      refine fx_set H i 2 h1 (by omega) (by omega) rfl rfl ?_
      exact fx_s5t H i h1 (by omega) (if_pos e).symm hw
theorem fy_s5t {pst : Int32 → SY → Prop} {J : Int32 → Int32 → Int32 → Int32 → Int32 → (Nat → Int32) → (Nat → Int32) → (Nat → Int32) → Prop} {g' : Nat → Int32} (H : fk_ok n b) (i : Nat) (hi : 1 ≤ i) (hn : i ≤ n) (hg : g' = fk_g5 g n b i) (h : J (nI (i + 1)) (nI n) (nI b) (nI (2 + 8 * n + 4 * b)) f (fk_s5 n b i g) sv ct) : wY_repair_151 pst J (nI i) (nI (fk_rl g n b i)) (nI n) (nI b) (nI (2 + 8 * n + 4 * b)) f g' sv ct := by
  subst hg
  unfold wY_repair_151
  have F := fk_g5_fr (g := g) (n := n) (b := b) hi hn
  unfold fk_s5 at h
  refine fy_inUse H i hi hn rfl ?_
  rw [fk_fr_iu F hi hn]
  refine fk_br0 (fun e => ?_) (fun e => ?_)
  · rw [if_neg (by rw [e]; decide)] at h
    exact nm_r (nI_1 i) h
  · rw [if_pos e] at h
    rw [fk_rl_el e]
    refine fy_set H i 1 hi hn (by omega) rfl rfl ?_
    exact nm_r (nI_1 i) h
theorem fy_5 {pst : Int32 → SY → Prop} (H : fk_ok n b) (h : ∀ k, wY_repair_114 pst (k + 1) (nI (1 + n)) (nI n) (nI b) (nI (2 + 8 * n + 4 * b)) f (fk_it (fk_s5 n b) 1 g n) sv ct) : ∃ k, wY_repair_114 pst k 1 (nI n) (nI b) (nI (2 + 8 * n + 4 * b)) f g sv ct := by
  have ⟨a3, a12, a2, a24⟩ := H
  refine fk_iter (fun m i (g : Nat → Int32) => wY_repair_114 pst m (nI i) (nI n) (nI b) (nI (2 + 8 * n + 4 * b)) f g sv ct) (fk_s5 n b) 1 n g h (fun m i g h1 h2 hw => ?_)
  refine pk_lt n i (fun c => absurd c (by omega)) (fun _ => ?_)
  refine fy_ep H i (by omega) rfl ?_
  refine fy_rl H i h1 (by omega) rfl ?_
  refine fy_field H i 0 h1 (by omega) (by omega) rfl rfl ?_
  refine br_c (fun e0 => ?_) (fun e0 => ?_)
  · have e : fk_dr g i = true := decide_eq_true e0
    refine fy_set H i 2 h1 (by omega) (by omega) rfl rfl ?_
    exact fy_s5t H i h1 (by omega) (if_pos e).symm hw
  · have e : fk_dr g i = false := decide_eq_false e0
    exact fy_s5t H i h1 (by omega) (if_neg (by rw [e]; decide)).symm hw
theorem fx_df (H : fk_ok n b) (h : post (nI (fk_df g sv (2 + 8 * n + 4 * b)))) : wpX_differences post (nI n, nI b, nI (2 + 8 * n + 4 * b), f, g, sv, ct, lv) := by
  have ⟨a3, a12, a2, a24⟩ := H
  unfold wpX_differences
  dsimp only
  refine fk_count (fun k c x => wX_differences_4 post (nI n) (nI b) (nI (2 + 8 * n + 4 * b)) f g sv ct lv k c x) (fun a => !(decide (g a = sv a))) 0 (2 + 8 * n + 4 * b) 0 ?_ ?_
  · intro k
    refine pk_le (2 + 8 * n + 4 * b) (0 + (2 + 8 * n + 4 * b)) (fun _ => ?_) (fun c => absurd c (by omega))
    rw [Nat.zero_add]
    exact h
  · intro k p c _ hp ht hf
    refine pk_le (2 + 8 * n + 4 * b) p (fun c => absurd c (by omega)) (fun _ => ?_)
    refine ⟨vp_in_nI (by omega) (by decide), vp_in_nI (by omega) (by decide), ?_⟩
    rw [nI_clamp (by omega)]
    refine br_c (fun e => ?_) (fun e => ?_)
    · exact nm_r (nI_1 p) (hf (by rw [decide_eq_true e]; rfl))
    · exact nm_r (nI_1 c) (nm_r (nI_1 p) (ht (by rw [decide_eq_false e]; rfl)))
theorem fy_df (H : fk_ok n b) (h : post (nI (fk_df g sv (2 + 8 * n + 4 * b)))) : wpY_differences post (nI n, nI b, nI (2 + 8 * n + 4 * b), f, g, sv, ct) := by
  have ⟨a3, a12, a2, a24⟩ := H
  unfold wpY_differences
  dsimp only
  refine fk_count (fun k c x => wY_differences_4 post (nI n) (nI b) (nI (2 + 8 * n + 4 * b)) f g sv ct k c x) (fun a => !(decide (g a = sv a))) 0 (2 + 8 * n + 4 * b) 0 ?_ ?_
  · intro k
    refine pk_le (2 + 8 * n + 4 * b) (0 + (2 + 8 * n + 4 * b)) (fun _ => ?_) (fun c => absurd c (by omega))
    rw [Nat.zero_add]
    exact h
  · intro k p c _ hp ht hf
    refine pk_le (2 + 8 * n + 4 * b) p (fun c => absurd c (by omega)) (fun _ => ?_)
    refine ⟨vp_in_nI (by omega) (by decide), vp_in_nI (by omega) (by decide), ?_⟩
    rw [nI_clamp (by omega)]
    refine br_c (fun e => ?_) (fun e => ?_)
    · exact nm_r (nI_1 p) (hf (by rw [decide_eq_true e]; rfl))
    · exact nm_r (nI_1 c) (nm_r (nI_1 p) (ht (by rw [decide_eq_false e]; rfl)))
/-- the two maps -/
def fk_mp (g : Nat → Int32) (n b : Nat) : Nat → Int32 := upd (upd g 0 (fk_om (fk_iu g) n)) 1 (fk_om (fk_us (upd g 0 (fk_om (fk_iu g) n)) n b) b)
/-- the stages, one behind another -/
def fk_ch (n b : Nat) (g ct g' ct' : Nat → Int32) : Prop := ∃ (g1 c1 g2 c2 g3 c3 g4 c4 g5 c5 g6 c6 g7 : Nat → Int32),
  fk_it (fk_st1 b) 1 (g, ct) n = (g1, c1) ∧ fk_it (fk_st2 n b) 0 (g1, c1) (4 * n) = (g2, c2) ∧ fk_it (fk_sa n b) 0 (g2, c2) (16 * n) = (g3, c3) ∧ fk_it (fk_sb n b) 0 (g3, c3) (16 * n) = (g4, c4) ∧
  fk_it (fk_sc n b) 3 (g4, c4) (n - 2) = (g5, c5) ∧ fk_it (fk_s4 n b) 3 (g5, c5) (n - 2) = (g6, c6) ∧ fk_it (fk_s6 n b) 0 (g6, c6) n = (g7, ct') ∧ g' = fk_mp (fk_it (fk_s5 n b) 1 g7 n) n b
theorem fk_ch_ex (n b : Nat) (g ct : Nat → Int32) : ∃ g' ct', fk_ch n b g ct g' ct' :=
  ⟨_, _, _, _, _, _, _, _, _, _, _, _, _, _, _, rfl, rfl, rfl, rfl, rfl, rfl, rfl, rfl⟩
theorem fx_chain {pst : Int32 → SX → Prop} {g' ct' : Nat → Int32} (H : fk_ok n b) (C : fk_ch n b g ct g' ct') (h : pst (nI (fk_df g' sv (2 + 8 * n + 4 * b))) (nI n, nI b, nI (2 + 8 * n + 4 * b), 1, g', sv, ct', lv)) : ∀ m, wX_repair_30 pst (nI n) (nI b) (nI (2 + 8 * n + 4 * b)) f (m + 1) (nI 10) g sv ct lv := by
  obtain ⟨g1, c1, g2, c2, g3, c3, g4, c4, g5, c5, g6, c6, g7, e1, e2, e3, e4, e5, e6, e7, e8⟩ := C
  subst e8
  intro m
  refine br_t (nI_le (a := 10) (b := 10) (by omega) (by omega)) ?_
  refine fx_stage1 H ?_
  rw [e1]
  refine fx_stage2 H ?_
  rw [e2]
  refine fx_3a H ?_
  rw [e3]
  refine fx_3b H ?_
  rw [e4]
  refine fx_3c H ?_
  rw [e5]
  refine fx_4a H ?_
  rw [e6]
  refine fx_4b H ?_
  rw [e7]
  refine fx_5 H ?_
  refine fx_nM H ?_
  refine nm_e ?_
  refine fx_bM H ?_
  refine nm_e ?_
  exact fx_df H h
theorem fy_chain {pst : Int32 → SY → Prop} {g' ct' : Nat → Int32} (H : fk_ok n b) (C : fk_ch n b g ct g' ct') (h : pst (nI (fk_df g' sv (2 + 8 * n + 4 * b))) (nI n, nI b, nI (2 + 8 * n + 4 * b), 1, g', sv, ct')) : ∃ m, wY_repair_51 pst m 1 (nI n) (nI b) (nI (2 + 8 * n + 4 * b)) f g sv ct := by
  have ⟨a3, a12, a2, a24⟩ := H
  obtain ⟨g1, c1, g2, c2, g3, c3, g4, c4, g5, c5, g6, c6, g7, e1, e2, e3, e4, e5, e6, e7, e8⟩ := C
  subst e8
  refine fy_stage1 H (fun m => ?_)
  rw [e1]
  refine pk_lt n (1 + n) (fun _ => ?_) (fun c => absurd c (by omega))
  refine fy_stage2 H ?_
  rw [e2]
  refine fy_3a H ?_
  rw [e3]
  refine fy_3b H ?_
  rw [e4]
  refine fy_3c H ?_
  rw [e5]
  refine fy_4a H ?_
  rw [e6]
  refine fy_4b H ?_
  rw [e7]
  refine fy_5 H (fun m => ?_)
  refine pk_lt n (1 + n) (fun _ => ?_) (fun c => absurd c (by omega))
  refine fy_nM H ?_
  refine nm_e ?_
  refine fy_bM H ?_
  refine nm_e ?_
  exact fy_df H h
theorem fx_repair {pst : Int32 → SX → Prop} {g' ct' : Nat → Int32} (H : fk_ok n b) (C : fk_ch n b g (fk_zz ct 10) g' ct') (h : pst (nI (fk_df g' (fk_cy sv g (2 + 8 * n + 4 * b)) (2 + 8 * n + 4 * b))) (nI n, nI b, nI (2 + 8 * n + 4 * b), 1, g', fk_cy sv g (2 + 8 * n + 4 * b), ct', lv)) : wpX_repair pst (nI n, nI b, nI (2 + 8 * n + 4 * b), f, g, sv, ct, lv) := by
  have ⟨a3, a12, a2, a24⟩ := H
  unfold wpX_repair
  dsimp only
  refine pk_loop (fun m a (w : Nat → Int32) => wX_repair_2 pst (nI n) (nI b) (nI (2 + 8 * n + 4 * b)) f m (nI a) g w ct lv) (fun a w => w = fk_cy sv g a) (2 + 8 * n + 4 * b) 0 sv (by omega) rfl (fun m w hw => ?_) (fun m a w ha hw hn => ?_)
  · subst hw
    refine pk_le (2 + 8 * n + 4 * b) (2 + 8 * n + 4 * b) (fun _ => ?_) (fun c => absurd c (by omega))
    refine pk_loop (fun m k (w : Nat → Int32) => wX_repair_30 pst (nI n) (nI b) (nI (2 + 8 * n + 4 * b)) f m (nI k) g (fk_cy sv g (2 + 8 * n + 4 * b)) w lv) (fun k w => w = fk_zz ct k) 10 0 ct (by omega) rfl (fun l w hw => ?_) (fun l k w hk hw hn => ?_)
    · subst hw
      exact fx_chain H C h l
    · subst hw
      refine br_f (nI_ge (b := 10) hk (by omega)) ⟨vp_in_nI hk (by decide), ?_⟩
      rw [nI_clamp (by omega)]
      exact nm_e (nm_r (nI_1 k) (hn _ rfl))
  · subst hw
    refine pk_le (2 + 8 * n + 4 * b) a (fun c => absurd c (by omega)) (fun _ => ?_)
    refine ⟨vp_in_nI (by omega) (by decide), vp_in_nI (by omega) (by decide), ?_⟩
    rw [nI_clamp (by omega)]
    exact nm_e (nm_r (nI_1 a) (hn _ rfl))
theorem fy_repair {pst : Int32 → SY → Prop} {g' ct' : Nat → Int32} (H : fk_ok n b) (C : fk_ch n b g (fk_zz ct 10) g' ct') (h : pst (nI (fk_df g' (fk_cy sv g (2 + 8 * n + 4 * b)) (2 + 8 * n + 4 * b))) (nI n, nI b, nI (2 + 8 * n + 4 * b), 1, g', fk_cy sv g (2 + 8 * n + 4 * b), ct')) : wpY_repair pst (nI n, nI b, nI (2 + 8 * n + 4 * b), f, g, sv, ct) := by
  have ⟨a3, a12, a2, a24⟩ := H
  unfold wpY_repair
  dsimp only
  refine pk_loop (fun m k (w : Nat → Int32) => wY_repair_2 pst (nI n) (nI b) (nI (2 + 8 * n + 4 * b)) f m (nI k) g sv w) (fun k w => w = fk_zz ct k) 10 0 ct (by omega) rfl (fun l w hw => ?_) (fun l k w hk hw hn => ?_)
  · subst hw
    refine br_t (nI_le (a := 10) (b := 10) (by omega) (by omega)) ?_
    refine pk_loop (fun m a (w : Nat → Int32) => wY_repair_23 pst (nI n) (nI b) (nI (2 + 8 * n + 4 * b)) f m (nI a) g w (fk_zz ct 10)) (fun a w => w = fk_cy sv g a) (2 + 8 * n + 4 * b) 0 sv (by omega) rfl (fun m w hw => ?_) (fun m a w ha hw hn => ?_)
    · subst hw
      exact pk_le (2 + 8 * n + 4 * b) (2 + 8 * n + 4 * b) (fun _ => fy_chain H C h) (fun c => absurd c (by omega))
    · subst hw
      refine pk_le (2 + 8 * n + 4 * b) a (fun c => absurd c (by omega)) (fun _ => ?_)
      refine ⟨vp_in_nI (by omega) (by decide), vp_in_nI (by omega) (by decide), ?_⟩
      rw [nI_clamp (by omega)]
      exact nm_e (nm_r (nI_1 a) (hn _ rfl))
  · subst hw
    refine br_f (nI_ge (b := 10) hk (by omega)) ⟨vp_in_nI hk (by decide), ?_⟩
    rw [nI_clamp (by omega)]
    exact nm_e (nm_r (nI_1 k) (hn _ rfl))
end FR
end
section
/-! format, scribble, undo, digest, arguments -/
def fk_sn (i : Nat) (g : Nat → Int32) : Nat → Int32 := upd (upd (upd g (fk_ad i 0) 2) (fk_ad i 1) 2) (fk_ad i 2) 1
def fk_fm (g : Nat → Int32) (n b : Nat) : Nat → Int32 := upd (fk_it fk_sn 1 (fk_zz g (2 + 8 * n + 4 * b)) 2) 0 3
def fk_r4 (r : Int32) : Int32 := (r.toUInt32 >>> ((4 : Int32).toUInt32 &&& Int32.toUInt32 31)).toInt32
def fk_r8 (r : Int32) : Int32 := (r.toUInt32 >>> ((8 : Int32).toUInt32 &&& Int32.toUInt32 31)).toInt32
def fk_no (n b a : Nat) (r : Int32) : Int32 :=
  if a < 2 then r else if 2 + 8 * n ≤ a then (fk_r4 r - fk_r4 r / 20 * 20) * 16 + (r - r / 16 * 16)
  else if (a - 2) % 8 = 0 then r - r / 4 * 4 else if (a - 2) % 8 = 1 then r - r / 5 * 5 else if (a - 2) % 8 = 2 then r - r / (nI n + 1) * (nI n + 1)
  else if (a - 2) % 8 = 3 then r - r / 20 * 20 else r - r / (3 * nI b) * (3 * nI b)
def fk_zv (n a : Nat) : Int32 := if a < 2 then -1 else if 2 + 8 * n ≤ a then 8 else nI ((a - 2) % 8)
def fk_sq (n b a : Nat) (s : Int32 × (Nat → Int32)) : Int32 × (Nat → Int32) := (s.1 * 1103515245 + 12345, upd s.2 a (fk_no n b a (fk_r8 (s.1 * 1103515245 + 12345))))
def fk_dg (g : Nat → Int32) : Nat → Int64
  | 0 => 7
  | k + 1 => fk_dg g k * 1000003 + (g k).toInt64
theorem fk_28 (n : Nat) : 2 + 8 * nI n = nI (2 + 8 * n) := by
  have e1 : (8 : Int32) * nI n = nI (8 * n) := pk_mul 8 n
  rw [e1]; exact nI_add 2 _
theorem fk_wE (n b : Nat) : (2 + 8 * nI n) + 4 * nI b = nI (2 + 8 * n + 4 * b) := by
  rw [fk_28, fk_4m, nI_add]
theorem fk_clamp (x : Int32) (lo hi : Nat) (h1 : lo ≤ hi) (h2 : hi < 2 ^ 31) : ∃ m, lo ≤ m ∧ m ≤ hi ∧ (∀ (post : Int32 → Prop) (u : SX), post (nI m) → wpX_clamp post u x (nI lo) (nI hi)) ∧
    (∀ A : Int32 → Prop, A (nI m) → ((nI lo ≤ x → ((x ≤ nI hi → A x) ∧ (¬ x ≤ nI hi → A (nI hi)))) ∧ (¬ nI lo ≤ x → A (nI lo)))) := by
  have key : ∃ m, lo ≤ m ∧ m ≤ hi ∧ (∀ A : Int32 → Prop, A (nI m) → ((nI lo ≤ x → ((x ≤ nI hi → A x) ∧ (¬ x ≤ nI hi → A (nI hi)))) ∧ (¬ nI lo ≤ x → A (nI lo)))) := by
    by_cases c : nI lo ≤ x
    · by_cases d : x ≤ nI hi
      · have h0 : ¬ x < 0 := fun z => by
          have := Int32.lt_of_le_of_lt c z
          exact nI_pos (by omega) this
        obtain ⟨j, hj, rfl⟩ := nI_of h0
        rw [nI_leI (by omega) hj] at c
        rw [nI_leI hj h2] at d
        exact ⟨j, c, d, fun A hA => br_t (nI_le c hj) (br_t (nI_le d h2) hA)⟩
      · exact ⟨hi, h1, Nat.le_refl _, fun A hA => br_t c (br_f d hA)⟩
    · exact ⟨lo, Nat.le_refl _, h1, fun A hA => br_f c hA⟩
  obtain ⟨m, k1, k2, k3⟩ := key
  refine ⟨m, k1, k2, fun post u hp => ?_, k3⟩
  obtain ⟨u1, u2, u3, u4, u5, u6, u7, u8⟩ := u
  exact k3 post hp
theorem fk_arg (x : Int32) (lo hi : Nat) (h1 : lo ≤ hi) (h2 : hi < 2 ^ 31) : x < nI lo ∨ (¬ x < nI lo ∧ nI hi < x) ∨ ∃ j, lo ≤ j ∧ j ≤ hi ∧ x = nI j := by
  by_cases c : x < nI lo
  · exact Or.inl c
  · by_cases d : nI hi < x
    · exact Or.inr (Or.inl ⟨c, d⟩)
    · have h0 : ¬ x < 0 := fun z => c (Int32.lt_of_lt_of_le z (nI_pos' (by omega)))
      obtain ⟨j, hj, rfl⟩ := nI_of h0
      rw [nI_ltI hj (by omega)] at c
      rw [nI_ltI h2 hj] at d
      exact Or.inr (Or.inr ⟨j, by omega, by omega, rfl⟩)
section FW
variable {n b : Nat} {f : Int32} {g sv ct lv : Nat → Int32}
theorem fx_format {pst : SX → Prop} (H : fk_ok n b) (h : pst (nI n, nI b, nI (2 + 8 * n + 4 * b), 0, fk_fm g n b, sv, ct, lv)) : wpX_format pst (nI n, nI b, nI (2 + 8 * n + 4 * b), f, g, sv, ct, lv) := by
  have ⟨a3, a12, a2, a24⟩ := H
  unfold wpX_format
  dsimp only
  refine pk_loop (fun m a (w : Nat → Int32) => wX_format_2 pst (nI n) (nI b) (nI (2 + 8 * n + 4 * b)) f m (nI a) w sv ct lv) (fun a w => w = fk_zz g a) (2 + 8 * n + 4 * b) 0 g (by omega) rfl (fun m w hw => ?_) (fun m a w ha hw hn => ?_)
  · subst hw
    refine pk_le (2 + 8 * n + 4 * b) (2 + 8 * n + 4 * b) (fun _ => ?_) (fun c => absurd c (by omega))
    refine fk_iter (fun l i (g : Nat → Int32) => wX_format_25 pst l (nI i) (nI n) (nI b) (nI (2 + 8 * n + 4 * b)) f g sv ct lv) fk_sn 1 2 (fk_zz g (2 + 8 * n + 4 * b)) (fun l => ?_) (fun l i g h1 h2 hw => ?_)
    · exact pk_lt 2 (1 + 2) (fun _ => nm_e h) (fun c => absurd c (by omega))
    · refine pk_lt 2 i (fun c => absurd c (by omega)) (fun _ => ?_)
      refine fx_set H i 0 h1 (by omega) (by omega) rfl rfl ?_
      refine fx_set H i 1 h1 (by omega) (by omega) rfl rfl ?_
      refine fx_set H i 2 h1 (by omega) (by omega) rfl rfl ?_
      exact nm_r (nI_1 i) hw
  · subst hw
    refine pk_le (2 + 8 * n + 4 * b) a (fun c => absurd c (by omega)) (fun _ => ?_)
    refine ⟨vp_in_nI (by omega) (by decide), ?_⟩
    rw [nI_clamp (by omega)]
    exact nm_e (nm_r (nI_1 a) (hn _ rfl))
theorem fy_setNode {pst : Int32 → SY → Prop} {P x y z : Int32} (H : fk_ok n b) (i : Nat) (hi : 1 ≤ i) (hn : i ≤ n) (hP : P = nI i) (h : pst 1 (nI n, nI b, nI (2 + 8 * n + 4 * b), 0, upd (upd (upd g (fk_ad i 0) x) (fk_ad i 1) y) (fk_ad i 2) z, sv, ct)) : wpY_setNode pst (nI n, nI b, nI (2 + 8 * n + 4 * b), f, g, sv, ct) P x y z := by
  have ⟨a3, a12, a2, a24⟩ := H
  subst hP
  unfold wpY_setNode
  dsimp only
  refine br_f (nI_nlt (b := 1) hi (by omega)) (br_t (nI_le hn (by omega)) ?_)
  refine fy_set H i 0 hi hn (by omega) rfl rfl ?_
  refine fy_set H i 1 hi hn (by omega) rfl rfl ?_
  refine fy_set H i 2 hi hn (by omega) rfl rfl ?_
  exact h
theorem fx_setNode {pst : Int32 → SX → Prop} {P x y z : Int32} (H : fk_ok n b) (i : Nat) (hi : 1 ≤ i) (hn : i ≤ n) (hP : P = nI i) (h : pst 1 (nI n, nI b, nI (2 + 8 * n + 4 * b), 0, upd (upd (upd g (fk_ad i 0) x) (fk_ad i 1) y) (fk_ad i 2) z, sv, ct, lv)) : wpX_setNode pst (nI n, nI b, nI (2 + 8 * n + 4 * b), f, g, sv, ct, lv) P x y z := by
  have ⟨a3, a12, a2, a24⟩ := H
  subst hP
  unfold wpX_setNode wpX_isNode
  dsimp only
  refine br_f (nI_nlt (b := 1) hi (by omega)) (br_f (nI_nlt hn (by omega)) (br_f (by decide) ?_))
  refine fx_set H i 0 hi hn (by omega) rfl rfl ?_
  refine fx_set H i 1 hi hn (by omega) rfl rfl ?_
  refine fx_set H i 2 hi hn (by omega) rfl rfl ?_
  exact h
theorem fy_format {pst : SY → Prop} (H : fk_ok n b) (h : pst (nI n, nI b, nI (2 + 8 * n + 4 * b), 0, fk_fm g n b, sv, ct)) : wpY_format pst (nI n, nI b, nI (2 + 8 * n + 4 * b), f, g, sv, ct) := by
  have ⟨a3, a12, a2, a24⟩ := H
  unfold wpY_format
  dsimp only
  refine pk_loop (fun m a (w : Nat → Int32) => wY_format_2 pst (nI n) (nI b) (nI (2 + 8 * n + 4 * b)) f m (nI a) w sv ct) (fun a w => w = fk_zz g a) (2 + 8 * n + 4 * b) 0 g (by omega) rfl (fun m w hw => ?_) (fun m a w ha hw hn => ?_)
  · subst hw
    refine pk_le (2 + 8 * n + 4 * b) (2 + 8 * n + 4 * b) (fun _ => ?_) (fun c => absurd c (by omega))
    refine pk_loop (fun l i (s : (Nat → Int32) × Int32) => wY_format_25 pst l (nI i) (nI n) (nI b) (nI (2 + 8 * n + 4 * b)) s.2 s.1 sv ct) (fun i s => 1 ≤ i ∧ s.1 = fk_it fk_sn 1 (fk_zz g (2 + 8 * n + 4 * b)) (i - 1)) 3 1 (fk_zz g (2 + 8 * n + 4 * b), f) (by omega) ⟨by omega, rfl⟩ (fun l s hs => ?_) (fun l i s hi hs hn => ?_)
    · obtain ⟨w, f2⟩ := s
      have e : w = fk_it fk_sn 1 (fk_zz g (2 + 8 * n + 4 * b)) 2 := hs.2
      subst e
      exact pk_lt 2 3 (fun _ => nm_e h) (fun c => absurd c (by omega))
    · obtain ⟨w, f2⟩ := s
      dsimp only
      obtain ⟨i, rfl⟩ : ∃ j, i = j + 1 := ⟨i - 1, by have := hs.1; omega⟩
      have e : w = fk_it fk_sn 1 (fk_zz g (2 + 8 * n + 4 * b)) i := hs.2
      refine pk_lt 2 (i + 1) (fun c => absurd c (by omega)) (fun _ => ?_)
      refine fy_setNode H (i + 1) (by omega) (by omega) rfl ?_
      refine nm_r (nI_1 _) (hn (_, 0) ⟨by omega, ?_⟩)
      show fk_sn (i + 1) w = fk_sn (1 + i) (fk_it fk_sn 1 (fk_zz g (2 + 8 * n + 4 * b)) i)
      rw [e, Nat.add_comm]
  · subst hw
    refine pk_le (2 + 8 * n + 4 * b) a (fun c => absurd c (by omega)) (fun _ => ?_)
    refine ⟨vp_in_nI (by omega) (by decide), ?_⟩
    rw [nI_clamp (by omega)]
    exact nm_e (nm_r (nI_1 a) (hn _ rfl))
theorem fk_n1 (H : fk_ok n b) : ¬ (nI n + 1) = 0 := by
  have ⟨a3, a12, a2, a24⟩ := H
  rw [nI_1]
  exact nI_ne0 (by omega) (by omega)
theorem fk_b3 (H : fk_ok n b) : ¬ (3 * nI b) = 0 := by
  have ⟨a3, a12, a2, a24⟩ := H
  have e : (3 : Int32) * nI b = nI (3 * b) := pk_mul 3 b
  rw [e]
  exact nI_ne0 (by omega) (by omega)
theorem fx_no {post : Int32 → Prop} {r : Int32} (H : fk_ok n b) (a : Nat) (ha : a < 194) (h : post (fk_no n b a r)) : wpX_noise post (nI n, nI b, nI (2 + 8 * n + 4 * b), f, g, sv, ct, lv) (nI a) r := by
  have ⟨a3, a12, a2, a24⟩ := H
  unfold wpX_noise
  dsimp only
  unfold fk_no fk_r4 at h
  refine pk_le 2 a (fun c => ?_) (fun c => ?_)
  · rw [if_neg (by omega)] at h
    refine pk_lt a (2 + 8 * n) (fun c2 => ?_) (fun c2 => ?_) rfl (fk_28 n)
    · rw [if_neg (by omega)] at h
      have e : (nI a - 2) &&& 7 = nI ((a - 2) % 8) := by
        have e1 : nI a - 2 = nI (a - 2) := pk_sub c
        rw [e1]; exact pk_andN (by omega) 3 (by decide)
      refine nm_r e ?_
      have ht : (a - 2) % 8 < 8 := Nat.mod_lt _ (by decide)
      generalize (a - 2) % 8 = t at h ht ⊢
      refine pk_eq t 0 (fun z => ?_) (fun z => ?_)
      · rw [if_pos z] at h
        exact ⟨by decide, h⟩
      · rw [if_neg z] at h
        refine pk_eq t 1 (fun z => ?_) (fun z => ?_)
        · rw [if_pos z] at h
          exact ⟨by decide, h⟩
        · rw [if_neg z] at h
          refine pk_eq t 2 (fun z => ?_) (fun z => ?_)
          · rw [if_pos z] at h
            exact ⟨fk_n1 H, h⟩
          · rw [if_neg z] at h
            refine pk_eq t 3 (fun z => ?_) (fun z => ?_)
            · rw [if_pos z] at h
              exact ⟨by decide, h⟩
            · rw [if_neg z] at h
              exact ⟨fk_b3 H, h⟩
    · rw [if_pos c2] at h
      exact ⟨by decide, by decide, h⟩
  · rw [if_pos c] at h
    exact h
theorem fy_60 {pst : SY → Prop} {J : Int32 → Int32 → (Nat → Int32) → (Nat → Int32) → (Nat → Int32) → Prop} {x2 r : Int32} (H : fk_ok n b) (a : Nat) (ha : a < 194) (h : J x2 (nI (a + 1)) (upd g a (fk_no n b a r)) sv ct) : wY_scribble_60 pst J x2 (nI a) r (fk_zv n a) (nI n) (nI b) (nI (2 + 8 * n + 4 * b)) f g sv ct := by
  have ⟨a3, a12, a2, a24⟩ := H
  have hin : vp_in (nI a) 194 := vp_in_nI ha (by decide)
  unfold wY_scribble_60
  rw [nI_clamp (by omega)]
  unfold fk_no fk_r4 at h
  unfold fk_zv
  by_cases c : a < 2
  · rw [if_pos c] at h ⊢
    exact br_t rfl ⟨hin, nm_e (nm_r (nI_1 a) h)⟩
  · rw [if_neg c] at h ⊢
    by_cases c2 : 2 + 8 * n ≤ a
    · rw [if_pos c2] at h ⊢
      exact br_f (by decide) (br_f (by decide) (br_f (by decide) (br_f (by decide) (br_f (by decide) (br_t (by decide) ⟨by decide, by decide, hin, nm_e (nm_r (nI_1 a) h)⟩)))))
    · rw [if_neg c2] at h ⊢
      have ht : (a - 2) % 8 < 8 := Nat.mod_lt _ (by decide)
      generalize (a - 2) % 8 = t at h ht ⊢
      refine br_f (fun z => fk_m1ne t (by omega) z.symm) ?_
      refine pk_eq t 0 (fun z => ?_) (fun z => ?_)
      · rw [if_pos z] at h
        exact ⟨by decide, hin, nm_e (nm_r (nI_1 a) h)⟩
      · rw [if_neg z] at h
        refine pk_eq t 1 (fun z => ?_) (fun z => ?_)
        · rw [if_pos z] at h
          exact ⟨by decide, hin, nm_e (nm_r (nI_1 a) h)⟩
        · rw [if_neg z] at h
          refine pk_eq t 2 (fun z => ?_) (fun z => ?_)
          · rw [if_pos z] at h
            exact ⟨fk_n1 H, hin, nm_e (nm_r (nI_1 a) h)⟩
          · rw [if_neg z] at h
            refine pk_eq t 3 (fun z => ?_) (fun z => ?_)
            · rw [if_pos z] at h
              exact ⟨by decide, hin, nm_e (nm_r (nI_1 a) h)⟩
            · rw [if_neg z] at h
              refine br_f (nI_ge (b := 8) ht (by omega)) ?_
              exact ⟨fk_b3 H, hin, nm_e (nm_r (nI_1 a) h)⟩
theorem fx_scribble {pst : SX → Prop} (x : Int32) (H : fk_ok n b) (h : pst (nI n, nI b, nI (2 + 8 * n + 4 * b), 0, (fk_it (fk_sq n b) 0 (x, g) (2 + 8 * n + 4 * b)).2, sv, ct, lv)) : wpX_scribble pst (nI n, nI b, nI (2 + 8 * n + 4 * b), f, g, sv, ct, lv) x := by
  have ⟨a3, a12, a2, a24⟩ := H
  unfold wpX_scribble
  dsimp only
  refine fk_iter (fun m a (s : Int32 × (Nat → Int32)) => wX_scribble_4 pst (nI n) (nI b) (nI (2 + 8 * n + 4 * b)) f m s.1 (nI a) s.2 sv ct lv) (fk_sq n b) 0 (2 + 8 * n + 4 * b) (x, g) (fun m => ?_) (fun m a s h1 h2 hw => ?_)
  · exact pk_le (2 + 8 * n + 4 * b) (0 + (2 + 8 * n + 4 * b)) (fun _ => h) (fun c => absurd c (by omega))
  · obtain ⟨x, g⟩ := s
    dsimp only
    refine pk_le (2 + 8 * n + 4 * b) a (fun c => absurd c (by omega)) (fun _ => ?_)
    refine nm_e ?_
    refine fx_no H a (by omega) ?_
    refine ⟨vp_in_nI (by omega) (by decide), ?_⟩
    rw [nI_clamp (by omega)]
    exact nm_e (nm_r (nI_1 a) hw)
theorem fy_scribble {pst : SY → Prop} (x : Int32) (H : fk_ok n b) (h : pst (nI n, nI b, nI (2 + 8 * n + 4 * b), 0, (fk_it (fk_sq n b) 0 (x, g) (2 + 8 * n + 4 * b)).2, sv, ct)) : wpY_scribble pst (nI n, nI b, nI (2 + 8 * n + 4 * b), f, g, sv, ct) x := by
  have ⟨a3, a12, a2, a24⟩ := H
  unfold wpY_scribble
  dsimp only
  refine fk_iter (fun m a (s : Int32 × (Nat → Int32)) => wY_scribble_4 pst (nI n) (nI b) (nI (2 + 8 * n + 4 * b)) f m s.1 (nI a) s.2 sv ct) (fk_sq n b) 0 (2 + 8 * n + 4 * b) (x, g) (fun m => ?_) (fun m a s h1 h2 hw => ?_)
  · exact pk_le (2 + 8 * n + 4 * b) (0 + (2 + 8 * n + 4 * b)) (fun _ => h) (fun c => absurd c (by omega))
  · obtain ⟨x, g⟩ := s
    dsimp only
    have M := fy_60 (pst := pst) (f := f) (J := wY_scribble_4 pst (nI n) (nI b) (nI (2 + 8 * n + 4 * b)) f m) (x2 := x * 1103515245 + 12345) (r := fk_r8 (x * 1103515245 + 12345)) (g := g) (sv := sv) (ct := ct) H a (by omega) hw
    unfold fk_zv at M
    refine pk_le (2 + 8 * n + 4 * b) a (fun c => absurd c (by omega)) (fun _ => ?_)
    refine nm_e (nm_e ?_)
    refine pk_le 2 a (fun c => ?_) (fun c => ?_)
    · rw [if_neg (by omega)] at M
      refine pk_le (2 + 8 * n) a (fun c2 => ?_) (fun c2 => ?_) (fk_28 n)
      · rw [if_pos c2] at M
        exact M
      · rw [if_neg (by omega)] at M
        refine ⟨by decide, ?_⟩
        have e1 : nI a - 2 = nI (a - 2) := pk_sub c
        have e : (nI a - 2) - (nI a - 2) / 8 * 8 = nI ((a - 2) % 8) := by
          rw [e1]; exact pk_rem (d := 8) (by omega) (by decide) (by decide)
        rw [e]
        exact M
    · rw [if_pos c] at M
      exact M
theorem fx_digest {post : Int64 → Prop} (H : fk_ok n b) (h : post (fk_dg g (2 + 8 * n + 4 * b))) : wpX_digest post (nI n, nI b, nI (2 + 8 * n + 4 * b), f, g, sv, ct, lv) := by
  have ⟨a3, a12, a2, a24⟩ := H
  unfold wpX_digest
  dsimp only
  refine pk_loop (fun m a (x : Int64) => wX_digest_6 post (nI n) (nI b) (nI (2 + 8 * n + 4 * b)) f g sv ct lv m x (nI a)) (fun a x => x = fk_dg g a) (2 + 8 * n + 4 * b) 0 7 (by omega) rfl (fun m x hx => ?_) (fun m a x ha hx hn => ?_)
  · subst hx
    exact pk_le (2 + 8 * n + 4 * b) (2 + 8 * n + 4 * b) (fun _ => h) (fun c => absurd c (by omega))
  · subst hx
    refine pk_le (2 + 8 * n + 4 * b) a (fun c => absurd c (by omega)) (fun _ => ?_)
    refine ⟨vp_in_nI (by omega) (by decide), ?_⟩
    rw [nI_clamp (by omega)]
    exact nm_e (nm_r (nI_1 a) (hn _ rfl))
theorem fy_digest {post : Int64 → Prop} (H : fk_ok n b) (h : post (fk_dg g (2 + 8 * n + 4 * b))) : wpY_digest post (nI n, nI b, nI (2 + 8 * n + 4 * b), f, g, sv, ct) := by
  have ⟨a3, a12, a2, a24⟩ := H
  unfold wpY_digest
  dsimp only
  refine pk_loop (fun m a (x : Int64) => wY_digest_6 post (nI n) (nI b) (nI (2 + 8 * n + 4 * b)) f g sv ct m x (nI a)) (fun a x => x = fk_dg g a) (2 + 8 * n + 4 * b) 0 7 (by omega) rfl (fun m x hx => ?_) (fun m a x ha hx hn => ?_)
  · subst hx
    exact pk_le (2 + 8 * n + 4 * b) (2 + 8 * n + 4 * b) (fun _ => h) (fun c => absurd c (by omega))
  · subst hx
    refine pk_le (2 + 8 * n + 4 * b) a (fun c => absurd c (by omega)) (fun _ => ?_)
    refine ⟨vp_in_nI (by omega) (by decide), ?_⟩
    rw [nI_clamp (by omega)]
    exact nm_e (nm_r (nI_1 a) (hn _ rfl))
theorem fx_undo {pst : Int32 → SX → Prop} (H : fk_ok n b) (h0 : ¬ f = 0) (h : pst (nI (fk_df g sv (2 + 8 * n + 4 * b))) (nI n, nI b, nI (2 + 8 * n + 4 * b), 0, fk_cy g sv (2 + 8 * n + 4 * b), sv, ct, lv)) : wpX_undo pst (nI n, nI b, nI (2 + 8 * n + 4 * b), f, g, sv, ct, lv) := by
  have ⟨a3, a12, a2, a24⟩ := H
  unfold wpX_undo
  dsimp only
  refine br_f h0 ?_
  refine fx_df H ?_
  refine pk_loop (fun m a (w : Nat → Int32) => wX_undo_16 pst (nI (fk_df g sv (2 + 8 * n + 4 * b))) (nI n) (nI b) (nI (2 + 8 * n + 4 * b)) f m (nI a) w sv ct lv) (fun a w => w = fk_cy g sv a) (2 + 8 * n + 4 * b) 0 g (by omega) rfl (fun m w hw => ?_) (fun m a w ha hw hn => ?_)
  · subst hw
    exact pk_le (2 + 8 * n + 4 * b) (2 + 8 * n + 4 * b) (fun _ => h) (fun c => absurd c (by omega))
  · subst hw
    refine pk_le (2 + 8 * n + 4 * b) a (fun c => absurd c (by omega)) (fun _ => ?_)
    refine ⟨vp_in_nI (by omega) (by decide), vp_in_nI (by omega) (by decide), ?_⟩
    rw [nI_clamp (by omega)]
    exact nm_e (nm_r (nI_1 a) (hn _ rfl))
theorem fy_undo {pst : Int32 → SY → Prop} (H : fk_ok n b) (h0 : ¬ f = 0) (h : pst (nI (fk_df g sv (2 + 8 * n + 4 * b))) (nI n, nI b, nI (2 + 8 * n + 4 * b), 0, fk_cy g sv (2 + 8 * n + 4 * b), sv, ct)) : wpY_undo pst (nI n, nI b, nI (2 + 8 * n + 4 * b), f, g, sv, ct) := by
  have ⟨a3, a12, a2, a24⟩ := H
  unfold wpY_undo
  dsimp only
  refine br_f h0 ?_
  refine fy_df H ?_
  refine pk_loop (fun m a (w : Nat → Int32) => wY_undo_16 pst (nI (fk_df g sv (2 + 8 * n + 4 * b))) (nI n) (nI b) (nI (2 + 8 * n + 4 * b)) f m (nI a) w sv ct) (fun a w => w = fk_cy g sv a) (2 + 8 * n + 4 * b) 0 g (by omega) rfl (fun m w hw => ?_) (fun m a w ha hw hn => ?_)
  · subst hw
    exact pk_le (2 + 8 * n + 4 * b) (2 + 8 * n + 4 * b) (fun _ => h) (fun c => absurd c (by omega))
  · subst hw
    refine pk_le (2 + 8 * n + 4 * b) a (fun c => absurd c (by omega)) (fun _ => ?_)
    refine ⟨vp_in_nI (by omega) (by decide), vp_in_nI (by omega) (by decide), ?_⟩
    rw [nI_clamp (by omega)]
    exact nm_e (nm_r (nI_1 a) (hn _ rfl))
end FW
end
section
/-! what is owed -/
def i_Rel (_ : Nat) (u : SX) (v : SY) : Prop := ∃ (n b : Nat) (f : Int32) (g sv ct lv : Nat → Int32), fk_ok n b ∧ (f = 0 ∨ f = 1) ∧ u = (nI n, nI b, nI (2 + 8 * n + 4 * b), f, g, sv, ct, lv) ∧ v = (nI n, nI b, nI (2 + 8 * n + 4 * b), f, g, sv, ct)
theorem i_up {k : Nat} {u : SX} {v : SY} (h : i_Rel k u v) : i_Rel (k + 5) u v := h
theorem i_vc0 (k0 : Int32) (k1 : Int32) : wpX_init (fun u => wpY_init (fun v => i_Rel 2 u v) k0 k1) k0 k1 := by
  obtain ⟨n, n1, n2, hx, hy⟩ := fk_clamp k0 3 12 (by decide) (by decide)
  obtain ⟨b, b1, b2, kx, ky⟩ := fk_clamp k1 2 24 (by decide) (by decide)
  have H : fk_ok n b := ⟨n1, n2, b1, b2⟩
  unfold wpX_init
  refine hx _ _ ?_
  refine kx _ _ ?_
  refine nm_r (fk_wE n b) ?_
  refine fx_format H ?_
  unfold wpY_init
  refine hy (fun x => wY_init_52 _ k1 x 0 0 0 0 (fun _ => 0) (fun _ => 0) (fun _ => 0)) ?_
  unfold wY_init_52
  refine ky (fun x => wY_init_77 _ x (nI n) 0 0 0 (fun _ => 0) (fun _ => 0) (fun _ => 0)) ?_
  unfold wY_init_77
  refine nm_r (fk_wE n b) ?_
  refine fy_format H ?_
  exact ⟨n, b, 0, _, _, _, _, H, Or.inl rfl, rfl, rfl⟩
theorem i_vc_inodes {k : Nat} {u : SX} {v : SY} (I : i_Rel k u v) (hk : k + 5 ≤ 2562) : wpX_inodes (fun r => wpY_inodes (fun r' => r' = r ∧ i_Rel (k + 5) u v) v) u := by
  obtain ⟨n, b, f, g, sv, ct, lv, H, hf, rfl, rfl⟩ := I
  have ⟨a3, a12, a2, a24⟩ := H
  exact ⟨rfl, n, b, f, g, sv, ct, lv, H, hf, rfl, rfl⟩
theorem i_vc_blocks {k : Nat} {u : SX} {v : SY} (I : i_Rel k u v) (hk : k + 5 ≤ 2562) : wpX_blocks (fun r => wpY_blocks (fun r' => r' = r ∧ i_Rel (k + 5) u v) v) u := by
  obtain ⟨n, b, f, g, sv, ct, lv, H, hf, rfl, rfl⟩ := I
  have ⟨a3, a12, a2, a24⟩ := H
  exact ⟨rfl, n, b, f, g, sv, ct, lv, H, hf, rfl, rfl⟩
theorem i_vc_words {k : Nat} {u : SX} {v : SY} (I : i_Rel k u v) (hk : k + 5 ≤ 2562) : wpX_words (fun r => wpY_words (fun r' => r' = r ∧ i_Rel (k + 5) u v) v) u := by
  obtain ⟨n, b, f, g, sv, ct, lv, H, hf, rfl, rfl⟩ := I
  have ⟨a3, a12, a2, a24⟩ := H
  exact ⟨rfl, n, b, f, g, sv, ct, lv, H, hf, rfl, rfl⟩
theorem i_vc_format {k : Nat} {u : SX} {v : SY} (I : i_Rel k u v) (hk : k + 5 ≤ 2562) : wpX_format (fun u' => wpY_format (fun v' => i_Rel (k + 5) u' v') v) u := by
  obtain ⟨n, b, f, g, sv, ct, lv, H, hf, rfl, rfl⟩ := I
  have ⟨a3, a12, a2, a24⟩ := H
  refine fx_format H ?_
  refine fy_format H ?_
  exact ⟨n, b, 0, _, _, _, _, H, Or.inl rfl, rfl, rfl⟩
theorem i_vc_scribble {k : Nat} {u : SX} {v : SY} (I : i_Rel k u v) (hk : k + 5 ≤ 2562) (v1 : Int32) : wpX_scribble (fun u' => wpY_scribble (fun v' => i_Rel (k + 5) u' v') v v1) u v1 := by
  obtain ⟨n, b, f, g, sv, ct, lv, H, hf, rfl, rfl⟩ := I
  have ⟨a3, a12, a2, a24⟩ := H
  refine fx_scribble v1 H ?_
  refine fy_scribble v1 H ?_
  exact ⟨n, b, 0, _, _, _, _, H, Or.inl rfl, rfl, rfl⟩
theorem i_vc_poke {k : Nat} {u : SX} {v : SY} (I : i_Rel k u v) (hk : k + 5 ≤ 2562) (v1 : Int32) (v2 : Int32) : wpX_poke (fun r u' => wpY_poke (fun r' v' => r' = r ∧ i_Rel (k + 5) u' v') v v1 v2) u v1 v2 := by
  obtain ⟨n, b, f, g, sv, ct, lv, H, hf, rfl, rfl⟩ := I
  have ⟨a3, a12, a2, a24⟩ := H
  unfold wpX_poke wpX_isAddress wpY_poke
  dsimp only
  rcases pk_ix v1 (n := 2 + 8 * n + 4 * b) (by omega) with c | c | ⟨j, hj, rfl⟩
  · exact br_t c (br_t rfl (br_t c ⟨rfl, n, b, f, g, sv, ct, lv, H, hf, rfl, rfl⟩))
  · by_cases d : v1 < 0
    · exact br_t d (br_t rfl (br_t d ⟨rfl, n, b, f, g, sv, ct, lv, H, hf, rfl, rfl⟩))
    · exact br_f d (br_t c (br_t rfl (br_f d (br_f (Int32.not_lt.mpr c) ⟨rfl, n, b, f, g, sv, ct, lv, H, hf, rfl, rfl⟩))))
  · have hin : vp_in (nI j) 194 := vp_in_nI (by omega) (by decide)
    refine br_f (nI_pos (by omega)) (br_f (nI_ge hj (by omega)) (br_f (by decide) ⟨hin, nm_e ?_⟩))
    refine br_f (nI_pos (by omega)) (br_t (nI_lt hj (by omega)) ⟨hin, nm_e ?_⟩)
    exact ⟨rfl, n, b, 0, _, _, _, _, H, Or.inl rfl, rfl, rfl⟩
theorem i_vc_peek {k : Nat} {u : SX} {v : SY} (I : i_Rel k u v) (hk : k + 5 ≤ 2562) (v1 : Int32) : wpX_peek (fun r => wpY_peek (fun r' => r' = r ∧ i_Rel (k + 5) u v) v v1) u v1 := by
  obtain ⟨n, b, f, g, sv, ct, lv, H, hf, rfl, rfl⟩ := I
  have ⟨a3, a12, a2, a24⟩ := H
  unfold wpX_peek wpX_isAddress wpY_peek
  dsimp only
  rcases pk_ix v1 (n := 2 + 8 * n + 4 * b) (by omega) with c | c | ⟨j, hj, rfl⟩
  · exact br_t c (br_t rfl (br_t c ⟨rfl, n, b, f, g, sv, ct, lv, H, hf, rfl, rfl⟩))
  · by_cases d : v1 < 0
    · exact br_t d (br_t rfl (br_t d ⟨rfl, n, b, f, g, sv, ct, lv, H, hf, rfl, rfl⟩))
    · exact br_f d (br_t c (br_t rfl (br_f d (br_f (Int32.not_lt.mpr c) ⟨rfl, n, b, f, g, sv, ct, lv, H, hf, rfl, rfl⟩))))
  · have hin : vp_in (nI j) 194 := vp_in_nI (by omega) (by decide)
    refine br_f (nI_pos (by omega)) (br_f (nI_ge hj (by omega)) (br_f (by decide) ⟨hin, ?_⟩))
    exact br_f (nI_pos (by omega)) (br_t (nI_lt hj (by omega)) ⟨hin, ⟨rfl, n, b, f, g, sv, ct, lv, H, hf, rfl, rfl⟩⟩)
theorem i_vc_setNode {k : Nat} {u : SX} {v : SY} (I : i_Rel k u v) (hk : k + 5 ≤ 2562) (v1 : Int32) (v2 : Int32) (v3 : Int32) (v4 : Int32) : wpX_setNode (fun r u' => wpY_setNode (fun r' v' => r' = r ∧ i_Rel (k + 5) u' v') v v1 v2 v3 v4) u v1 v2 v3 v4 := by
  obtain ⟨n, b, f, g, sv, ct, lv, H, hf, rfl, rfl⟩ := I
  have ⟨a3, a12, a2, a24⟩ := H
  rcases fk_arg v1 1 n (by omega) (by omega) with c | ⟨c, d⟩ | ⟨i, i1, i2, rfl⟩
  · unfold wpX_setNode wpX_isNode wpY_setNode
    dsimp only
    exact br_t c (br_t rfl (br_t c ⟨rfl, n, b, f, g, sv, ct, lv, H, hf, rfl, rfl⟩))
  · unfold wpX_setNode wpX_isNode wpY_setNode
    dsimp only
    exact br_f c (br_t d (br_t rfl (br_f c (br_f (Int32.not_le.mpr d) ⟨rfl, n, b, f, g, sv, ct, lv, H, hf, rfl, rfl⟩))))
  · refine fx_setNode H i i1 i2 rfl ?_
    refine fy_setNode H i i1 i2 rfl ?_
    exact ⟨rfl, n, b, 0, _, _, _, _, H, Or.inl rfl, rfl, rfl⟩
theorem i_vc_setPointer {k : Nat} {u : SX} {v : SY} (I : i_Rel k u v) (hk : k + 5 ≤ 2562) (v1 : Int32) (v2 : Int32) (v3 : Int32) : wpX_setPointer (fun r u' => wpY_setPointer (fun r' v' => r' = r ∧ i_Rel (k + 5) u' v') v v1 v2 v3) u v1 v2 v3 := by
  obtain ⟨n, b, f, g, sv, ct, lv, H, hf, rfl, rfl⟩ := I
  have ⟨a3, a12, a2, a24⟩ := H
  unfold wpX_setPointer wpX_isNode wpY_setPointer
  dsimp only
  rcases fk_arg v1 1 n (by omega) (by omega) with c | ⟨c, d⟩ | ⟨i, i1, i2, rfl⟩
  · exact br_t c (br_t rfl (br_t c ⟨rfl, n, b, f, g, sv, ct, lv, H, hf, rfl, rfl⟩))
  · exact br_f c (br_t d (br_t rfl (br_f c (br_t d ⟨rfl, n, b, f, g, sv, ct, lv, H, hf, rfl, rfl⟩))))
  · have c1 : ¬ nI i < 1 := nI_nlt (b := 1) i1 (by omega)
    have c2 : ¬ nI n < nI i := nI_nlt i2 (by omega)
    refine br_f c1 (br_f c2 (br_f (by decide) ?_))
    rcases fk_arg v2 0 3 (by omega) (by omega) with e | ⟨e, e2⟩ | ⟨s, s1, s2, rfl⟩
    · exact br_t e (br_f c1 (br_f c2 (br_t e ⟨rfl, n, b, f, g, sv, ct, lv, H, hf, rfl, rfl⟩)))
    · exact br_f e (br_f (Int32.not_le.mpr e2) (br_f c1 (br_f c2 (br_f e (br_f (Int32.not_le.mpr e2) ⟨rfl, n, b, f, g, sv, ct, lv, H, hf, rfl, rfl⟩)))))
    · have e : ¬ nI s < 0 := nI_pos (by omega)
      have e2 : nI s ≤ 3 := nI_le (b := 3) s2 (by decide)
      refine br_f e (br_t e2 ?_)
      refine fx_set H i (4 + s) i1 i2 (by omega) rfl (fk_4a s) ?_
      refine br_f c1 (br_f c2 (br_f e (br_t e2 ?_)))
      refine fy_set H i (4 + s) i1 i2 (by omega) rfl (fk_4a s) ?_
      exact ⟨rfl, n, b, 0, _, _, _, _, H, Or.inl rfl, rfl, rfl⟩
theorem i_vc_setEntry {k : Nat} {u : SX} {v : SY} (I : i_Rel k u v) (hk : k + 5 ≤ 2562) (v1 : Int32) (v2 : Int32) (v3 : Int32) (v4 : Int32) : wpX_setEntry (fun r u' => wpY_setEntry (fun r' v' => r' = r ∧ i_Rel (k + 5) u' v') v v1 v2 v3 v4) u v1 v2 v3 v4 := by
  obtain ⟨n, b, f, g, sv, ct, lv, H, hf, rfl, rfl⟩ := I
  have ⟨a3, a12, a2, a24⟩ := H
  unfold wpX_setEntry wpX_isBlock wpY_setEntry
  dsimp only
  rcases fk_arg v1 1 b (by omega) (by omega) with c | ⟨c, d⟩ | ⟨x, x1, x2, rfl⟩
  · exact br_t c (br_t rfl (br_t c ⟨rfl, n, b, f, g, sv, ct, lv, H, hf, rfl, rfl⟩))
  · exact br_f c (br_t d (br_t rfl (br_f c (br_t d ⟨rfl, n, b, f, g, sv, ct, lv, H, hf, rfl, rfl⟩))))
  · have c1 : ¬ nI x < 1 := nI_nlt (b := 1) x1 (by omega)
    have c2 : ¬ nI b < nI x := nI_nlt x2 (by omega)
    refine br_f c1 (br_f c2 (br_f (by decide) ?_))
    rcases fk_arg v2 0 3 (by omega) (by omega) with e | ⟨e, e2⟩ | ⟨s, s1, s2, rfl⟩
    · exact br_t e (br_f c1 (br_f c2 (br_t e ⟨rfl, n, b, f, g, sv, ct, lv, H, hf, rfl, rfl⟩)))
    · exact br_f e (br_f (Int32.not_le.mpr e2) (br_f c1 (br_f c2 (br_f e (br_f (Int32.not_le.mpr e2) ⟨rfl, n, b, f, g, sv, ct, lv, H, hf, rfl, rfl⟩)))))
    · have e : ¬ nI s < 0 := nI_pos (by omega)
      have e2 : nI s ≤ 3 := nI_le (b := 3) s2 (by decide)
      refine br_f e (br_t e2 ?_)
      by_cases m1 : v3 < 0
      · exact br_t m1 (br_f c1 (br_f c2 (br_f e (br_t e2 (br_t m1 ⟨rfl, n, b, f, g, sv, ct, lv, H, hf, rfl, rfl⟩)))))
      · refine br_f m1 ?_
        by_cases m2 : 255 < v3
        · exact br_t m2 (br_f c1 (br_f c2 (br_f e (br_t e2 (br_f m1 (br_t m2 ⟨rfl, n, b, f, g, sv, ct, lv, H, hf, rfl, rfl⟩))))))
        · refine br_f m2 ?_
          by_cases p1 : v4 < 0
          · exact br_t p1 (br_f c1 (br_f c2 (br_f e (br_t e2 (br_f m1 (br_f m2 (br_t p1 ⟨rfl, n, b, f, g, sv, ct, lv, H, hf, rfl, rfl⟩)))))))
          · refine br_f p1 ?_
            by_cases p2 : v4 ≤ 15
            · have hl := fk_ce_lt (x := x) (c := s) H x2 (by omega)
              refine br_t p2 ?_
              refine fx_ce x s x1 rfl rfl ?_
              refine ⟨vp_in_nI hl (by decide), ?_⟩
              rw [nI_clamp (by omega)]
              refine nm_e ?_
              refine br_f c1 (br_f c2 (br_f e (br_t e2 (br_f m1 (br_f m2 (br_f p1 (br_t p2 ?_)))))))
              refine fy_ce x s x1 rfl rfl ?_
              refine ⟨vp_in_nI hl (by decide), ?_⟩
              rw [nI_clamp (by omega)]
              refine nm_e ?_
              exact ⟨rfl, n, b, 0, _, _, _, _, H, Or.inl rfl, rfl, rfl⟩
            · exact br_f p2 (br_f c1 (br_f c2 (br_f e (br_t e2 (br_f m1 (br_f m2 (br_f p1 (br_f p2 ⟨rfl, n, b, f, g, sv, ct, lv, H, hf, rfl, rfl⟩))))))))
theorem i_vc_check {k : Nat} {u : SX} {v : SY} (I : i_Rel k u v) (hk : k + 5 ≤ 2562) : wpX_check (fun r u' => wpY_check (fun r' => r' = r ∧ i_Rel (k + 5) u' v) v) u := by
  obtain ⟨n, b, f, g, sv, ct, lv, H, hf, rfl, rfl⟩ := I
  have ⟨a3, a12, a2, a24⟩ := H
  refine fx_check H (fun l => ?_)
  refine fy_check H ?_
  exact ⟨rfl, n, b, f, g, sv, ct, l, H, hf, rfl, rfl⟩
theorem i_vc_repair {k : Nat} {u : SX} {v : SY} (I : i_Rel k u v) (hk : k + 5 ≤ 2562) : wpX_repair (fun r u' => wpY_repair (fun r' v' => r' = r ∧ i_Rel (k + 5) u' v') v) u := by
  obtain ⟨n, b, f, g, sv, ct, lv, H, hf, rfl, rfl⟩ := I
  have ⟨a3, a12, a2, a24⟩ := H
  obtain ⟨g', ct', C⟩ := fk_ch_ex n b g (fk_zz ct 10)
  refine fx_repair H C ?_
  refine fy_repair H C ?_
  exact ⟨rfl, n, b, 1, _, _, _, _, H, Or.inr rfl, rfl, rfl⟩
theorem i_vc_report {k : Nat} {u : SX} {v : SY} (I : i_Rel k u v) (hk : k + 5 ≤ 2562) (v1 : Int32) : wpX_report (fun r => wpY_report (fun r' => r' = r ∧ i_Rel (k + 5) u v) v v1) u v1 := by
  obtain ⟨n, b, f, g, sv, ct, lv, H, hf, rfl, rfl⟩ := I
  have ⟨a3, a12, a2, a24⟩ := H
  unfold wpX_report wpY_report
  dsimp only
  rcases fk_arg v1 0 9 (by omega) (by omega) with c | ⟨c, d⟩ | ⟨j, j1, j2, rfl⟩
  · exact br_t c (br_t c ⟨rfl, n, b, f, g, sv, ct, lv, H, hf, rfl, rfl⟩)
  · exact br_f c (br_f (Int32.not_le.mpr d) (br_f c (br_f (Int32.not_le.mpr d) ⟨rfl, n, b, f, g, sv, ct, lv, H, hf, rfl, rfl⟩)))
  · have c : ¬ nI j < 0 := nI_pos (by omega)
    have d : nI j ≤ 9 := nI_le (b := 9) j2 (by decide)
    have hin : vp_in (nI j) 10 := vp_in_nI (by omega) (by decide)
    exact br_f c (br_t d ⟨hin, br_f c (br_t d ⟨hin, ⟨rfl, n, b, f, g, sv, ct, lv, H, hf, rfl, rfl⟩⟩)⟩)
theorem i_vc_canUndo {k : Nat} {u : SX} {v : SY} (I : i_Rel k u v) (hk : k + 5 ≤ 2562) : wpX_canUndo (fun r => wpY_canUndo (fun r' => r' = r ∧ i_Rel (k + 5) u v) v) u := by
  obtain ⟨n, b, f, g, sv, ct, lv, H, hf, rfl, rfl⟩ := I
  have ⟨a3, a12, a2, a24⟩ := H
  have hb : narrow .boolean (.int f) = .int f := by
    rcases hf with z | z
    · rw [z]; rfl
    · rw [z]; rfl
  exact ⟨hb, hb, ⟨rfl, n, b, f, g, sv, ct, lv, H, hf, rfl, rfl⟩⟩
theorem i_vc_undo {k : Nat} {u : SX} {v : SY} (I : i_Rel k u v) (hk : k + 5 ≤ 2562) : wpX_undo (fun r u' => wpY_undo (fun r' v' => r' = r ∧ i_Rel (k + 5) u' v') v) u := by
  obtain ⟨n, b, f, g, sv, ct, lv, H, hf, rfl, rfl⟩ := I
  have ⟨a3, a12, a2, a24⟩ := H
  by_cases c : f = 0
  · unfold wpX_undo wpY_undo
    dsimp only
    exact br_t c (br_t c ⟨rfl, n, b, f, g, sv, ct, lv, H, hf, rfl, rfl⟩)
  · refine fx_undo H c ?_
    refine fy_undo H c ?_
    exact ⟨rfl, n, b, 0, _, _, _, _, H, Or.inl rfl, rfl, rfl⟩
theorem i_vc_before {k : Nat} {u : SX} {v : SY} (I : i_Rel k u v) (hk : k + 5 ≤ 2562) (v1 : Int32) : wpX_before (fun r => wpY_before (fun r' => r' = r ∧ i_Rel (k + 5) u v) v v1) u v1 := by
  obtain ⟨n, b, f, g, sv, ct, lv, H, hf, rfl, rfl⟩ := I
  have ⟨a3, a12, a2, a24⟩ := H
  unfold wpX_before wpX_isAddress wpY_before
  dsimp only
  rcases pk_ix v1 (n := 2 + 8 * n + 4 * b) (by omega) with c | c | ⟨j, hj, rfl⟩
  · exact br_t c (br_t rfl (br_t c ⟨rfl, n, b, f, g, sv, ct, lv, H, hf, rfl, rfl⟩))
  · by_cases d : v1 < 0
    · exact br_t d (br_t rfl (br_t d ⟨rfl, n, b, f, g, sv, ct, lv, H, hf, rfl, rfl⟩))
    · exact br_f d (br_t c (br_t rfl (br_f d (br_f (Int32.not_lt.mpr c) ⟨rfl, n, b, f, g, sv, ct, lv, H, hf, rfl, rfl⟩))))
  · have hin : vp_in (nI j) 194 := vp_in_nI (by omega) (by decide)
    refine br_f (nI_pos (by omega)) (br_f (nI_ge hj (by omega)) (br_f (by decide) ?_))
    refine br_c (fun e => ⟨hin, ?_⟩) (fun e => ⟨hin, ?_⟩)
    · exact br_f (nI_pos (by omega)) (br_t (nI_lt hj (by omega)) (br_t e ⟨hin, ⟨rfl, n, b, f, g, sv, ct, lv, H, hf, rfl, rfl⟩⟩))
    · exact br_f (nI_pos (by omega)) (br_t (nI_lt hj (by omega)) (br_f e ⟨hin, ⟨rfl, n, b, f, g, sv, ct, lv, H, hf, rfl, rfl⟩⟩))
theorem i_vc_lookup {k : Nat} {u : SX} {v : SY} (I : i_Rel k u v) (hk : k + 5 ≤ 2562) (v1 : Int32) (v2 : Int32) : wpX_lookup (fun r => wpY_lookup (fun r' => r' = r ∧ i_Rel (k + 5) u v) v v1 v2) u v1 v2 := by
  obtain ⟨n, b, f, g, sv, ct, lv, H, hf, rfl, rfl⟩ := I
  have ⟨a3, a12, a2, a24⟩ := H
  rcases fk_arg v1 1 n (by omega) (by omega) with c | ⟨c, d⟩ | ⟨i, i1, i2, rfl⟩
  · unfold wpX_lookup wpX_isNode wpY_lookup
    dsimp only
    exact br_t c (br_t rfl (br_t c ⟨rfl, n, b, f, g, sv, ct, lv, H, hf, rfl, rfl⟩))
  · unfold wpX_lookup wpX_isNode wpY_lookup
    dsimp only
    exact br_f c (br_t d (br_t rfl (br_f c (br_t d ⟨rfl, n, b, f, g, sv, ct, lv, H, hf, rfl, rfl⟩))))
  · have c1 : ¬ nI i < 1 := nI_nlt (b := 1) i1 (by omega)
    have c2 : ¬ nI n < nI i := nI_nlt i2 (by omega)
    unfold wpX_lookup wpX_isNode
    dsimp only
    refine br_f c1 (br_f c2 (br_f (by decide) ?_))
    rcases fk_arg v2 1 255 (by omega) (by omega) with e | ⟨e, e2⟩ | ⟨m, m1, m2, rfl⟩
    · refine fx_fnN (Or.inl e) ?_
      unfold wpY_lookup
      dsimp only
      exact br_f (by decide) (br_f c1 (br_f c2 (br_t e ⟨rfl, n, b, f, g, sv, ct, lv, H, hf, rfl, rfl⟩)))
    · refine fx_fnN (Or.inr (Int32.not_le.mpr e2)) ?_
      unfold wpY_lookup
      dsimp only
      exact br_f (by decide) (br_f c1 (br_f c2 (br_f e (br_f (Int32.not_le.mpr e2) ⟨rfl, n, b, f, g, sv, ct, lv, H, hf, rfl, rfl⟩))))
    · refine fx_fn H i m i1 i2 m1 m2 rfl rfl ?_
      by_cases z : fk_fn g n b i m < 16 * i
      · have E : fk_m1 (16 * i) (fk_fn g n b i m) = nI (fk_fn g n b i m) := if_pos z
        have E2 : fk_lk g n b i m = fk_tg g n b (fk_fn g n b i m) := if_pos z
        rw [E]
        refine br_t (nI_pos' (by omega)) ?_
        refine fx_tg H (fk_fn g n b i m) (by omega) rfl ?_
        refine fy_lk H i m i1 i2 m1 m2 rfl rfl ?_
        rw [E2]
        exact ⟨rfl, n, b, f, g, sv, ct, lv, H, hf, rfl, rfl⟩
      · have E : fk_m1 (16 * i) (fk_fn g n b i m) = -1 := if_neg z
        have E2 : fk_lk g n b i m = 0 := if_neg z
        rw [E]
        refine br_f (by decide) ?_
        refine fy_lk H i m i1 i2 m1 m2 rfl rfl ?_
        rw [E2]
        exact ⟨rfl, n, b, f, g, sv, ct, lv, H, hf, rfl, rfl⟩
theorem i_vc_owner {k : Nat} {u : SX} {v : SY} (I : i_Rel k u v) (hk : k + 5 ≤ 2562) (v1 : Int32) : wpX_owner (fun r => wpY_owner (fun r' => r' = r ∧ i_Rel (k + 5) u v) v v1) u v1 := by
  obtain ⟨n, b, f, g, sv, ct, lv, H, hf, rfl, rfl⟩ := I
  have ⟨a3, a12, a2, a24⟩ := H
  rcases fk_arg v1 1 b (by omega) (by omega) with c | ⟨c, d⟩ | ⟨x, x1, x2, rfl⟩
  · unfold wpX_owner wpX_isBlock wpY_owner
    dsimp only
    exact br_t c (br_t rfl (br_t c ⟨rfl, n, b, f, g, sv, ct, lv, H, hf, rfl, rfl⟩))
  · unfold wpX_owner wpX_isBlock wpY_owner
    dsimp only
    exact br_f c (br_t d (br_t rfl (br_f c (br_f (Int32.not_le.mpr d) ⟨rfl, n, b, f, g, sv, ct, lv, H, hf, rfl, rfl⟩))))
  · have c1 : ¬ nI x < 1 := nI_nlt (b := 1) x1 (by omega)
    have c2 : ¬ nI b < nI x := nI_nlt x2 (by omega)
    unfold wpX_owner wpX_isBlock
    dsimp only
    refine br_f c1 (br_f c2 (br_f (by decide) ?_))
    refine fx_ow H x x1 x2 rfl ?_
    exact br_f c1 (br_t (nI_le x2 (by omega)) (fy_ow H x x1 x2 rfl ⟨rfl, n, b, f, g, sv, ct, lv, H, hf, rfl, rfl⟩))
theorem i_vc_claims {k : Nat} {u : SX} {v : SY} (I : i_Rel k u v) (hk : k + 5 ≤ 2562) (v1 : Int32) : wpX_claims (fun r => wpY_claims (fun r' => r' = r ∧ i_Rel (k + 5) u v) v v1) u v1 := by
  obtain ⟨n, b, f, g, sv, ct, lv, H, hf, rfl, rfl⟩ := I
  have ⟨a3, a12, a2, a24⟩ := H
  rcases fk_arg v1 1 b (by omega) (by omega) with c | ⟨c, d⟩ | ⟨x, x1, x2, rfl⟩
  · unfold wpX_claims wpX_isBlock wpY_claims
    dsimp only
    exact br_t c (br_t rfl (br_t c ⟨rfl, n, b, f, g, sv, ct, lv, H, hf, rfl, rfl⟩))
  · unfold wpX_claims wpX_isBlock wpY_claims
    dsimp only
    exact br_f c (br_t d (br_t rfl (br_f c (br_f (Int32.not_le.mpr d) ⟨rfl, n, b, f, g, sv, ct, lv, H, hf, rfl, rfl⟩))))
  · have c1 : ¬ nI x < 1 := nI_nlt (b := 1) x1 (by omega)
    have c2 : ¬ nI b < nI x := nI_nlt x2 (by omega)
    unfold wpX_claims wpX_isBlock
    dsimp only
    refine br_f c1 (br_f c2 (br_f (by decide) ?_))
    refine fx_cm H x x1 x2 rfl ?_
    exact fy_cm H x x1 x2 rfl ⟨rfl, n, b, f, g, sv, ct, lv, H, hf, rfl, rfl⟩
theorem i_vc_references {k : Nat} {u : SX} {v : SY} (I : i_Rel k u v) (hk : k + 5 ≤ 2562) (v1 : Int32) : wpX_references (fun r => wpY_references (fun r' => r' = r ∧ i_Rel (k + 5) u v) v v1) u v1 := by
  obtain ⟨n, b, f, g, sv, ct, lv, H, hf, rfl, rfl⟩ := I
  have ⟨a3, a12, a2, a24⟩ := H
  rcases fk_arg v1 1 n (by omega) (by omega) with c | ⟨c, d⟩ | ⟨i, i1, i2, rfl⟩
  · unfold wpX_references wpX_isNode wpY_references
    dsimp only
    exact br_t c (br_t rfl (br_t c ⟨rfl, n, b, f, g, sv, ct, lv, H, hf, rfl, rfl⟩))
  · unfold wpX_references wpX_isNode wpY_references
    dsimp only
    exact br_f c (br_t d (br_t rfl (br_f c (br_f (Int32.not_le.mpr d) ⟨rfl, n, b, f, g, sv, ct, lv, H, hf, rfl, rfl⟩))))
  · have c1 : ¬ nI i < 1 := nI_nlt (b := 1) i1 (by omega)
    have c2 : ¬ nI n < nI i := nI_nlt i2 (by omega)
    unfold wpX_references wpX_isNode
    dsimp only
    refine br_f c1 (br_f c2 (br_f (by decide) ?_))
    refine fx_rf H i (by omega) rfl ?_
    exact fy_rf H i i1 i2 rfl ⟨rfl, n, b, f, g, sv, ct, lv, H, hf, rfl, rfl⟩
theorem i_vc_distance {k : Nat} {u : SX} {v : SY} (I : i_Rel k u v) (hk : k + 5 ≤ 2562) (v1 : Int32) : wpX_distance (fun r u' => wpY_distance (fun r' => r' = r ∧ i_Rel (k + 5) u' v) v v1) u v1 := by
  obtain ⟨n, b, f, g, sv, ct, lv, H, hf, rfl, rfl⟩ := I
  have ⟨a3, a12, a2, a24⟩ := H
  rcases fk_arg v1 1 n (by omega) (by omega) with c | ⟨c, d⟩ | ⟨i, i1, i2, rfl⟩
  · unfold wpX_distance wpX_isNode wpY_distance
    dsimp only
    exact br_t c (br_t rfl (br_t c ⟨rfl, n, b, f, g, sv, ct, lv, H, hf, rfl, rfl⟩))
  · unfold wpX_distance wpX_isNode wpY_distance
    dsimp only
    exact br_f c (br_t d (br_t rfl (br_f c (br_f (Int32.not_le.mpr d) ⟨rfl, n, b, f, g, sv, ct, lv, H, hf, rfl, rfl⟩))))
  · have c1 : ¬ nI i < 1 := nI_nlt (b := 1) i1 (by omega)
    have c2 : ¬ nI n < nI i := nI_nlt i2 (by omega)
    unfold wpX_distance wpX_isNode
    dsimp only
    refine br_f c1 (br_f c2 (br_f (by decide) ?_))
    refine fx_md H (fun l hl => ?_)
    refine ⟨vp_in_nI (by omega) (by decide), ?_⟩
    rw [nI_clamp (by omega)]
    refine fy_ds H i i1 i2 rfl (fun x hx => ?_)
    exact ⟨fk_Lev_u hx (hl i i1 i2), n, b, f, g, sv, ct, l, H, hf, rfl, rfl⟩
theorem i_vc_digest {k : Nat} {u : SX} {v : SY} (I : i_Rel k u v) (hk : k + 5 ≤ 2562) : wpX_digest (fun r => wpY_digest (fun r' => r' = r ∧ i_Rel (k + 5) u v) v) u := by
  obtain ⟨n, b, f, g, sv, ct, lv, H, hf, rfl, rfl⟩ := I
  have ⟨a3, a12, a2, a24⟩ := H
  refine fx_digest H ?_
  refine fy_digest H ?_
  exact ⟨rfl, n, b, f, g, sv, ct, lv, H, hf, rfl, rfl⟩
end
