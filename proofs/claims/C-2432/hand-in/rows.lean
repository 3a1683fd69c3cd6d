section
theorem pk_us {f : Nat → Int32} {k : Nat} {x : Int32} : upd f k x k = x := if_pos rfl
theorem pk_un {f : Nat → Int32} {k j : Nat} {x : Int32} (h : j ≠ k) : upd f k x j = f j := if_neg h
theorem pk_sub {a b : Nat} (h : b ≤ a) : nI a - nI b = nI (a - b) := by
  obtain ⟨c, rfl⟩ : ∃ c, a = c + b := ⟨a - b, by omega⟩
  rw [← nI_add, Int32.add_sub_cancel, Nat.add_sub_cancel]
theorem pk_m1 (n : Nat) : nI (n + 1) + (-1) = nI n := by
  rw [← nI_1, Int32.add_assoc, show (1 : Int32) + (-1) = 0 from rfl, Int32.add_zero]
theorem pk_mul (a b : Nat) : nI a * nI b = nI (a * b) := (Int32.ofNat_mul a b).symm
theorem pk_div {a d : Nat} (ha : a < 2 ^ 31) (h0 : 0 < d) (hd : d < 2 ^ 31) : nI a / nI d = nI (a / d) := by
  apply Int32.toInt_inj.mp
  rw [lg_idiv_nonneg (by rw [nI_toInt ha]; omega) (by rw [nI_toInt hd]; omega), nI_toInt ha, nI_toInt hd, nI_toInt (Nat.lt_of_le_of_lt (Nat.div_le_self a d) ha)]
  first | rfl | exact (Int.natCast_ediv _ _).symm
theorem pk_rem {a d : Nat} (ha : a < 2 ^ 31) (h0 : 0 < d) (hd : d < 2 ^ 31) : nI a - nI a / nI d * nI d = nI (a % d) := by
  rw [pk_div ha h0 hd, pk_mul, pk_sub (Nat.div_mul_le_self a d)]
  exact congrArg nI (by have := Nat.div_add_mod' a d; omega)
theorem pk_sub_toInt {a b : Nat} (ha : a < 2 ^ 30) (hb : b < 2 ^ 30) : (nI a - nI b).toInt = (a : Int) - b := by
  rw [Int32.toInt_sub, nI_toInt (by omega), nI_toInt (by omega)]
  exact Int.bmod_eq_of_le (by omega) (by omega)
theorem pk_sneg {a b : Nat} (hb : b < 2 ^ 30) (h : a < b) : nI a - nI b < 0 := by
  rw [Int32.lt_iff_toInt_lt, pk_sub_toInt (by omega) hb, show (0 : Int32).toInt = 0 from by decide]
  omega
theorem pk_ix (x : Int32) {n : Nat} (hn : n < 2 ^ 31) : x < 0 ∨ nI n ≤ x ∨ ∃ j : Nat, j < n ∧ x = nI j := by
  by_cases h : x < 0
  · exact Or.inl h
  · obtain ⟨j, hj, rfl⟩ := nI_of h
    by_cases h2 : j < n
    · exact Or.inr (Or.inr ⟨j, h2, rfl⟩)
    · exact Or.inr (Or.inl (nI_le (by omega) hj))
theorem pk_le {x y : Int32} {A B : Prop} (a b : Nat) (f : a ≤ b → A) (g : b < a → B) (hx : x = nI a := by rfl) (hy : y = nI b := by rfl) (ha : a < 2 ^ 31 := by omega) (hb : b < 2 ^ 31 := by omega) : (x ≤ y → A) ∧ (¬ x ≤ y → B) := by
  subst hx hy
  rw [nI_leI ha hb]
  exact ⟨f, fun z => g (by omega)⟩
theorem pk_lt {x y : Int32} {A B : Prop} (a b : Nat) (f : a < b → A) (g : b ≤ a → B) (hx : x = nI a := by rfl) (hy : y = nI b := by rfl) (ha : a < 2 ^ 31 := by omega) (hb : b < 2 ^ 31 := by omega) : (x < y → A) ∧ (¬ x < y → B) := by
  subst hx hy
  rw [nI_ltI ha hb]
  exact ⟨f, fun z => g (by omega)⟩
theorem pk_eq {x y : Int32} {A B : Prop} (a b : Nat) (f : a = b → A) (g : a ≠ b → B) (hx : x = nI a := by rfl) (hy : y = nI b := by rfl) (ha : a < 2 ^ 31 := by omega) (hb : b < 2 ^ 31 := by omega) : (x = y → A) ∧ (¬ x = y → B) := by
  subst hx hy
  rw [nI_eq ha hb]
  exact ⟨f, g⟩
theorem pk_in {x : Int32} (n N : Nat) (h : n < N) (hx : x = nI n := by rfl) (hN : N < 2 ^ 31 := by omega) : vp_in x N := by
  subst hx
  exact vp_in_nI h hN
theorem pk_cl {x : Int32} (n : Nat) (hx : x = nI n := by rfl) (h : n < 2 ^ 31 := by omega) : x.toNatClampNeg = n := by
  subst hx
  exact nI_clamp h
theorem pk_tn {n : Nat} (h : n < 2 ^ 32) : (nI n).toBitVec.toNat = n := Nat.mod_eq_of_lt h
theorem pk_and (x : Int32) {m : Int32} (k : Nat) (hm : m.toBitVec.toNat = 2 ^ k - 1) : x &&& m = nI (x.toBitVec.toNat % 2 ^ k) := by
  apply Int32.toBitVec_inj.mp
  apply BitVec.eq_of_toNat_eq
  rw [Int32.toBitVec_and, BitVec.toNat_and, hm, Nat.and_two_pow_sub_one_eq_mod]
  show _ = (BitVec.ofNat 32 _).toNat
  rw [BitVec.toNat_ofNat]
  exact (Nat.mod_eq_of_lt (Nat.lt_of_le_of_lt (Nat.mod_le _ _) x.toBitVec.isLt)).symm
theorem pk_andN {n : Nat} (h : n < 2 ^ 32) {m : Int32} (k : Nat) (hm : m.toBitVec.toNat = 2 ^ k - 1) : nI n &&& m = nI (n % 2 ^ k) := by
  rw [pk_and _ k hm, pk_tn h]
theorem pk_andE (x : Int32) {m : Int32} (k : Nat) (hm : m.toBitVec.toNat = 2 ^ k - 1) : ∃ j : Nat, j < 2 ^ k ∧ x &&& m = nI j := ⟨_, Nat.mod_lt _ (Nat.two_pow_pos k), pk_and x k hm⟩
theorem pk_andIn (x : Int32) {m : Int32} (k : Nat) (hm : m.toBitVec.toNat = 2 ^ k - 1) (hk : k ≤ 30) : vp_in (x &&& m) (2 ^ k) := by
  obtain ⟨j, hj, e⟩ := pk_andE x k hm
  rw [e]
  exact vp_in_nI hj (Nat.lt_of_le_of_lt (Nat.pow_le_pow_right (by decide) hk) (by decide))
theorem pk_shl (a s : Int32) (k : Nat) (hs : (s.toBitVec.smod 32).toNat = k) : (a <<< s).toBitVec.toNat = a.toBitVec.toNat * 2 ^ k % 2 ^ 32 := by
  show (a.toBitVec <<< (s.toBitVec.smod 32).toNat).toNat = _
  rw [hs, BitVec.toNat_shiftLeft, Nat.shiftLeft_eq]
theorem pk_shlN {n : Nat} (s : Int32) (k : Nat) (hs : (s.toBitVec.smod 32).toNat = k) (h : n * 2 ^ k < 2 ^ 32) : nI n <<< s = nI (n * 2 ^ k) := by
  apply Int32.toBitVec_inj.mp
  apply BitVec.eq_of_toNat_eq
  have hn : n < 2 ^ 32 := Nat.lt_of_le_of_lt (Nat.le_mul_of_pos_right n (Nat.two_pow_pos k)) h
  rw [pk_shl _ _ k hs, pk_tn hn, pk_tn h, Nat.mod_eq_of_lt h]
theorem pk_shr (a s : Int32) (k : Nat) (hs : (s.toBitVec.smod 32).toNat = k) : (a >>> s).toInt = a.toInt >>> k := by
  show (a.toBitVec.sshiftRight (s.toBitVec.smod 32).toNat).toInt = _
  rw [hs, BitVec.toInt_sshiftRight]
  rfl
theorem pk_shrN {n : Nat} (h : n < 2 ^ 31) (s : Int32) (k : Nat) (hs : (s.toBitVec.smod 32).toNat = k) : nI n >>> s = nI (n / 2 ^ k) := by
  apply Int32.toInt_inj.mp
  have h2 : n / 2 ^ k ≤ n := Nat.div_le_self _ _
  rw [pk_shr _ _ k hs, nI_toInt h, nI_toInt (by omega), Int.shiftRight_eq_div_pow]
  rfl
theorem pk_nb (z : Int32) : narrow .byte (.int z.toInt8.toInt32) = .int z.toInt8.toInt32 := congrArg Value.int (by simp)
theorem pk_ns (z : Int32) : narrow .short (.int z.toInt16.toInt32) = .int z.toInt16.toInt32 := congrArg Value.int (by simp)
theorem pk_vb (z : Int32) : vp_nar .byte z.toInt8.toInt32 = z.toInt8.toInt32 := by rw [vp_nar_byte]; simp
theorem pk_vs (z : Int32) : vp_nar .short z.toInt16.toInt32 = z.toInt16.toInt32 := by rw [vp_nar_short]; simp
theorem pk_loop {σ : Type} (W : Nat → Nat → σ → Prop) (I : Nat → σ → Prop) (e i0 : Nat) (s : σ) (hi : i0 ≤ e) (h0 : I i0 s) (hx : ∀ n s, I e s → W (n + 1) e s)
    (hs : ∀ n i s, i < e → I i s → (∀ s', I (i + 1) s' → W n (i + 1) s') → W (n + 1) i s) : ∃ n, W n i0 s :=
  ⟨e + 1, loop_i W I e hx hs (e + 1) i0 s hi (by omega) h0⟩
theorem pk_loopD {σ : Type} (W : Nat → Nat → σ → Prop) (I : Nat → σ → Prop) (hx : ∀ n s, I 0 s → W (n + 1) 0 s)
    (hs : ∀ n i s, I (i + 1) s → (∀ s', I i s' → W n i s') → W (n + 1) (i + 1) s) : ∀ (e : Nat) (s : σ), I e s → W (e + 1) e s := by
  intro e
  induction e with
  | zero => exact fun s h => hx 0 s h
  | succ e ih => exact fun s h => hs (e + 1) e s h (fun s' h' => ih s' h')
theorem pk_least (P : Nat → Prop) (h : ∃ k, P k) : ∃ k, P k ∧ ∀ j, j < k → ¬ P j := by
  obtain ⟨k, hk⟩ := h
  induction k using Nat.strongRecOn with
  | ind k ih =>
    by_cases e : ∃ j, j < k ∧ P j
    · obtain ⟨j, hj, pj⟩ := e
      exact ih j hj pj
    · exact ⟨k, hk, fun j hj pj => e ⟨j, hj, pj⟩⟩
theorem ek_if {c d A B : Prop} (e : c ↔ d) (f : d → A) (g : ¬ d → B) : (c → A) ∧ (¬ c → B) :=
  ⟨fun z => f (e.mp z), fun z => g (fun y => z (e.mpr y))⟩
theorem ek_v {α : Sort _} {P : α → Prop} {a b : α} (e : a = b) (h : P b) : P a := e ▸ h
end
section
/-- the curve number of the cell c = 16 x + y, as a table to the base 256 -/
def hc_H (c : Nat) : Nat := 0xaaabacafb0b1bebfc0c3c4c5fafbfcffa9a8adaeb3b2bdbcc1c2c7c6f9f8fdfea6a7a2a1b4b7b8bbcecdc8c9f6f7f2f1a5a4a3a0b5b6b9bacfcccbcaf5f4f3f09a9b9c9f8a898685d0d1dedfe0e1eeef99989d9e8b888784d3d2dddce3e2edec969792918c8d8283d4d7d8dbe4e7e8eb959493908f8e8180d5d6d9dae5e6e9ea6a6b6c6f70717e7f2a2926251a19161569686d6e73727d7c2b2827241b181714666762617477787b2c2d22231c1d1213656463607576797a2f2e21201f1e11105a5b5c5f4a494645303334350a0b0c0f59585d5e4b4847443132373609080d0e565752514c4d42433e3d383906070201555453504f4e41403f3c3b3a05040300 / 256 ^ c % 256
/-- the cell of a curve number -/
def hc_P (n : Nat) : Nat := 0xf0e0e1f1f2f3e3e2d2d3c3c2c1d1d0c0b0b1a1a09080819192828393a3a2b2b3b4b5a5a49484859596868797a7a6b6b7c7d7d6c6c5c4d4d5e5e4f4f5f6e6e7f7f8f9e9e8d8c8c9d9dacacbdbebeafafbfcecedfdfeffefeededfcfcecddddcccbcacadbdbebfafae9e9f8f8e8d9d9c8c8b8a9a9babbbbaaaa9b9b8a89899898878796968584849595a4a4b5b6b6a7a7b7c6c6d7d7e7f6f6e5e5f4f4e4d5d5c4c3c2c2d3d3e3f2f2e1e1f0f0e0d1d1c0c0b0a1a1b2b3b3a2a293938281819090807171606050414152524343536262737474656576777766665757464545545444342525363737262617170605051414030202131323323221213030201111000 / 256 ^ n % 256
theorem hc_H_lt (c : Nat) : hc_H c < 256 := Nat.mod_lt _ (by decide)
theorem hc_P_lt (n : Nat) : hc_P n < 256 := Nat.mod_lt _ (by decide)
theorem hc_PH : ∀ c, c < 256 → hc_P (hc_H c) = c := by decide +kernel
theorem hc_HP : ∀ n, n < 256 → hc_H (hc_P n) = n := by decide +kernel
/-- how many cells a square of level l holds; its side -/
def hc_bs (l : Nat) : Nat := match l with
  | 0 => 256
  | 1 => 64
  | 2 => 16
  | 3 => 4
  | _ => 1
def hc_sd (l : Nat) : Nat := match l with
  | 0 => 16
  | 1 => 8
  | 2 => 4
  | 3 => 2
  | _ => 1
/-- the run of curve numbers that is the square u, v of level l -/
def hc_T (l u v : Nat) : Nat := hc_H (16 * (u * hc_sd l) + v * hc_sd l) / hc_bs l
theorem hc_T_of : ∀ l, l < 5 → ∀ c, c < 256 → hc_T l (c / 16 / hc_sd l) (c % 16 / hc_sd l) = hc_H c / hc_bs l := by decide +kernel
theorem hc_T_inv : ∀ l, l < 5 → ∀ u, u < 2 ^ l → ∀ v, v < 2 ^ l → hc_T l u v < 4 ^ l ∧ hc_P (hc_T l u v * hc_bs l) / 16 / hc_sd l = u ∧ hc_P (hc_T l u v * hc_bs l) % 16 / hc_sd l = v := by decide +kernel
theorem hc_bs_pos (l : Nat) : 0 < hc_bs l := by
  unfold hc_bs; split <;> decide
theorem hc_sd_pos (l : Nat) : 0 < hc_sd l := by
  unfold hc_sd; split <;> decide
theorem hc_sd_pw : ∀ l, l < 5 → 2 ^ l * hc_sd l = 16 := by decide +kernel
theorem hc_bs_pw : ∀ l, l < 5 → 4 ^ l * hc_bs l = 256 := by decide +kernel
theorem hc_uv {l x : Nat} (hl : l < 5) (hx : x < 16) : x / hc_sd l < 2 ^ l := by
  rw [Nat.div_lt_iff_lt_mul (hc_sd_pos l), hc_sd_pw l hl]
  exact hx
/-- a cell lies in a square if and only if its number lies in that square's run -/
theorem hc_sq {l c u v : Nat} (hl : l < 5) (hc : c < 256) (hu : u < 2 ^ l) (hv : v < 2 ^ l) : (c / 16 / hc_sd l = u ∧ c % 16 / hc_sd l = v) ↔ hc_H c / hc_bs l = hc_T l u v := by
  constructor
  · rintro ⟨rfl, rfl⟩
    exact (hc_T_of l hl c hc).symm
  · intro h
    rw [← hc_T_of l hl c hc] at h
    obtain ⟨_, a1, a2⟩ := hc_T_inv l hl u hu v hv
    obtain ⟨_, b1, b2⟩ := hc_T_inv l hl (c / 16 / hc_sd l) (hc_uv hl (by omega)) (c % 16 / hc_sd l) (hc_uv hl (by omega))
    rw [h] at b1 b2
    exact ⟨b1.symm.trans a1, b2.symm.trans a2⟩
theorem hc_perm : ((List.range 256).map hc_H).Perm (List.range 256) := by decide +kernel
theorem hc_permT : ∀ l, l < 5 → ((List.range (4 ^ l)).map (fun j => hc_T l (j / 2 ^ l) (j % 2 ^ l))).Perm (List.range (4 ^ l)) := by decide +kernel
end
section
/-- how many numbers below n satisfy p -/
def hc_cn (p : Nat → Bool) : Nat → Nat
  | 0 => 0
  | n + 1 => hc_cn p n + (if p n = true then 1 else 0)
theorem hc_cn_t {p : Nat → Bool} {n : Nat} (h : p n = true) : hc_cn p (n + 1) = hc_cn p n + 1 := by
  show hc_cn p n + (if p n = true then 1 else 0) = _
  rw [if_pos h]
theorem hc_cn_f {p : Nat → Bool} {n : Nat} (h : p n = false) : hc_cn p (n + 1) = hc_cn p n := by
  show hc_cn p n + (if p n = true then 1 else 0) = _
  rw [if_neg (by rw [h]; decide)]
  rfl
theorem hc_cn_T {p : Nat → Bool} {a : Nat} : ∀ d, (∀ x, a ≤ x → x < a + d → p x = true) → hc_cn p (a + d) = hc_cn p a + d := by
  intro d
  induction d with
  | zero => exact fun _ => rfl
  | succ d ih =>
    intro h
    have e := ih (fun x h1 h2 => h x h1 (by omega))
    rw [← Nat.add_assoc, hc_cn_t (h (a + d) (by omega) (by omega)), e]
    omega
theorem hc_cn_F {p : Nat → Bool} {a : Nat} : ∀ d, (∀ x, a ≤ x → x < a + d → p x = false) → hc_cn p (a + d) = hc_cn p a := by
  intro d
  induction d with
  | zero => exact fun _ => rfl
  | succ d ih =>
    intro h
    have e := ih (fun x h1 h2 => h x h1 (by omega))
    rw [← Nat.add_assoc, hc_cn_f (h (a + d) (by omega) (by omega)), e]
theorem hc_cn_T2 {p : Nat → Bool} {a b : Nat} (hab : a ≤ b) (h : ∀ x, a ≤ x → x < b → p x = true) : hc_cn p b = hc_cn p a + (b - a) := by
  obtain ⟨d, rfl⟩ : ∃ d, b = a + d := ⟨b - a, by omega⟩
  rw [hc_cn_T d h]
  omega
theorem hc_cn_F2 {p : Nat → Bool} {a b : Nat} (hab : a ≤ b) (h : ∀ x, a ≤ x → x < b → p x = false) : hc_cn p b = hc_cn p a := by
  obtain ⟨d, rfl⟩ : ∃ d, b = a + d := ⟨b - a, by omega⟩
  exact hc_cn_F d h
theorem hc_cn_s (p : Nat → Bool) (n : Nat) : hc_cn p n ≤ hc_cn p (n + 1) := by
  cases h : p n with
  | true => rw [hc_cn_t h]; omega
  | false => rw [hc_cn_f h]; omega
theorem hc_cn_mono {p : Nat → Bool} {a b : Nat} (h : a ≤ b) : hc_cn p a ≤ hc_cn p b := by
  obtain ⟨d, rfl⟩ : ∃ d, b = a + d := ⟨b - a, by omega⟩
  induction d with
  | zero => exact Nat.le_refl _
  | succ d ih => exact Nat.le_trans (ih (by omega)) (hc_cn_s p (a + d))
theorem hc_cn_le (p : Nat → Bool) : ∀ n, hc_cn p n ≤ n := by
  intro n
  induction n with
  | zero => exact Nat.le_refl _
  | succ n ih =>
    cases h : p n with
    | true => rw [hc_cn_t h]; omega
    | false => rw [hc_cn_f h]; omega
theorem hc_cn_lt {p : Nat → Bool} {x n : Nat} (hx : x < n) (h : p x = true) : hc_cn p x < hc_cn p n := by
  have h1 := hc_cn_t h
  have h2 := hc_cn_mono (p := p) (a := x + 1) (b := n) (by omega)
  omega
theorem hc_cn_uni {p : Nat → Bool} {x y : Nat} (px : p x = true) (py : p y = true) (h : hc_cn p x = hc_cn p y) : x = y := by
  rcases Nat.lt_trichotomy x y with h1 | h1 | h1
  · have := hc_cn_lt h1 px
    omega
  · exact h1
  · have := hc_cn_lt h1 py
    omega
theorem hc_cn_congr {p q : Nat → Bool} : ∀ n, (∀ x, x < n → p x = q x) → hc_cn p n = hc_cn q n := by
  intro n
  induction n with
  | zero => exact fun _ => rfl
  | succ n ih =>
    intro h
    show hc_cn p n + (if p n = true then 1 else 0) = hc_cn q n + (if q n = true then 1 else 0)
    rw [ih (fun x hx => h x (by omega)), h n (by omega)]
theorem hc_cn_list (p : Nat → Bool) : ∀ n, hc_cn p n = (List.range n).countP p := by
  intro n
  induction n with
  | zero => rfl
  | succ n ih =>
    rw [List.range_succ, List.countP_append, ← ih, List.countP_singleton]
    rfl
theorem hc_cn_perm {g : Nat → Nat} {n : Nat} (h : ((List.range n).map g).Perm (List.range n)) (p : Nat → Bool) : hc_cn (fun x => p (g x)) n = hc_cn p n := by
  rw [hc_cn_list, hc_cn_list p, ← h.countP_eq p, List.countP_map]
  rfl
/-- at most one of two counts at every place -/
theorem hc_cn_add {p q r : Nat → Bool} : ∀ n, (∀ x, x < n → p x = true → q x = true ∨ r x = true) → hc_cn p n ≤ hc_cn q n + hc_cn r n := by
  intro n
  induction n with
  | zero => exact fun _ => Nat.zero_le _
  | succ n ih =>
    intro h
    have e := ih (fun x hx => h x (by omega))
    have h1 := hc_cn_s q n
    have h2 := hc_cn_s r n
    cases hp : p n with
    | false => rw [hc_cn_f hp]; omega
    | true =>
      rw [hc_cn_t hp]
      rcases h n (by omega) hp with h3 | h3
      · rw [hc_cn_t h3]; omega
      · rw [hc_cn_t h3]; omega
/-- the end of the i-th stretch's forerunner -/
def hc_e (L : Nat → Nat) : Nat → Nat
  | 0 => 0
  | i + 1 => L i + 1
/-- the stretches F i .. L i (i < n) are the set B below m -/
def hc_Set (n : Nat) (F L : Nat → Nat) (B : Nat → Bool) (m : Nat) : Prop :=
  (∀ i, i < n → hc_e L i ≤ F i ∧ F i ≤ L i ∧ L i < m) ∧ (∀ i, 0 < i → i < n → hc_e L i < F i) ∧
  (∀ i, i < n → ∀ x, F i ≤ x → x ≤ L i → B x = true) ∧ (∀ i, i < n → ∀ x, hc_e L i ≤ x → x < F i → B x = false) ∧
  (∀ x, hc_e L n ≤ x → x < m → B x = false)
theorem hc_e_le {n : Nat} {F L : Nat → Nat} {B : Nat → Bool} {m : Nat} (S : hc_Set n F L B m) : ∀ i, i ≤ n → hc_e L i ≤ m := by
  intro i hi
  cases i with
  | zero => exact Nat.zero_le _
  | succ i =>
    have := (S.1 i (by omega)).2.2
    show L i + 1 ≤ m
    omega
theorem hc_e_s {n : Nat} {F L : Nat → Nat} {B : Nat → Bool} {m : Nat} (S : hc_Set n F L B m) {i : Nat} (hi : i < n) : hc_e L i < hc_e L (i + 1) := by
  have := S.1 i hi
  show hc_e L i < L i + 1
  omega
theorem hc_e_mono {n : Nat} {F L : Nat → Nat} {B : Nat → Bool} {m : Nat} (S : hc_Set n F L B m) {i j : Nat} (hij : i ≤ j) (hj : j ≤ n) : hc_e L i ≤ hc_e L j := by
  obtain ⟨d, rfl⟩ : ∃ d, j = i + d := ⟨j - i, by omega⟩
  induction d with
  | zero => exact Nat.le_refl _
  | succ d ih =>
    have h1 := ih (by omega) (by omega)
    have h2 := hc_e_s S (i := i + d) (by omega)
    exact Nat.le_of_lt (Nat.lt_of_le_of_lt h1 h2)
theorem hc_L_mono {n : Nat} {F L : Nat → Nat} {B : Nat → Bool} {m : Nat} (S : hc_Set n F L B m) {i j : Nat} (hij : i ≤ j) (hj : j < n) : L i ≤ L j := by
  have h : hc_e L (i + 1) ≤ hc_e L (j + 1) := hc_e_mono S (by omega) (by omega)
  have h' : L i + 1 ≤ L j + 1 := h
  omega
/-- behind the first i stretches, not beyond the i-th: in the set if and only if the i-th has begun -/
theorem hc_at {n : Nat} {F L : Nat → Nat} {B : Nat → Bool} {m : Nat} (S : hc_Set n F L B m) {i y : Nat} (hi : i ≤ n) (hlo : ∀ k, k < i → L k < y) : hc_e L i ≤ y := by
  cases i with
  | zero => exact Nat.zero_le _
  | succ i => exact hlo i (by omega)
/-- the count along a stretch -/
theorem hc_cn_in {n : Nat} {F L : Nat → Nat} {B : Nat → Bool} {m : Nat} (S : hc_Set n F L B m) {i : Nat} (hi : i < n) : ∀ x, F i ≤ x → x ≤ L i + 1 → hc_cn B x = hc_cn B (hc_e L i) + (x - F i) := by
  intro x h1 h2
  rw [hc_cn_T2 h1 (fun y a b => S.2.2.1 i hi y a (by omega)), hc_cn_F2 (S.1 i hi).1 (fun y a b => S.2.2.2.1 i hi y a b)]
theorem hc_cn_nx {n : Nat} {F L : Nat → Nat} {B : Nat → Bool} {m : Nat} (S : hc_Set n F L B m) {i : Nat} (hi : i < n) : hc_cn B (hc_e L (i + 1)) = hc_cn B (hc_e L i) + (L i - F i + 1) := by
  have h := hc_cn_in S hi (L i + 1) (by have := S.1 i hi; omega) (by omega)
  have h' := S.1 i hi
  show hc_cn B (L i + 1) = _
  rw [h]
  omega
theorem hc_cn_end {n : Nat} {F L : Nat → Nat} {B : Nat → Bool} {m : Nat} (S : hc_Set n F L B m) : hc_cn B m = hc_cn B (hc_e L n) :=
  hc_cn_F2 (hc_e_le S n (by omega)) (fun y a b => S.2.2.2.2 y a b)
/-- where a stretch begins -/
def hc_rise (B : Nat → Bool) (x : Nat) : Bool := B x && (decide (x = 0) || !(B (x - 1)))
/-- where one has just ended -/
def hc_fall (B : Nat → Bool) (x : Nat) : Bool := decide (0 < x) && (!(B x) && B (x - 1))
theorem hc_rise_f {B : Nat → Bool} {x : Nat} (h : B x = false) : hc_rise B x = false := by
  unfold hc_rise; rw [h]; rfl
theorem hc_rise_f2 {B : Nat → Bool} {x : Nat} (h0 : 0 < x) (h : B (x - 1) = true) : hc_rise B x = false := by
  unfold hc_rise
  rw [h, decide_eq_false (by omega)]
  cases B x <;> rfl
theorem hc_rise_t {B : Nat → Bool} {x : Nat} (h : B x = true) (h2 : 0 < x → B (x - 1) = false) : hc_rise B x = true := by
  unfold hc_rise
  rw [h]
  by_cases h0 : x = 0
  · rw [decide_eq_true h0]; rfl
  · rw [h2 (by omega)]
    cases decide (x = 0) <;> rfl
theorem hc_gap {n : Nat} {F L : Nat → Nat} {B : Nat → Bool} {m : Nat} (S : hc_Set n F L B m) {i : Nat} (hi : i < n) (h0 : 0 < F i) : B (F i - 1) = false := by
  have h1 := S.1 i hi
  refine S.2.2.2.1 i hi (F i - 1) ?_ (by omega)
  by_cases h : i = 0
  · subst h; exact Nat.zero_le _
  · have := S.2.1 i (by omega) hi
    omega
theorem hc_runs_i {n : Nat} {F L : Nat → Nat} {B : Nat → Bool} {m : Nat} (S : hc_Set n F L B m) : ∀ i, i ≤ n → hc_cn (hc_rise B) (hc_e L i) = i := by
  intro i
  induction i with
  | zero => exact fun _ => rfl
  | succ i ih =>
    intro hi
    have h1 := S.1 i (by omega)
    have e1 : hc_cn (hc_rise B) (F i) = i := by
      rw [hc_cn_F2 h1.1 (fun y a b => hc_rise_f (S.2.2.2.1 i (by omega) y a b))]
      exact ih (by omega)
    have e2 : hc_cn (hc_rise B) (F i + 1) = i + 1 := by
      rw [hc_cn_t (hc_rise_t (S.2.2.1 i (by omega) (F i) (by omega) h1.2.1) (fun h0 => hc_gap S (by omega) h0)), e1]
    show hc_cn (hc_rise B) (L i + 1) = i + 1
    rw [hc_cn_F2 (a := F i + 1) (by omega) (fun y a b => hc_rise_f2 (by omega) (S.2.2.1 i (by omega) (y - 1) (by omega) (by omega))), e2]
/-- the set has as many runs as stretches -/
theorem hc_runs {n : Nat} {F L : Nat → Nat} {B : Nat → Bool} {m : Nat} (S : hc_Set n F L B m) : hc_cn (hc_rise B) m = n := by
  rw [hc_cn_F2 (hc_e_le S n (by omega)) (fun y a b => hc_rise_f (S.2.2.2.2 y a b)), hc_runs_i S n (by omega)]
theorem hc_fall_le (B : Nat → Bool) : ∀ n, hc_cn (hc_fall B) n + (if decide (0 < n) && B (n - 1) then 1 else 0) = hc_cn (hc_rise B) n := by
  intro n
  induction n with
  | zero => rfl
  | succ n ih =>
    show hc_cn (hc_fall B) n + (if hc_fall B n = true then 1 else 0) + (if decide (0 < n + 1) && B n then 1 else 0) = hc_cn (hc_rise B) n + (if hc_rise B n = true then 1 else 0)
    rw [← ih]
    unfold hc_fall hc_rise
    by_cases h0 : n = 0
    · subst h0
      cases B 0 <;> rfl
    · have h1 : 0 < n := by omega
      rw [decide_eq_true h1, decide_eq_false h0, decide_eq_true (show 0 < n + 1 by omega)]
      cases B n <;> cases B (n - 1) <;> simp
/-- the three ways to combine -/
def hc_f (how : Nat) (a b : Bool) : Bool := if how = 0 then a && b else if how = 1 then a || b else a && !b
theorem hc_comb {how : Nat} {A B D : Nat → Bool} (hD : ∀ x, x < 256 → D x = hc_f how (A x) (B x)) {a b : Nat} (ha : hc_cn (hc_rise A) 256 = a) (hb : hc_cn (hc_rise B) 256 = b) (m : Nat) (hm : m ≤ 256) : hc_cn (hc_rise D) m ≤ a + b := by
  refine Nat.le_trans (hc_cn_mono hm) ?_
  by_cases h2 : how = 0 ∨ how = 1
  · have h := hc_cn_add (p := hc_rise D) (q := hc_rise A) (r := hc_rise B) 256 (fun x hx => by
      unfold hc_rise
      rw [hD x hx, hD (x - 1) (by omega)]
      unfold hc_f
      rcases h2 with h | h
      · rw [if_pos h, if_pos h]
        cases A x <;> cases B x <;> cases A (x - 1) <;> cases B (x - 1) <;> cases decide (x = 0) <;> decide
      · rw [if_neg (by omega), if_pos h, if_neg (by omega), if_pos h]
        cases A x <;> cases B x <;> cases A (x - 1) <;> cases B (x - 1) <;> cases decide (x = 0) <;> decide)
    omega
  · have h := hc_cn_add (p := hc_rise D) (q := hc_rise A) (r := hc_fall B) 256 (fun x hx => by
      unfold hc_rise hc_fall
      rw [hD x hx, hD (x - 1) (by omega)]
      unfold hc_f
      rw [if_neg (by omega), if_neg (by omega), if_neg (by omega), if_neg (by omega)]
      by_cases h0 : x = 0
      · rw [decide_eq_true h0]
        cases A x <;> cases B x <;> cases A (x - 1) <;> cases B (x - 1) <;> cases decide (0 < x) <;> decide
      · rw [decide_eq_false h0, decide_eq_true (show 0 < x by omega)]
        cases A x <;> cases B x <;> cases A (x - 1) <;> cases B (x - 1) <;> decide)
    have h3 := hc_fall_le B 256
    omega
end
section
/-- whether the pointer i stands at a stretch that holds a; how far that answer lasts -/
def hc_in (n : Nat) (F : Nat → Nat) (i a : Nat) : Bool := decide (i < n ∧ F i ≤ a)
def hc_nx (n : Nat) (F L : Nat → Nat) (i a : Nat) : Nat := if i < n then (if F i ≤ a then L i + 1 else F i) else 256
theorem hc_ptr {n : Nat} {F L : Nat → Nat} {B : Nat → Bool} (S : hc_Set n F L B 256) {i a : Nat} (hi : i ≤ n) (hlo : ∀ k, k < i → L k < a) (hhi : i < n → a ≤ L i) (ha : a < 256) : a < hc_nx n F L i a ∧ hc_nx n F L i a ≤ 256 ∧ ∀ x, a ≤ x → x < hc_nx n F L i a → B x = hc_in n F i a := by
  have he := hc_at S hi hlo
  unfold hc_nx hc_in
  by_cases h : i < n
  · have h1 := S.1 i h
    have h2 := hhi h
    rw [if_pos h]
    by_cases hF : F i ≤ a
    · rw [if_pos hF, decide_eq_true ⟨h, hF⟩]
      exact ⟨by omega, by omega, fun x hx hy => S.2.2.1 i h x (by omega) (by omega)⟩
    · rw [if_neg hF, decide_eq_false (fun z => hF z.2)]
      exact ⟨by omega, by omega, fun x hx hy => S.2.2.2.1 i h x (by omega) hy⟩
  · have hn : i = n := by omega
    rw [if_neg h, decide_eq_false (fun z => h z.1)]
    subst hn
    exact ⟨ha, by omega, fun x hx hy => S.2.2.2.2 x (by omega) hy⟩
/-- a store of naturals -/
def hc_u (f : Nat → Nat) (k v : Nat) : Nat → Nat := fun j => if j = k then v else f j
theorem hc_us {f : Nat → Nat} {k v : Nat} : hc_u f k v k = v := if_pos rfl
theorem hc_un {f : Nat → Nat} {k v j : Nat} (h : j ≠ k) : hc_u f k v j = f j := if_neg h
theorem hc_eu {f : Nat → Nat} {k v : Nat} : ∀ i, i ≤ k → hc_e (hc_u f k v) i = hc_e f i := by
  intro i hi
  cases i with
  | zero => rfl
  | succ i =>
    show hc_u f k v i + 1 = f i + 1
    rw [hc_un (by omega)]
theorem hc_app0 {m : Nat} {F L : Nat → Nat} {D : Nat → Bool} {a b : Nat} (S : hc_Set m F L D a) (hab : a ≤ b) (h : ∀ x, a ≤ x → x < b → D x = false) : hc_Set m F L D b := by
  refine ⟨fun i hi => ?_, S.2.1, S.2.2.1, S.2.2.2.1, fun x h1 h2 => ?_⟩
  · have := S.1 i hi
    omega
  · by_cases hx : x < a
    · exact S.2.2.2.2 x h1 hx
    · exact h x (by omega) h2
theorem hc_app1 {m : Nat} {F L : Nat → Nat} {D : Nat → Bool} {a b : Nat} (S : hc_Set (m + 1) F L D a) (hl : L m + 1 = a) (hab : a < b) (h : ∀ x, a ≤ x → x < b → D x = true) : hc_Set (m + 1) F (hc_u L m (b - 1)) D b := by
  refine ⟨fun i hi => ?_, fun i h0 hi => ?_, fun i hi x h1 h2 => ?_, fun i hi x h1 h2 => ?_, fun x h1 h2 => ?_⟩
  · have h3 := S.1 i hi
    rw [hc_eu i (by omega)]
    by_cases e : i = m
    · subst e
      rw [hc_us]
      omega
    · rw [hc_un e]
      omega
  · rw [hc_eu i (by omega)]
    exact S.2.1 i h0 hi
  · by_cases e : i = m
    · subst e
      rw [hc_us] at h2
      by_cases hx : x < a
      · exact S.2.2.1 i hi x h1 (by omega)
      · exact h x (by omega) (by omega)
    · rw [hc_un e] at h2
      exact S.2.2.1 i hi x h1 h2
  · rw [hc_eu i (by omega)] at h1
    exact S.2.2.2.1 i hi x h1 h2
  · have h3 : hc_u L m (b - 1) m + 1 ≤ x := h1
    rw [hc_us] at h3
    omega
theorem hc_app2 {m : Nat} {F L : Nat → Nat} {D : Nat → Bool} {a b : Nat} (S : hc_Set m F L D a) (hne : 0 < m → hc_e L m ≠ a) (hab : a < b) (h : ∀ x, a ≤ x → x < b → D x = true) : hc_Set (m + 1) (hc_u F m a) (hc_u L m (b - 1)) D b := by
  have hm := hc_e_le S m (by omega)
  refine ⟨fun i hi => ?_, fun i h0 hi => ?_, fun i hi x h1 h2 => ?_, fun i hi x h1 h2 => ?_, fun x h1 h2 => ?_⟩
  · rw [hc_eu i (by omega)]
    by_cases e : i = m
    · subst e
      rw [hc_us, hc_us]
      omega
    · rw [hc_un e, hc_un e]
      have h3 := S.1 i (by omega)
      omega
  · rw [hc_eu i (by omega)]
    by_cases e : i = m
    · subst e
      rw [hc_us]
      have := hne h0
      omega
    · rw [hc_un e]
      exact S.2.1 i h0 (by omega)
  · by_cases e : i = m
    · subst e
      rw [hc_us] at h1 h2
      exact h x h1 (by omega)
    · rw [hc_un e] at h1 h2
      exact S.2.2.1 i (by omega) x h1 h2
  · rw [hc_eu i (by omega)] at h1
    by_cases e : i = m
    · subst e
      rw [hc_us] at h2
      exact S.2.2.2.2 x h1 h2
    · rw [hc_un e] at h2
      exact S.2.2.2.1 i (by omega) x h1 h2
  · have h3 : hc_u L m (b - 1) m + 1 ≤ x := h1
    rw [hc_us] at h3
    omega
theorem hc_Set0 (F L : Nat → Nat) (D : Nat → Bool) : hc_Set 0 F L D 0 :=
  ⟨fun i hi => absurd hi (by omega), fun i _ hi => absurd hi (by omega), fun i hi => absurd hi (by omega), fun i hi => absurd hi (by omega), fun x _ hx => absurd hx (by omega)⟩
/-- one stretch -/
theorem hc_Set1 {F L : Nat → Nat} {D : Nat → Bool} {a b : Nat} (hab : a ≤ b) (hb : b < 256) (hF : F 0 = a) (hL : L 0 = b) (hD : ∀ x, x < 256 → (D x = true ↔ a ≤ x ∧ x ≤ b)) : hc_Set 1 F L D 256 := by
  have hf : ∀ x, x < 256 → ¬ (a ≤ x ∧ x ≤ b) → D x = false := fun x hx hn => by
    cases e : D x with
    | false => rfl
    | true => exact absurd ((hD x hx).mp e) hn
  refine ⟨fun i hi => ?_, fun i h0 hi => absurd hi (by omega), fun i hi x h1 h2 => ?_, fun i hi x h1 h2 => ?_, fun x h1 h2 => ?_⟩
  · obtain rfl : i = 0 := by omega
    rw [hF, hL]
    exact ⟨Nat.zero_le _, hab, hb⟩
  · obtain rfl : i = 0 := by omega
    rw [hF] at h1
    rw [hL] at h2
    exact (hD x (by omega)).mpr ⟨h1, h2⟩
  · obtain rfl : i = 0 := by omega
    rw [hF] at h2
    exact hf x (by omega) (by omega)
  · have h3 : L 0 + 1 ≤ x := h1
    rw [hL] at h3
    exact hf x h2 (by omega)
theorem hc_bs_v (l : Nat) : hc_bs l = 256 ∨ hc_bs l = 64 ∨ hc_bs l = 16 ∨ hc_bs l = 4 ∨ hc_bs l = 1 := by
  unfold hc_bs; split <;> decide
/-- is the whole run b of level l in the set? -/
def hc_wh (B : Nat → Bool) (l b : Nat) : Bool := (List.range 256).all (fun x => !(decide (x / hc_bs l = b)) || B x)
theorem hc_wh_t {B : Nat → Bool} {l b : Nat} (h : ∀ x, x < 256 → x / hc_bs l = b → B x = true) : hc_wh B l b = true :=
  List.all_eq_true.mpr (fun x hx => by
    by_cases e : x / hc_bs l = b
    · rw [h x (List.mem_range.mp hx) e, Bool.or_true]
    · rw [decide_eq_false e]; rfl)
theorem hc_wh_o {B : Nat → Bool} {l b : Nat} (h : hc_wh B l b = true) : ∀ x, x < 256 → x / hc_bs l = b → B x = true := by
  intro x hx e
  have h1 := List.all_eq_true.mp h x (List.mem_range.mpr hx)
  rw [decide_eq_true e] at h1
  exact h1
theorem hc_wh_f {B : Nat → Bool} {l b x : Nat} (hx : x < 256) (hb : x / hc_bs l = b) (h : B x = false) : hc_wh B l b = false := by
  cases e : hc_wh B l b with
  | false => rfl
  | true => rw [hc_wh_o e x hx hb] at h; exact Bool.noConfusion h
/-- the level of the largest whole square at k -/
def hc_lv (B : Nat → Bool) (k : Nat) : Nat :=
  if hc_wh B 0 (k / hc_bs 0) = true then 0 else if hc_wh B 1 (k / hc_bs 1) = true then 1 else if hc_wh B 2 (k / hc_bs 2) = true then 2 else if hc_wh B 3 (k / hc_bs 3) = true then 3 else 4
theorem hc_nf {b : Bool} (h : b = false) : ¬ b = true := by rw [h]; decide
theorem hc_lv_of {B : Nat → Bool} {k l : Nat} (hl : l ≤ 4) (h1 : ∀ j, j < l → hc_wh B j (k / hc_bs j) = false) (h2 : l < 4 → hc_wh B l (k / hc_bs l) = true) : hc_lv B k = l := by
  unfold hc_lv
  have hc : l = 0 ∨ l = 1 ∨ l = 2 ∨ l = 3 ∨ l = 4 := by omega
  rcases hc with rfl | rfl | rfl | rfl | rfl
  · rw [if_pos (h2 (by decide))]
  · rw [if_neg (hc_nf (h1 0 (by decide))), if_pos (h2 (by decide))]
  · rw [if_neg (hc_nf (h1 0 (by decide))), if_neg (hc_nf (h1 1 (by decide))), if_pos (h2 (by decide))]
  · rw [if_neg (hc_nf (h1 0 (by decide))), if_neg (hc_nf (h1 1 (by decide))), if_neg (hc_nf (h1 2 (by decide))), if_pos (h2 (by decide))]
  · rw [if_neg (hc_nf (h1 0 (by decide))), if_neg (hc_nf (h1 1 (by decide))), if_neg (hc_nf (h1 2 (by decide))), if_neg (hc_nf (h1 3 (by decide)))]
theorem hc_lv_le (B : Nat → Bool) (k : Nat) : hc_lv B k ≤ 4 := by
  unfold hc_lv
  split
  · decide
  · split
    · decide
    · split
      · decide
      · split <;> decide
/-- where a piece begins -/
def hc_pc (B : Nat → Bool) (k : Nat) : Bool := B k && decide (k % hc_bs (hc_lv B k) = 0)
theorem hc_pc_f {B : Nat → Bool} {k : Nat} (h : B k = false) : hc_pc B k = false := by unfold hc_pc; rw [h]; rfl
theorem hc_pc_f2 {B : Nat → Bool} {k : Nat} (h : ¬ k % hc_bs (hc_lv B k) = 0) : hc_pc B k = false := by
  unfold hc_pc; rw [decide_eq_false h]; cases B k <;> rfl
theorem hc_pc_t {B : Nat → Bool} {k : Nat} (h : B k = true) (h2 : k % hc_bs (hc_lv B k) = 0) : hc_pc B k = true := by
  unfold hc_pc; rw [h, decide_eq_true h2]; rfl
/-- no whole run goes across the place just before a -/
def hc_Bd (B : Nat → Bool) (a : Nat) : Prop := ∀ l, l < 5 → a % hc_bs l ≠ 0 → hc_wh B l (a / hc_bs l) = false
theorem hc_dv {a l : Nat} (h : a % hc_bs l ≠ 0) : (a - 1) / hc_bs l = a / hc_bs l := by
  rcases hc_bs_v l with e | e | e | e | e <;> rw [e] at h ⊢ <;> omega
theorem hc_bd0 {n : Nat} {F L : Nat → Nat} {B : Nat → Bool} (S : hc_Set n F L B 256) {i : Nat} (hi : i < n) : hc_Bd B (F i) := by
  intro l _ hm
  have h1 := S.1 i hi
  have h0 : 0 < F i := by
    apply Nat.pos_of_ne_zero
    intro z
    rw [z, Nat.zero_mod] at hm
    exact hm rfl
  exact hc_wh_f (x := F i - 1) (by omega) (hc_dv hm) (hc_gap S hi h0)
/-- what the greedy search finds at a with the bound b -/
def hc_La (a b l : Nat) : Prop := l ≤ 4 ∧ a % hc_bs l = 0 ∧ a + hc_bs l ≤ b + 1 ∧ (0 < l → ¬ (a % hc_bs (l - 1) = 0 ∧ a + hc_bs (l - 1) ≤ b + 1))
theorem hc_l5 {l : Nat} (h : l ≤ 4) : l = 0 ∨ l = 1 ∨ l = 2 ∨ l = 3 ∨ l = 4 := by omega
theorem hc_num1 {l j a b : Nat} (hl : l ≤ 4) (hj : j < l) (h0 : a % hc_bs j = 0) (hL : ¬ (a % hc_bs (l - 1) = 0 ∧ a + hc_bs (l - 1) ≤ b + 1)) (hab : a ≤ b) (hb : b < 256) : b + 1 < 256 ∧ (b + 1) / hc_bs j = a / hc_bs j := by
  rcases hc_l5 hl with rfl | rfl | rfl | rfl | rfl <;> rcases hc_l5 (l := j) (by omega) with rfl | rfl | rfl | rfl | rfl <;> simp only [hc_bs] at * <;> omega
theorem hc_num2 {l j a x : Nat} (hl : l ≤ 4) (hj : j ≤ l) (h0 : a % hc_bs l = 0) (h1 : a ≤ x) (h2 : x < a + hc_bs l) : x / hc_bs j = a / hc_bs j := by
  rcases hc_l5 hl with rfl | rfl | rfl | rfl | rfl <;> rcases hc_l5 (l := j) (by omega) with rfl | rfl | rfl | rfl | rfl <;> simp only [hc_bs] at * <;> omega
theorem hc_num3 {l j a : Nat} (hl : l ≤ 4) (hj : j ≤ 4) (h0 : a % hc_bs l = 0) (h1 : (a + hc_bs l) % hc_bs j ≠ 0) : j < l ∧ (a + hc_bs l) / hc_bs j = a / hc_bs j := by
  rcases hc_l5 hl with rfl | rfl | rfl | rfl | rfl <;> rcases hc_l5 hj with rfl | rfl | rfl | rfl | rfl <;> simp only [hc_bs] at * <;> omega
theorem hc_num4 {l a x : Nat} (h0 : a % hc_bs l = 0) (h1 : a < x) (h2 : x < a + hc_bs l) : ¬ x % hc_bs l = 0 := by
  rcases hc_bs_v l with e | e | e | e | e <;> rw [e] at h0 h2 ⊢ <;> omega
theorem hc_num6 {l a x : Nat} (h0 : a % hc_bs l = 0) (hb : x / hc_bs l = a / hc_bs l) : a ≤ x ∧ x < a + hc_bs l := by
  rcases hc_bs_v l with e | e | e | e | e <;> rw [e] at h0 hb ⊢ <;> omega
theorem hc_nxf {n : Nat} {F L : Nat → Nat} {B : Nat → Bool} (S : hc_Set n F L B 256) {i : Nat} (hi : i < n) (h : L i + 1 < 256) : B (L i + 1) = false := by
  by_cases h1 : i + 1 < n
  · exact S.2.2.2.1 (i + 1) h1 (L i + 1) (Nat.le_refl _) (S.2.1 (i + 1) (by omega) h1)
  · obtain rfl : n = i + 1 := by omega
    exact S.2.2.2.2 (L i + 1) (Nat.le_refl _) h
theorem hc_greedy {n : Nat} {F L : Nat → Nat} {B : Nat → Bool} (S : hc_Set n F L B 256) {i a l : Nat} (hi : i < n) (h1 : F i ≤ a) (h2 : a ≤ L i) (hB : hc_Bd B a) (hl : hc_La a (L i) l) : hc_lv B a = l ∧ hc_pc B a = true ∧ (∀ x, a < x → x < a + hc_bs l → hc_pc B x = false) ∧ hc_Bd B (a + hc_bs l) := by
  obtain ⟨l4, lm, lb, ln⟩ := hl
  have hS := S.1 i hi
  have hno : ∀ j, j < l → hc_wh B j (a / hc_bs j) = false := by
    intro j hj
    by_cases h0 : a % hc_bs j = 0
    · have hn := hc_num1 l4 hj h0 (ln (by omega)) h2 hS.2.2
      exact hc_wh_f hn.1 hn.2 (hc_nxf S hi hn.1)
    · exact hB j (by omega) h0
  have hyes : hc_wh B l (a / hc_bs l) = true := by
    refine hc_wh_t (fun x hx hb => S.2.2.1 i hi x ?_ ?_)
    · have := hc_num6 lm hb; omega
    · have := hc_num6 lm hb; omega
  have hlv : ∀ x, a ≤ x → x < a + hc_bs l → hc_lv B x = l := by
    intro x ha hb
    refine hc_lv_of l4 (fun j hj => ?_) (fun _ => ?_)
    · rw [hc_num2 l4 (by omega) lm ha hb]
      exact hno j hj
    · rw [hc_num2 l4 (Nat.le_refl _) lm ha hb]
      exact hyes
  have hp := hc_bs_pos l
  have ha := hlv a (Nat.le_refl _) (by omega)
  refine ⟨ha, hc_pc_t (S.2.2.1 i hi a h1 h2) (by rw [ha]; exact lm), fun x hx hy => ?_, fun j hj hm => ?_⟩
  · refine hc_pc_f2 ?_
    rw [hlv x (by omega) hy]
    exact hc_num4 lm hx hy
  · have h3 := hc_num3 l4 (by omega) lm hm
    rw [h3.2]
    exact hno j h3.1
theorem hc_pc_step {B : Nat → Bool} {a d : Nat} (hd : 0 < d) (h : hc_pc B a = true) (h2 : ∀ x, a < x → x < a + d → hc_pc B x = false) : hc_cn (hc_pc B) (a + d) = hc_cn (hc_pc B) a + 1 := by
  rw [hc_cn_F2 (a := a + 1) (by omega) (fun x h3 h4 => h2 x (by omega) h4), hc_cn_t h]
/-- is a run of level l met by the set? -/
def hc_tb (B : Nat → Bool) (l b : Nat) : Bool := !(hc_wh (fun x => !(B x)) l b)
theorem hc_tb_t {B : Nat → Bool} {l b x : Nat} (hx : x < 256) (hb : x / hc_bs l = b) (h : B x = true) : hc_tb B l b = true := by
  unfold hc_tb
  rw [hc_wh_f (B := fun x => !(B x)) hx hb (by show (!(B x)) = false; rw [h]; rfl)]
  rfl
theorem hc_tb_f {B : Nat → Bool} {l b : Nat} (h : ∀ x, x < 256 → x / hc_bs l = b → B x = false) : hc_tb B l b = false := by
  unfold hc_tb
  rw [hc_wh_t (B := fun x => !(B x)) (fun x hx hb => by show (!(B x)) = true; rw [h x hx hb]; rfl)]
  rfl
/-- one past the last run that the first i stretches meet -/
def hc_bf (L : Nat → Nat) (l i : Nat) : Nat := match i with
  | 0 => 0
  | i + 1 => L i / hc_bs l + 1
theorem hc_bf_le {n : Nat} {F L : Nat → Nat} {B : Nat → Bool} (S : hc_Set n F L B 256) {i l : Nat} (hi : i < n) : hc_bf L l i ≤ F i / hc_bs l + 1 := by
  cases i with
  | zero => exact Nat.zero_le _
  | succ i =>
    have h : L i + 1 ≤ F (i + 1) := (S.1 (i + 1) hi).1
    exact Nat.add_le_add_right (Nat.div_le_div_right (by omega)) 1
theorem hc_bf_x {L : Nat → Nat} {l i x : Nat} (h : hc_bf L l i ≤ x / hc_bs l) : hc_e L i ≤ x := by
  cases i with
  | zero => exact Nat.zero_le _
  | succ i =>
    have h : L i / hc_bs l + 1 ≤ x / hc_bs l := h
    show L i + 1 ≤ x
    apply Nat.lt_of_not_le
    intro z
    have := Nat.div_le_div_right (c := hc_bs l) z
    omega
theorem hc_num5 {b l f t : Nat} (h1 : f / hc_bs l ≤ b) (h2 : b ≤ t / hc_bs l) (h : f ≤ t) : ∃ x, f ≤ x ∧ x ≤ t ∧ x / hc_bs l = b := by
  by_cases hf : f / hc_bs l = b
  · exact ⟨f, Nat.le_refl _, h, hf⟩
  · refine ⟨b * hc_bs l, ?_, ?_, Nat.mul_div_cancel _ (hc_bs_pos l)⟩
    · apply Nat.le_of_lt
      rw [← Nat.div_lt_iff_lt_mul (hc_bs_pos l)]
      omega
    · rw [← Nat.le_div_iff_mul_le (hc_bs_pos l)]
      exact h2
theorem hc_tb_step {n : Nat} {F L : Nat → Nat} {B : Nat → Bool} (S : hc_Set n F L B 256) {i l f : Nat} (hi : i < n) (hf1 : F i / hc_bs l ≤ f) (hf2 : hc_bf L l i ≤ f) (hf3 : f = F i / hc_bs l ∨ f = hc_bf L l i) (hf4 : f ≤ L i / hc_bs l + 1) : hc_cn (hc_tb B l) (L i / hc_bs l + 1) = hc_cn (hc_tb B l) (hc_bf L l i) + (L i / hc_bs l + 1 - f) := by
  have hS := S.1 i hi
  rw [hc_cn_T2 hf4 (fun b h1 h2 => ?_), hc_cn_F2 hf2 (fun b h1 h2 => ?_)]
  · refine hc_tb_f (fun x hx hb => S.2.2.2.1 i hi x (hc_bf_x (l := l) (by omega)) ?_)
    apply Nat.lt_of_not_le
    intro z
    have := Nat.div_le_div_right (c := hc_bs l) z
    omega
  · obtain ⟨x, hx1, hx2, hx3⟩ := hc_num5 (b := b) (l := l) (f := F i) (t := L i) (by omega) (by omega) hS.2.1
    exact hc_tb_t (by omega) hx3 (S.2.2.1 i hi x hx1 hx2)
theorem hc_tb_end {n : Nat} {F L : Nat → Nat} {B : Nat → Bool} (S : hc_Set n F L B 256) {l : Nat} (hl : l < 5) : hc_cn (hc_tb B l) (4 ^ l) = hc_cn (hc_tb B l) (hc_bf L l n) := by
  refine hc_cn_F2 ?_ (fun b h1 h2 => hc_tb_f (fun x hx hb => S.2.2.2.2 x (hc_bf_x (l := l) (by omega)) hx))
  cases n with
  | zero => exact Nat.zero_le _
  | succ n =>
    have h := (S.1 n (by omega)).2.2
    show L n / hc_bs l < 4 ^ l
    rw [Nat.div_lt_iff_lt_mul (hc_bs_pos l), hc_bs_pw l hl]
    exact h
end
section
theorem hk_ix (a s c : Nat) : nI a * nI s + nI c = nI (a * s + c) := by rw [pk_mul, nI_add]
theorem hk_256 (s c : Nat) : (256 : Int32) * nI s + nI c = nI (256 * s + c) := hk_ix 256 s c
theorem hk_40 (s c : Nat) : (40 : Int32) * nI s + nI c = nI (40 * s + c) := hk_ix 40 s c
theorem hk_16 (s c : Nat) : (16 : Int32) * nI s + nI c = nI (16 * s + c) := hk_ix 16 s c
theorem hk_40m (s : Nat) : (40 : Int32) * nI s = nI (40 * s) := pk_mul 40 s
theorem hk_sh {n : Nat} (h : n < 32768) : (nI n).toInt16.toInt32 = nI n :=
  lg_i2s_small (by rw [nI_toInt (by omega)]; omega) (by rw [nI_toInt (by omega)]; omega)
theorem hk_vs {n : Nat} (h : n < 32768) : vp_nar .short (nI n).toInt16.toInt32 = nI n := by rw [hk_sh h, vp_nar_short, hk_sh h]
theorem hk_vs1 {n : Nat} (h : n < 32768) : vp_nar .short (nI n) = nI n := by rw [vp_nar_short, hk_sh h]
theorem hk_by {n : Nat} (h : n < 128) : (nI n).toInt8.toInt32 = nI n :=
  lg_i2b_small (by rw [nI_toInt (by omega)]; omega) (by rw [nI_toInt (by omega)]; omega)
theorem hk_vb {n : Nat} (h : n < 128) : vp_nar .byte (nI n).toInt8.toInt32 = nI n := by rw [hk_by h, vp_nar_byte, hk_by h]
theorem hk_sub1 {a b : Nat} (h : b ≤ a + 1) : nI a - nI b + 1 = nI (a + 1 - b) := by
  rw [← pk_sub h, ← nI_1]
  grind
theorem hk_d16 {c : Nat} (h : c < 256) : nI c / 16 = nI (c / 16) := pk_div (d := 16) (by omega) (by decide) (by decide)
theorem hk_r16 {c : Nat} (h : c < 256) : nI c - nI c / 16 * 16 = nI (c % 16) := pk_rem (d := 16) (by omega) (by decide) (by decide)
theorem hk_20 : ¬ (2 : Int32) = 0 := by decide
theorem hk_10 : ¬ (1 : Int32) = 0 := by decide
theorem hk_01 : ¬ (0 : Int32) = 1 := by decide
theorem hk_30 : ¬ (3 : Int32) = 0 := by decide
theorem hk_03 : ¬ (0 : Int32) = 3 := by decide
theorem hk_13 : ¬ (1 : Int32) = 3 := by decide
theorem hk_23 : ¬ (2 : Int32) = 3 := by decide
theorem hk_160 : ¬ (16 : Int32) = 0 := by decide
theorem hk_x00 : ((3 : Int32) * 0) ^^^ 0 = 0 := by decide
theorem hk_x01 : ((3 : Int32) * 0) ^^^ 1 = 1 := by decide
theorem hk_x10 : ((3 : Int32) * 1) ^^^ 0 = 3 := by decide
theorem hk_x11 : ((3 : Int32) * 1) ^^^ 1 = 2 := by decide
/-- a step down the curve: the point in the next quarter, the number so far -/
def hx_p (p q w : Int32) : Int32 := if p &&& w = 0 then (if q &&& w = 0 then q else p) else (if q &&& w = 0 then 15 - q else p)
def hx_q (p q w : Int32) : Int32 := if p &&& w = 0 then (if q &&& w = 0 then p else q) else (if q &&& w = 0 then 15 - p else q)
def hx_n (p q m w : Int32) : Int32 := 4 * m + (if p &&& w = 0 then (if q &&& w = 0 then 0 else 1) else (if q &&& w = 0 then 3 else 2))
def hx_go : Nat → Int32 → Int32 → Int32 → Int32 → Int32
  | 0, _, _, m, _ => m
  | n + 1, p, q, m, w => hx_go n (hx_p p q w) (hx_q p q w) (hx_n p q m w) (w / 2)
theorem hx_tab : ∀ x, x < 16 → ∀ y, y < 16 → hx_go 4 (nI x) (nI y) 0 8 = nI (hc_H (16 * x + y)) := by decide +kernel
section
variable {post : Int32 → Prop} {mc cx cy : Int32} {ac af al amf aml : Nat → Int32}
theorem hx_step {n : Nat} {p q m w : Int32} (hw : ¬ w ≤ 0) (h : wX_numberOf_12 post mc cx cy ac af al amf aml n (hx_p p q w) (hx_q p q w) (hx_n p q m w) (w / 2)) : wX_numberOf_12 post mc cx cy ac af al amf aml (n + 1) p q m w := by
  unfold hx_p hx_q hx_n at h
  refine br_f hw ?_
  by_cases ha : p &&& w = 0
  · refine br_t ha ?_
    by_cases hb : q &&& w = 0
    · simp only [if_pos ha, if_pos hb] at h
      exact br_t hb (nm_r (congrArg (fun z => 4 * m + z) hk_x00) (br_f hk_01 (br_t rfl (br_t rfl ⟨hk_20, nm_e h⟩))))
    · simp only [if_pos ha, if_neg hb] at h
      exact br_f hb (nm_r (congrArg (fun z => 4 * m + z) hk_x01) (br_t rfl ⟨hk_20, nm_e h⟩))
  · refine br_f ha ?_
    by_cases hb : q &&& w = 0
    · simp only [if_neg ha, if_pos hb] at h
      exact br_t hb (nm_r (congrArg (fun z => 4 * m + z) hk_x10) (br_f hk_01 (br_f hk_10 (br_f hk_10 (nm_e ⟨hk_20, nm_e h⟩)))))
    · simp only [if_neg ha, if_neg hb] at h
      exact br_f hb (nm_r (congrArg (fun z => 4 * m + z) hk_x11) (br_t rfl ⟨hk_20, nm_e h⟩))
theorem hx_num {x y : Nat} (hx : x < 16) (hy : y < 16) (h : post (nI (hc_H (16 * x + y)))) : wpX_numberOf post (mc, cx, cy, ac, af, al, amf, aml) (nI x) (nI y) := by
  rw [← hx_tab x hx y hy] at h
  show ∃ n, wX_numberOf_12 post mc cx cy ac af al amf aml n (nI x) (nI y) 0 8
  exact ⟨5, hx_step (by decide) (hx_step (by decide) (hx_step (by decide) (hx_step (by decide) (br_t (by decide) h))))⟩
end
section
variable {post : Int32 → Prop} {an ap am at' : Nat → Int32}
theorem hy_step {n : Nat} {p q m w k : Int32} (hk : ¬ 4 ≤ k) (h : wY_numberOf_15 post an ap am at' n (hx_p p q w) (hx_q p q w) (hx_n p q m w) (w / 2) (k + 1)) : wY_numberOf_15 post an ap am at' (n + 1) p q m w k := by
  unfold hx_p hx_q hx_n at h
  refine br_f hk ?_
  by_cases ha : p &&& w = 0
  · refine br_t ha ?_
    by_cases hb : q &&& w = 0
    · simp only [if_pos ha, if_pos hb] at h
      exact br_t hb (br_t rfl (br_t rfl (nm_e (br_t rfl (br_f hk_03 ⟨hk_20, nm_e (nm_e h)⟩)))))
    · simp only [if_pos ha, if_neg hb] at h
      exact br_f hb (br_t rfl (br_f hk_10 (nm_e (br_f hk_10 (br_f hk_13 ⟨hk_20, nm_e (nm_e h)⟩)))))
  · refine br_f ha ?_
    by_cases hb : q &&& w = 0
    · simp only [if_neg ha, if_pos hb] at h
      exact br_t hb (br_f hk_10 (br_t rfl (nm_e (br_f hk_30 (br_t rfl (nm_e (nm_e ⟨hk_20, nm_e (nm_e h)⟩)))))))
    · simp only [if_neg ha, if_neg hb] at h
      exact br_f hb (br_f hk_10 (br_f hk_10 (nm_e (br_f hk_20 (br_f hk_23 ⟨hk_20, nm_e (nm_e h)⟩)))))
theorem hy_num {x y : Nat} (hx : x < 16) (hy : y < 16) (h : post (nI (hc_H (16 * x + y)))) : wpY_numberOf post (an, ap, am, at') (nI x) (nI y) := by
  have e : hx_go 4 (nI x) (nI y) 0 8 &&& 255 = nI (hc_H (16 * x + y)) := by
    have h1 := hc_H_lt (16 * x + y)
    rw [hx_tab x hx y hy, pk_andN (by omega) 8 (by decide), Nat.mod_eq_of_lt (by omega)]
  rw [← e] at h
  show ∃ n, wY_numberOf_15 post an ap am at' n (nI x) (nI y) 0 8 0
  exact ⟨5, hy_step (by decide) (hy_step (by decide) (hy_step (by decide) (hy_step (by decide) (br_t (by decide) h))))⟩
end
/-- a step up the curve -/
def hf_a (r : Int32) : Int32 := (r >>> ((1 : Int32) &&& 31)) &&& 1
def hf_b (r : Int32) : Int32 := (r ^^^ hf_a r) &&& 1
def hf_x (r w x y : Int32) : Int32 := (if hf_b r = 0 then (if hf_a r = 0 then y else (w - 1) - y) else x) + w * hf_a r
def hf_y (r w x y : Int32) : Int32 := (if hf_b r = 0 then (if hf_a r = 0 then x else (w - 1) - x) else y) + w * hf_b r
def hf_go : Nat → Int32 → Int32 → Int32 → Int32 → Int32 × Int32
  | 0, _, _, x, y => (x, y)
  | n + 1, r, w, x, y => hf_go n (r >>> ((2 : Int32) &&& 31)) (w * 2) (hf_x r w x y) (hf_y r w x y)
theorem hf_tab : ∀ n, n < 256 → 16 * (hf_go 4 (nI n) 1 0 0).1 + (hf_go 4 (nI n) 1 0 0).2 = nI (hc_P n) := by decide +kernel
section
variable {post : SX → Prop} {mc cx cy : Int32} {ac af al amf aml : Nat → Int32}
theorem hf_step {n : Nat} {r w x y : Int32} (hw : ¬ 16 ≤ w) (h : wX_find_14 post mc ac af al amf aml n (r >>> ((2 : Int32) &&& 31)) (w * 2) (hf_x r w x y) (hf_y r w x y)) : wX_find_14 post mc ac af al amf aml (n + 1) r w x y := by
  unfold hf_x hf_y at h
  refine br_f hw ?_
  refine nm_r (e' := hf_a r) rfl (nm_r (e' := hf_b r) rfl ?_)
  by_cases hb : hf_b r = 0
  · refine br_t hb ?_
    by_cases ha : hf_a r = 0
    · simp only [if_pos ha, if_pos hb] at h
      exact br_t ha (br_t ha (nm_e (nm_e (nm_e (nm_e h)))))
    · simp only [if_neg ha, if_pos hb] at h
      exact br_f ha (br_f ha (nm_e (nm_e (nm_e (nm_e h)))))
  · simp only [if_neg hb] at h
    exact br_f hb (nm_e (nm_e (nm_e (nm_e h))))
theorem hf_find {n : Nat} (hn : n < 256) (h : ∀ x y : Int32, 16 * x + y = nI (hc_P n) → post (mc, x, y, ac, af, al, amf, aml)) : wpX_find post (mc, cx, cy, ac, af, al, amf, aml) (nI n) := by
  have h' := h _ _ (hf_tab n hn)
  show ∃ k, wX_find_14 post mc ac af al amf aml k (nI n) 1 0 0
  exact ⟨5, hf_step (by decide) (hf_step (by decide) (hf_step (by decide) (hf_step (by decide) (br_t (by decide) h'))))⟩
end
/-- the reference's tables -/
theorem hy_init {post : SY → Prop} (hp : ∀ an ap : Nat → Int32, (∀ c, c < 256 → an c = nI (hc_H c)) → (∀ n, n < 256 → ap n = nI (hc_P n)) → post (an, ap, (fun _ => 0), (fun _ => 0))) : wpY_init post := by
  have key : ∀ (d c : Nat) (an ap : Nat → Int32), c + d = 256 → (∀ j, j < c → an j = nI (hc_H j)) → (∀ j, j < c → ap (hc_H j) = nI j) → wY_init_42 post (d + 1) (nI c) an ap (fun _ => 0) (fun _ => 0) := by
    intro d
    induction d with
    | zero =>
      intro c an ap hc h1 h2
      obtain rfl : c = 256 := by omega
      refine br_t (nI_le (a := 256) (b := 256) (by omega) (by decide)) (hp an ap h1 (fun n hn => ?_))
      have h3 := h2 (hc_P n) (hc_P_lt n)
      rw [hc_HP n hn] at h3
      exact h3
    | succ d ih =>
      intro c an ap hc h1 h2
      refine br_f (nI_ge (b := 256) (by omega) (by decide)) ⟨hk_160, hk_160, ?_⟩
      rw [hk_r16 (by omega), hk_d16 (by omega)]
      refine hy_num (by omega) (by omega) ?_
      rw [show 16 * (c / 16) + c % 16 = c by omega]
      have e1 : upd an (nI c).toNatClampNeg (nI (hc_H c)) = upd an c (nI (hc_H c)) := by rw [nI_clamp (by omega)]
      have e2 : upd an c (nI (hc_H c)) (nI c).toNatClampNeg = nI (hc_H c) := by rw [nI_clamp (by omega), pk_us]
      have h9 := hc_H_lt c
      have e3 : upd ap (upd an c (nI (hc_H c)) (nI c).toNatClampNeg).toNatClampNeg (nI c) = upd ap (hc_H c) (nI c) := by rw [e2, nI_clamp (by omega)]
      refine ⟨pk_in c 256 (by omega), nm_r e1 ⟨pk_in c 256 (by omega), pk_in (hc_H c) 256 h9 e2, nm_r e3 (nm_r (nI_1 c) ?_)⟩⟩
      refine ih (c + 1) _ _ (by omega) (fun j hj => ?_) (fun j hj => ?_)
      · by_cases e : j = c
        · rw [e, pk_us]
        · rw [pk_un e]
          exact h1 j (by omega)
      · by_cases e : j = c
        · rw [e, pk_us]
        · rw [pk_un (fun z => e (by rw [← hc_PH j (by omega), z, hc_PH c (by omega)]))]
          exact h2 j (by omega)
  exact ⟨257, key 256 0 (fun _ => 0) (fun _ => 0) (by omega) (fun j hj => absurd hj (by omega)) (fun j hj => absurd hj (by omega))⟩
end
section
/-- a boolean as an int -/
def hk_b (b : Bool) : Int32 := if b = true then 1 else 0
theorem hk_bt {b : Bool} (h : b = true) : hk_b b = 1 := if_pos h
theorem hk_bf {b : Bool} (h : b = false) : hk_b b = 0 := if_neg (by rw [h]; decide)
theorem hk_bt' {b : Bool} {x : Int32} (e : x = hk_b b) (h : b = true) : ¬ x = 0 := by rw [e, hk_bt h]; decide
theorem hk_bf' {b : Bool} {x : Int32} (e : x = hk_b b) (h : b = false) : x = 0 := by rw [e, hk_bf h]
theorem hk_bn (b : Bool) : vp_nar .boolean (hk_b b) = hk_b b := by cases b <;> rfl
theorem hk_sd : ∀ l, l < 5 → (16 : Int32) >>> (nI l &&& 31) = nI (hc_sd l) := by decide +kernel
theorem hk_sd7 : ∀ l, l < 5 → (16 : Int32) >>> ((nI l &&& 7) &&& 31) = nI (hc_sd l) := by decide +kernel
theorem hk_p7 : ∀ l, l < 5 → (1 : Int32) <<< ((nI l &&& 7) &&& 31) = nI (2 ^ l) := by decide +kernel
theorem hk_p : ∀ l, l < 5 → (1 : Int32) <<< (nI l &&& 31) = nI (2 ^ l) := by decide +kernel
theorem hk_p16 : ∀ l, l < 5 → 2 ^ l ≤ 16 := by decide +kernel
theorem hc_sd16 : ∀ l, l < 5 → hc_sd l ≤ 16 := by decide +kernel
theorem hk_dq {x d u : Nat} (hd : 0 < d) : x / d = u ↔ u * d ≤ x ∧ x < (u + 1) * d := by
  constructor
  · intro h
    exact ⟨(Nat.le_div_iff_mul_le hd).mp (by omega), (Nat.div_lt_iff_lt_mul hd).mp (by omega)⟩
  · intro h
    exact Nat.le_antisymm (Nat.lt_succ_iff.mp ((Nat.div_lt_iff_lt_mul hd).mpr h.2)) ((Nat.le_div_iff_mul_le hd).mpr h.1)
/-- the marks of set s -/
def hr_Y (s : Nat) (B : Nat → Bool) (am : Nat → Int32) : Prop := ∀ c, c < 256 → am (256 * s + c) = hk_b (B (hc_H c))
/-- the tables -/
def hr_N (an : Nat → Int32) : Prop := ∀ c, c < 256 → an c = nI (hc_H c)
def hr_P (ap : Nat → Int32) : Prop := ∀ n, n < 256 → ap n = nI (hc_P n)
def hr_T (D : Nat → Bool) (at' : Nat → Int32) : Prop := ∀ c, c < 256 → at' c = hk_b (D (hc_H c))
theorem hs_case (p : Int32) : (p < 0 ∨ 3 < p) ∨ ∃ s, s < 4 ∧ p = nI s := by
  by_cases h : p < 0
  · exact Or.inl (Or.inl h)
  · by_cases h3 : 3 < p
    · exact Or.inl (Or.inr h3)
    · obtain ⟨j, hj, e⟩ := nI_of2 (n := 3) (M := 3) (by decide) h (Int32.not_lt.mp h3)
      exact Or.inr ⟨j, by omega, e⟩
theorem hs_n0 {s : Nat} (h : s < 4) : ¬ nI s < 0 := nI_pos (by omega)
theorem hs_n3 {s : Nat} (h : s < 4) : ¬ 3 < nI s := nI_nlt (a := 3) (by omega) (by decide)
theorem hs_Xok {post : Int32 → Prop} {u : SX} {s : Nat} (h : s < 4) (hp : post 1) : wpX_isSet post u (nI s) := br_f (hs_n0 h) (br_f (hs_n3 h) hp)
theorem hs_Yok {post : Int32 → Prop} {u : SY} {s : Nat} (h : s < 4) (hp : post 1) : wpY_isSet post u (nI s) := br_f (hs_n0 h) (br_f (hs_n3 h) hp)
theorem hs_Xno {post : Int32 → Prop} {u : SX} {p : Int32} (h : p < 0 ∨ 3 < p) (hp : post 0) : wpX_isSet post u p := by
  by_cases h0 : p < 0
  · exact br_t h0 hp
  · exact br_f h0 (br_t (h.resolve_left h0) hp)
theorem hs_Yno {post : Int32 → Prop} {u : SY} {p : Int32} (h : p < 0 ∨ 3 < p) (hp : post 0) : wpY_isSet post u p := by
  by_cases h0 : p < 0
  · exact br_t h0 hp
  · exact br_f h0 (br_t (h.resolve_left h0) hp)
theorem hs_cell (p q : Int32) : (p < 0 ∨ 15 < p ∨ q < 0 ∨ 15 < q) ∨ ∃ x y, x < 16 ∧ y < 16 ∧ p = nI x ∧ q = nI y := by
  by_cases h : p < 0
  · exact Or.inl (Or.inl h)
  · by_cases h3 : 15 < p
    · exact Or.inl (Or.inr (Or.inl h3))
    · by_cases g : q < 0
      · exact Or.inl (Or.inr (Or.inr (Or.inl g)))
      · by_cases g3 : 15 < q
        · exact Or.inl (Or.inr (Or.inr (Or.inr g3)))
        · obtain ⟨x, hx, e⟩ := nI_of2 (n := 15) (M := 15) (by decide) h (Int32.not_lt.mp h3)
          obtain ⟨y, hy, e'⟩ := nI_of2 (n := 15) (M := 15) (by decide) g (Int32.not_lt.mp g3)
          exact Or.inr ⟨x, y, by omega, by omega, e, e'⟩
theorem hs_n15 {s : Nat} (h : s < 16) : ¬ 15 < nI s := nI_nlt (a := 15) (by omega) (by decide)
theorem hs_Xcok {post : Int32 → Prop} {u : SX} {x y : Nat} (hx : x < 16) (hy : y < 16) (hp : post 1) : wpX_isCell post u (nI x) (nI y) := br_f (nI_pos (by omega)) (br_f (hs_n15 hx) (br_f (nI_pos (by omega)) (br_f (hs_n15 hy) hp)))
theorem hs_Ycok {post : Int32 → Prop} {u : SY} {x y : Nat} (hx : x < 16) (hy : y < 16) (hp : post 1) : wpY_isCell post u (nI x) (nI y) := br_f (nI_pos (by omega)) (br_f (hs_n15 hx) (br_f (nI_pos (by omega)) (br_f (hs_n15 hy) hp)))
theorem hs_Xcno {post : Int32 → Prop} {u : SX} {p q : Int32} (h : p < 0 ∨ 15 < p ∨ q < 0 ∨ 15 < q) (hp : post 0) : wpX_isCell post u p q :=
  br_c (fun _ => hp) (fun h0 => br_c (fun _ => hp) (fun h1 => br_c (fun _ => hp) (fun h2 => br_c (fun _ => hp) (fun h3 => absurd h (fun z => z.elim h0 (fun z => z.elim h1 (fun z => z.elim h2 h3)))))))
theorem hs_Ycno {post : Int32 → Prop} {u : SY} {p q : Int32} (h : p < 0 ∨ 15 < p ∨ q < 0 ∨ 15 < q) (hp : post 0) : wpY_isCell post u p q :=
  br_c (fun _ => hp) (fun h0 => br_c (fun _ => hp) (fun h1 => br_c (fun _ => hp) (fun h2 => br_c (fun _ => hp) (fun h3 => absurd h (fun z => z.elim h0 (fun z => z.elim h1 (fun z => z.elim h2 h3)))))))
section
variable {post : Int32 → Prop} {an ap am at' : Nat → Int32}
theorem hy_insq {c l u v : Nat} (hc : c < 256) (hl : l < 5) (hu : u < 2 ^ l) (hv : v < 2 ^ l) (ht : hc_H c / hc_bs l = hc_T l u v → post 1) (hf : ¬ hc_H c / hc_bs l = hc_T l u v → post 0) : wpY_inSquare post (an, ap, am, at') (nI c) (nI l) (nI u) (nI v) := by
  have q := hc_sq hl hc hu hv
  have hd := hc_sd_pos l
  rw [hk_dq hd, hk_dq hd] at q
  have b1 : (u + 1) * hc_sd l ≤ 16 := by
    rw [← hc_sd_pw l hl]; exact Nat.mul_le_mul_right _ hu
  have b2 : (v + 1) * hc_sd l ≤ 16 := by
    rw [← hc_sd_pw l hl]; exact Nat.mul_le_mul_right _ hv
  have b3 : u * hc_sd l ≤ 16 := Nat.le_trans (Nat.mul_le_mul_right _ (by omega)) b1
  have b4 : v * hc_sd l ≤ 16 := Nat.le_trans (Nat.mul_le_mul_right _ (by omega)) b2
  have e1 : nI u * nI (hc_sd l) = nI (u * hc_sd l) := pk_mul _ _
  have e2 : (nI u + 1) * nI (hc_sd l) = nI ((u + 1) * hc_sd l) := by rw [nI_1, pk_mul]
  have e3 : nI v * nI (hc_sd l) = nI (v * hc_sd l) := pk_mul _ _
  have e4 : (nI v + 1) * nI (hc_sd l) = nI ((v + 1) * hc_sd l) := by rw [nI_1, pk_mul]
  refine nm_r (hk_sd l hl) ⟨hk_160, pk_lt (c / 16) (u * hc_sd l) (fun h => hf (fun z => ?_)) (fun h1 => ⟨hk_160, pk_le ((u + 1) * hc_sd l) (c / 16) (fun h => hf (fun z => ?_)) (fun h2 => ⟨hk_160, pk_lt (c % 16) (v * hc_sd l) (fun h => hf (fun z => ?_)) (fun h3 => ⟨hk_160, pk_le ((v + 1) * hc_sd l) (c % 16) (fun h => hf (fun z => ?_)) (fun h4 => ht (q.mp ⟨⟨h1, h2⟩, h3, h4⟩)) e4 (hk_r16 hc)⟩) (hk_r16 hc) e3⟩) e2 (hk_d16 hc)⟩) (hk_d16 hc) e1⟩
  · have := q.mpr z; omega
  · have := q.mpr z; omega
  · have := q.mpr z; omega
  · have := q.mpr z; omega
/-- the count of runs -/
theorem hy_runs_l {D : Nat → Bool} (P : hr_P ap) (M : hr_T D at') (hp : post (nI (hc_cn (hc_rise D) 256))) : ∀ d k, k + d = 256 → wY_runs_4 post an ap am at' (d + 1) (nI (hc_cn (hc_rise D) k)) (nI k) := by
  have eT : ∀ k, k < 256 → at' (ap (nI k).toNatClampNeg).toNatClampNeg = hk_b (D k) := fun k hk => by
    have := hc_P_lt k
    rw [nI_clamp (by omega), P k hk, nI_clamp (by omega), M _ (hc_P_lt k), hc_HP k hk]
  have eP : ∀ k, k < 256 → ap (nI k).toNatClampNeg = nI (hc_P k) := fun k hk => by rw [nI_clamp (by omega), P k hk]
  intro d
  induction d with
  | zero =>
    intro k hk
    obtain rfl : k = 256 := by omega
    exact br_t (nI_le (a := 256) (b := 256) (by omega) (by decide)) hp
  | succ d ih =>
    intro k hk
    have ih1 := ih (k + 1) (by omega)
    refine br_f (nI_ge (b := 256) (by omega) (by decide)) ⟨pk_in k 256 (by omega), pk_in (hc_P k) 256 (hc_P_lt k) (eP k (by omega)), ?_⟩
    cases hD : D k with
    | false =>
      rw [hc_cn_f (hc_rise_f hD)] at ih1
      exact br_t (hk_bf' (eT k (by omega)) hD) (nm_r (nI_1 k) ih1)
    | true =>
      refine br_f (hk_bt' (eT k (by omega)) hD) ?_
      by_cases h0 : k = 0
      · rw [hc_cn_t (hc_rise_t hD (fun z => absurd z (by omega)))] at ih1
        exact br_t (by rw [h0]; rfl) (nm_r (nI_1 _) (nm_r (nI_1 k) ih1))
      · have e : nI k - 1 = nI (k - 1) := by
          obtain ⟨j, rfl⟩ : ∃ j, k = j + 1 := ⟨k - 1, by omega⟩
          exact nI_pred j
        refine br_f (nI_ne0 (by omega) (by omega)) ?_
        rw [e]
        refine ⟨pk_in (k - 1) 256 (by omega), pk_in (hc_P (k - 1)) 256 (hc_P_lt _) (eP (k - 1) (by omega)), ?_⟩
        cases hE : D (k - 1) with
        | false =>
          rw [hc_cn_t (hc_rise_t hD (fun _ => hE))] at ih1
          exact br_t (hk_bf' (eT (k - 1) (by omega)) hE) (nm_r (nI_1 _) (nm_r (nI_1 k) ih1))
        | true =>
          rw [hc_cn_f (hc_rise_f2 (by omega) hE)] at ih1
          exact br_f (hk_bt' (eT (k - 1) (by omega)) hE) (nm_r (nI_1 k) ih1)
theorem hy_runs {D : Nat → Bool} (P : hr_P ap) (M : hr_T D at') (hp : post (nI (hc_cn (hc_rise D) 256))) : wpY_runs post (an, ap, am, at') := by
  show ∃ n, wY_runs_4 post an ap am at' n 0 0
  exact ⟨257, hy_runs_l P M hp 256 0 (by omega)⟩
theorem hy_ix {s c : Nat} (hs : s < 4) (hc : c < 256) : (256 * nI s + nI c).toNatClampNeg = 256 * s + c := by rw [hk_256, nI_clamp (by omega)]
theorem hy_in {s c : Nat} (hs : s < 4) (hc : c < 256) : vp_in (256 * nI s + nI c) 1024 := pk_in (256 * s + c) 1024 (by omega) (hk_256 s c)
theorem hy_mk {s c : Nat} {B : Nat → Bool} (hs : s < 4) (hc : c < 256) (M : hr_Y s B am) : am (256 * nI s + nI c).toNatClampNeg = hk_b (B (hc_H c)) := by rw [hy_ix hs hc, M c hc]
theorem hy_cells_l {s : Nat} {B : Nat → Bool} (hs : s < 4) (M : hr_Y s B am) (hp : post (nI (hc_cn (fun c => B (hc_H c)) 256))) : ∀ d c, c + d = 256 → wY_cells_14 post (nI s) an ap am at' (d + 1) (nI (hc_cn (fun c => B (hc_H c)) c)) (nI c) := by
  intro d
  induction d with
  | zero =>
    intro k hk
    obtain rfl : k = 256 := by omega
    exact br_t (nI_le (a := 256) (b := 256) (by omega) (by decide)) hp
  | succ d ih =>
    intro c hc
    have ih1 := ih (c + 1) (by omega)
    refine br_f (nI_ge (b := 256) (by omega) (by decide)) ⟨hy_in hs (by omega), ?_⟩
    cases hD : B (hc_H c) with
    | false =>
      rw [hc_cn_f (p := fun c => B (hc_H c)) hD] at ih1
      exact br_t (hk_bf' (hy_mk hs (by omega) M) hD) (nm_r (nI_1 c) ih1)
    | true =>
      rw [hc_cn_t (p := fun c => B (hc_H c)) hD] at ih1
      exact br_f (hk_bt' (hy_mk hs (by omega) M) hD) (nm_r (nI_1 _) (nm_r (nI_1 c) ih1))
theorem hy_cells {s : Nat} {B : Nat → Bool} (hs : s < 4) (M : hr_Y s B am) (hp : post (nI (hc_cn B 256))) : wpY_cells post (an, ap, am, at') (nI s) := by
  unfold wpY_cells
  refine hs_Yok hs (br_f hk_10 ⟨257, ?_⟩)
  exact hy_cells_l hs M (by rw [hc_cn_perm hc_perm B]; exact hp) 256 0 (by omega)
end
end
section
section
variable {post : Int32 → SY → Prop} {an ap : Nat → Int32}
/-- other sets' marks stay -/
def hr_K (s : Nat) (am am' : Nat → Int32) : Prop := ∀ t, t < 4 → t ≠ s → ∀ c, c < 256 → am' (256 * t + c) = am (256 * t + c)
theorem hy_keep_l {s : Nat} {D : Nat → Bool} {am0 at' : Nat → Int32} (hs : s < 4) (M : hr_T D at') (hp : ∀ am, hr_Y s D am → hr_K s am0 am → post (nI (hc_cn D 256)) (an, ap, am, at')) : ∀ d c am, c + d = 256 → (∀ j, j < c → am (256 * s + j) = hk_b (D (hc_H j))) → hr_K s am0 am → wY_keep_14 post (nI s) (d + 1) (nI c) an ap am at' := by
  intro d
  induction d with
  | zero =>
    intro c am hc h1 h2
    obtain rfl : c = 256 := by omega
    exact br_t (nI_le (a := 256) (b := 256) (by omega) (by decide)) (hy_cells hs h1 (hp am h1 h2))
  | succ d ih =>
    intro c am hc h1 h2
    have e : upd am (256 * nI s + nI c).toNatClampNeg (vp_nar .boolean (at' (nI c).toNatClampNeg)) = upd am (256 * s + c) (hk_b (D (hc_H c))) := by
      rw [hy_ix hs (by omega), nI_clamp (by omega), M c (by omega), hk_bn]
    refine br_f (nI_ge (b := 256) (by omega) (by decide)) ⟨pk_in c 256 (by omega), hy_in hs (by omega), nm_r e (nm_r (nI_1 c) (ih (c + 1) _ (by omega) (fun j hj => ?_) (fun t ht hn j hj => ?_)))⟩
    · by_cases z : j = c
      · rw [z, pk_us]
      · rw [pk_un (by omega)]
        exact h1 j (by omega)
    · rw [pk_un (by omega)]
      exact h2 t ht hn j hj
theorem hy_keep {s : Nat} {D : Nat → Bool} {am at' : Nat → Int32} (hs : s < 4) (P : hr_P ap) (M : hr_T D at') (hfull : 40 < hc_cn (hc_rise D) 256 → post (-2) (an, ap, am, at')) (hp : hc_cn (hc_rise D) 256 ≤ 40 → ∀ am', hr_Y s D am' → hr_K s am am' → post (nI (hc_cn D 256)) (an, ap, am', at')) : wpY_keep post (an, ap, am, at') (nI s) := by
  unfold wpY_keep
  have hb := hc_cn_le (hc_rise D) 256
  refine hy_runs P M (pk_le (hc_cn (hc_rise D) 256) 40 (fun h => ⟨257, ?_⟩) (fun h => hfull h))
  exact hy_keep_l hs M (hp h) 256 0 am (by omega) (fun j hj => absurd hj (by omega)) (fun _ _ _ _ _ => rfl)
/-- the cells of a square are set to x, the others as they were -/
def hc_ch (B : Nat → Bool) (l b : Nat) (x : Bool) : Nat → Bool := fun n => if n / hc_bs l = b then x else B n
theorem hy_change_l {s l u v : Nat} {B : Nat → Bool} {x : Bool} {am : Nat → Int32} (hs : s < 4) (hl : l < 5) (hu : u < 2 ^ l) (hv : v < 2 ^ l) (M : hr_Y s B am) (hp : ∀ at', hr_T (hc_ch B l (hc_T l u v) x) at' → wpY_keep post (an, ap, am, at') (nI s)) : ∀ d c at', c + d = 256 → (∀ j, j < c → at' j = hk_b (hc_ch B l (hc_T l u v) x (hc_H j))) → wY_change_69 post (nI s) (hk_b x) (nI l) (nI u) (nI v) (d + 1) (nI c) an ap am at' := by
  intro d
  induction d with
  | zero =>
    intro c at' hc h1
    obtain rfl : c = 256 := by omega
    exact br_t (nI_le (a := 256) (b := 256) (by omega) (by decide)) (hp at' h1)
  | succ d ih =>
    intro c at' hc h1
    have K : ∀ y : Int32, y = hk_b (hc_ch B l (hc_T l u v) x (hc_H c)) → wY_change_69 post (nI s) (hk_b x) (nI l) (nI u) (nI v) (d + 1) (nI (c + 1)) an ap am (upd at' c y) := by
      intro y ey
      refine ih (c + 1) _ (by omega) (fun j hj => ?_)
      by_cases z : j = c
      · rw [z, pk_us, ey]
      · rw [pk_un z]
        exact h1 j (by omega)
    refine br_f (nI_ge (b := 256) (by omega) (by decide)) (hy_insq (by omega) hl hu hv (fun h => br_f hk_10 ?_) (fun h => br_t rfl ?_))
    · have e : upd at' (nI c).toNatClampNeg (vp_nar .boolean (hk_b x)) = upd at' c (hk_b x) := by rw [nI_clamp (by omega), hk_bn]
      exact ⟨pk_in c 256 (by omega), nm_r e (nm_r (nI_1 c) (K _ (by unfold hc_ch; rw [if_pos h])))⟩
    · have e : upd at' (nI c).toNatClampNeg (vp_nar .boolean (am (256 * nI s + nI c).toNatClampNeg)) = upd at' c (hk_b (B (hc_H c))) := by rw [nI_clamp (by omega), hy_mk hs (by omega) M, hk_bn]
      exact ⟨hy_in hs (by omega), pk_in c 256 (by omega), nm_r e (nm_r (nI_1 c) (K _ (by unfold hc_ch; rw [if_neg h])))⟩
/-- a square's code that names a square -/
def hg_ok (q : Nat) : Prop := q / 1024 < 5 ∧ q / 32 % 32 < 2 ^ (q / 1024) ∧ q % 32 < 2 ^ (q / 1024)
theorem hy_change {p0 p1 p2 : Int32} {am at' : Nat → Int32} (h1 : (p0 < 0 ∨ 3 < p0) ∨ p1 < 0 → post (-1) (an, ap, am, at')) (h2 : ∀ q, q < 2 ^ 31 → p1 = nI q → ¬ hg_ok q → post (-1) (an, ap, am, at')) (h3 : ∀ s q, s < 4 → p0 = nI s → q < 2 ^ 31 → p1 = nI q → hg_ok q → ∃ n, wY_change_69 post (nI s) p2 (nI (q / 1024)) (nI (q / 32 % 32)) (nI (q % 32)) n 0 an ap am at') : wpY_change post (an, ap, am, at') p0 p1 p2 := by
  unfold wpY_change
  by_cases hn : p1 < 0
  · rcases hs_case p0 with hb | ⟨s, hs, rfl⟩
    · exact ⟨by decide, nm_e ⟨by decide, by decide, nm_e ⟨by decide, nm_e (hs_Yno hb (br_t rfl (h1 (Or.inl hb))))⟩⟩⟩
    · exact ⟨by decide, nm_e ⟨by decide, by decide, nm_e ⟨by decide, nm_e (hs_Yok hs (br_f hk_10 (br_t hn (h1 (Or.inr hn)))))⟩⟩⟩
  · obtain ⟨q, hq, rfl⟩ := nI_of hn
    have e0 : nI q / 32 = nI (q / 32) := pk_div (d := 32) hq (by decide) (by decide)
    have e1 : nI q / 1024 = nI (q / 1024) := pk_div (d := 1024) hq (by decide) (by decide)
    have e2 : nI q / 32 - nI q / 32 / 32 * 32 = nI (q / 32 % 32) := by
      rw [e0]; exact pk_rem (d := 32) (by omega) (by decide) (by decide)
    have e3 : nI q - nI q / 32 * 32 = nI (q % 32) := pk_rem (d := 32) hq (by decide) (by decide)
    refine ⟨by decide, nm_r e1 ⟨by decide, by decide, nm_r e2 ⟨by decide, nm_r e3 ?_⟩⟩⟩
    rcases hs_case p0 with hb | ⟨s, hs, rfl⟩
    · exact hs_Yno hb (br_t rfl (h1 (Or.inl hb)))
    · refine hs_Yok hs (br_f hk_10 (br_f hn ?_))
      by_cases g1 : q / 1024 < 5
      · have hpw := hk_p16 _ g1
        rw [hk_p7 _ g1]
        refine br_f (nI_nlt (a := 4) (by omega) (by decide)) (pk_le (2 ^ (q / 1024)) (q / 32 % 32) (fun h => h2 q hq rfl (fun z => ?_)) (fun h => pk_lt (q % 32) (2 ^ (q / 1024)) (fun h' => h3 s q hs rfl hq rfl ⟨g1, h, h'⟩) (fun h' => h2 q hq rfl (fun z => ?_))))
        · have := z.2.1; omega
        · have := z.2.2; omega
      · exact br_t (nI_lt (a := 4) (by omega) (by omega)) (h2 q hq rfl (fun z => g1 z.1))
theorem hy_combine_l {d0 s t how : Nat} {A B : Nat → Bool} {am : Nat → Int32} (hs : s < 4) (ht : t < 4) (hh : how < 3) (MA : hr_Y s A am) (MB : hr_Y t B am) (hp : ∀ at', hr_T (fun x => hc_f how (A x) (B x)) at' → wpY_keep post (an, ap, am, at') (nI d0)) : ∀ d c at', c + d = 256 → (∀ j, j < c → at' j = hk_b (hc_f how (A (hc_H j)) (B (hc_H j)))) → wY_combine_39 post (nI d0) (nI how) (nI s) (nI t) (d + 1) (nI c) an ap am at' := by
  intro d
  induction d with
  | zero =>
    intro c at' hc h1
    obtain rfl : c = 256 := by omega
    exact br_t (nI_le (a := 256) (b := 256) (by omega) (by decide)) (hp at' h1)
  | succ d ih =>
    intro c at' hc h1
    have K : ∀ y : Bool, y = hc_f how (A (hc_H c)) (B (hc_H c)) → (vp_in (nI c) 256 ∧ ∀ a, a = upd at' (nI c).toNatClampNeg (vp_nar .boolean (hk_b y)) → ∀ x, x = nI c + 1 → wY_combine_39 post (nI d0) (nI how) (nI s) (nI t) (d + 1) x an ap am a) := by
      intro y ey
      have e : upd at' (nI c).toNatClampNeg (vp_nar .boolean (hk_b y)) = upd at' c (hk_b y) := by rw [nI_clamp (by omega), hk_bn]
      refine ⟨pk_in c 256 (by omega), nm_r e (nm_r (nI_1 c) (ih (c + 1) _ (by omega) (fun j hj => ?_)))⟩
      by_cases z : j = c
      · rw [z, pk_us, ey]
      · rw [pk_un z]
        exact h1 j (by omega)
    refine br_f (nI_ge (b := 256) (by omega) (by decide)) ⟨hy_in hs (by omega), nm_r (hy_mk hs (by omega) MA) ⟨hy_in ht (by omega), nm_r (hy_mk ht (by omega) MB) ?_⟩⟩
    have h3 : how = 0 ∨ how = 1 ∨ how = 2 := by omega
    cases hA : A (hc_H c) <;> cases hB : B (hc_H c) <;> rw [hA, hB] at K <;> rcases h3 with rfl | rfl | rfl
    · exact br_t rfl (br_t rfl (K false rfl))
    · exact br_f hk_10 (br_t rfl (br_t rfl (br_t rfl (K false rfl))))
    · exact br_f hk_20 (br_f (by decide) (br_t rfl (K false rfl)))
    · exact br_t rfl (br_t rfl (K false rfl))
    · exact br_f hk_10 (br_t rfl (br_t rfl (br_f hk_10 (K true rfl))))
    · exact br_f hk_20 (br_f (by decide) (br_t rfl (K false rfl)))
    · exact br_t rfl (br_f hk_10 (br_t rfl (K false rfl)))
    · exact br_f hk_10 (br_t rfl (br_f hk_10 (K true rfl)))
    · exact br_f hk_20 (br_f (by decide) (br_f hk_10 (br_t rfl (K true rfl))))
    · exact br_t rfl (br_f hk_10 (br_f hk_10 (K true rfl)))
    · exact br_f hk_10 (br_t rfl (br_f hk_10 (K true rfl)))
    · exact br_f hk_20 (br_f (by decide) (br_f hk_10 (br_f hk_10 (K false rfl))))
theorem hy_stretches_l {s : Nat} {B : Nat → Bool} {am : Nat → Int32} (hs : s < 4) (P : hr_P ap) (M : hr_Y s B am) (hp : ∀ at', post (nI (hc_cn (hc_rise B) 256)) (an, ap, am, at')) : ∀ d c at', c + d = 256 → (∀ j, j < c → at' j = hk_b (B (hc_H j))) → wY_stretches_12 post (nI s) (d + 1) (nI c) an ap am at' := by
  intro d
  induction d with
  | zero =>
    intro c at' hc h1
    obtain rfl : c = 256 := by omega
    exact br_t (nI_le (a := 256) (b := 256) (by omega) (by decide)) (hy_runs P h1 (hp at'))
  | succ d ih =>
    intro c at' hc h1
    have e : upd at' (nI c).toNatClampNeg (vp_nar .boolean (am (256 * nI s + nI c).toNatClampNeg)) = upd at' c (hk_b (B (hc_H c))) := by rw [nI_clamp (by omega), hy_mk hs (by omega) M, hk_bn]
    refine br_f (nI_ge (b := 256) (by omega) (by decide)) ⟨hy_in hs (by omega), pk_in c 256 (by omega), nm_r e (nm_r (nI_1 c) (ih (c + 1) _ (by omega) (fun j hj => ?_)))⟩
    by_cases z : j = c
    · rw [z, pk_us]
    · rw [pk_un z]
      exact h1 j (by omega)
end
end
section
section
variable {post : Int32 → Prop} {an ap am at' : Nat → Int32}
theorem hy_whole_l {s l u v : Nat} {B : Nat → Bool} (hs : s < 4) (hl : l < 5) (hu : u < 2 ^ l) (hv : v < 2 ^ l) (M : hr_Y s B am) (ht : hc_wh B l (hc_T l u v) = true → post 1) (hf : hc_wh B l (hc_T l u v) = false → post 0) : ∀ d c, c + d = 256 → (∀ j, j < c → hc_H j / hc_bs l = hc_T l u v → B (hc_H j) = true) → wY_whole_3 post (nI s) (nI l) (nI u) (nI v) an ap am at' (d + 1) (nI c) := by
  intro d
  induction d with
  | zero =>
    intro c hc h1
    obtain rfl : c = 256 := by omega
    refine br_t (nI_le (a := 256) (b := 256) (by omega) (by decide)) (ht (hc_wh_t (fun x hx hb => ?_)))
    have h := h1 (hc_P x) (hc_P_lt x)
    rw [hc_HP x hx] at h
    exact h hb
  | succ d ih =>
    intro c hc h1
    refine br_f (nI_ge (b := 256) (by omega) (by decide)) (hy_insq (by omega) hl hu hv (fun h => br_f hk_10 ⟨hy_in hs (by omega), ?_⟩) (fun h => br_t rfl (nm_r (nI_1 c) (ih (c + 1) (by omega) (fun j hj hb => ?_)))))
    · cases hB : B (hc_H c) with
      | false => exact br_t (hk_bf' (hy_mk hs (by omega) M) hB) (hf (hc_wh_f (hc_H_lt c) h hB))
      | true =>
        refine br_f (hk_bt' (hy_mk hs (by omega) M) hB) (nm_r (nI_1 c) (ih (c + 1) (by omega) (fun j hj hb => ?_)))
        by_cases z : j = c
        · rw [z]; exact hB
        · exact h1 j (by omega) hb
    · by_cases z : j = c
      · rw [z] at hb; exact absurd hb h
      · exact h1 j (by omega) hb
theorem hy_whole {s l u v : Nat} {B : Nat → Bool} (hs : s < 4) (hl : l < 5) (hu : u < 2 ^ l) (hv : v < 2 ^ l) (M : hr_Y s B am) (ht : hc_wh B l (hc_T l u v) = true → post 1) (hf : hc_wh B l (hc_T l u v) = false → post 0) : wpY_whole post (an, ap, am, at') (nI s) (nI l) (nI u) (nI v) := by
  show ∃ n, wY_whole_3 post (nI s) (nI l) (nI u) (nI v) an ap am at' n 0
  exact ⟨257, hy_whole_l hs hl hu hv M ht hf 256 0 (by omega) (fun j hj => absurd hj (by omega))⟩
theorem hy_some_l {s l u v : Nat} {B : Nat → Bool} (hs : s < 4) (hl : l < 5) (hu : u < 2 ^ l) (hv : v < 2 ^ l) (M : hr_Y s B am) (ht : hc_tb B l (hc_T l u v) = true → post 1) (hf : hc_tb B l (hc_T l u v) = false → post 0) : ∀ d c, c + d = 256 → (∀ j, j < c → hc_H j / hc_bs l = hc_T l u v → B (hc_H j) = false) → wY_some_3 post (nI s) (nI l) (nI u) (nI v) an ap am at' (d + 1) (nI c) := by
  intro d
  induction d with
  | zero =>
    intro c hc h1
    obtain rfl : c = 256 := by omega
    refine br_t (nI_le (a := 256) (b := 256) (by omega) (by decide)) (hf (hc_tb_f (fun x hx hb => ?_)))
    have h := h1 (hc_P x) (hc_P_lt x)
    rw [hc_HP x hx] at h
    exact h hb
  | succ d ih =>
    intro c hc h1
    refine br_f (nI_ge (b := 256) (by omega) (by decide)) ⟨hy_in hs (by omega), ?_⟩
    cases hB : B (hc_H c) with
    | false =>
      refine br_t (hk_bf' (hy_mk hs (by omega) M) hB) (nm_r (nI_1 c) (ih (c + 1) (by omega) (fun j hj hb => ?_)))
      by_cases z : j = c
      · rw [z]; exact hB
      · exact h1 j (by omega) hb
    | true =>
      refine br_f (hk_bt' (hy_mk hs (by omega) M) hB) (hy_insq (by omega) hl hu hv (fun h => br_f hk_10 (ht (hc_tb_t (hc_H_lt c) h hB))) (fun h => br_t rfl (nm_r (nI_1 c) (ih (c + 1) (by omega) (fun j hj hb => ?_)))))
      by_cases z : j = c
      · rw [z] at hb; exact absurd hb h
      · exact h1 j (by omega) hb
theorem hy_some {s l u v : Nat} {B : Nat → Bool} (hs : s < 4) (hl : l < 5) (hu : u < 2 ^ l) (hv : v < 2 ^ l) (M : hr_Y s B am) (ht : hc_tb B l (hc_T l u v) = true → post 1) (hf : hc_tb B l (hc_T l u v) = false → post 0) : wpY_some post (an, ap, am, at') (nI s) (nI l) (nI u) (nI v) := by
  show ∃ n, wY_some_3 post (nI s) (nI l) (nI u) (nI v) an ap am at' n 0
  exact ⟨257, hy_some_l hs hl hu hv M ht hf 256 0 (by omega) (fun j hj => absurd hj (by omega))⟩
theorem hk_du {c l : Nat} (hc : c < 256) (hl : l < 5) : nI c / 16 / nI (hc_sd l) = nI (c / 16 / hc_sd l) := by
  have := hc_sd16 l hl
  rw [hk_d16 hc, pk_div (by omega) (hc_sd_pos l) (by omega)]
theorem hk_dv {c l : Nat} (hc : c < 256) (hl : l < 5) : (nI c - nI c / 16 * 16) / nI (hc_sd l) = nI (c % 16 / hc_sd l) := by
  have := hc_sd16 l hl
  rw [hk_r16 hc, pk_div (by omega) (hc_sd_pos l) (by omega)]
theorem hk_sdp {l : Nat} (hl : l < 5) : ¬ nI (hc_sd l) ≤ 0 := by
  have := hc_sd16 l hl
  exact nI_nle (hc_sd_pos l) (by omega)
theorem hk_sdn {l : Nat} (hl : l < 5) : ¬ nI (hc_sd l) = 0 := by
  have := hc_sd16 l hl
  exact nI_ne0 (hc_sd_pos l) (by omega)
theorem hy_level_l {s c : Nat} {B : Nat → Bool} (hs : s < 4) (hc : c < 256) (M : hr_Y s B am) (hp : post (nI (hc_lv B (hc_H c)))) : ∀ d l, l + d = 4 → (∀ j, j < l → hc_wh B j (hc_H c / hc_bs j) = false) → wY_levelAt_2 post (nI s) (nI c) an ap am at' (d + 1) (nI l) := by
  intro d
  induction d with
  | zero =>
    intro l hl h1
    obtain rfl : l = 4 := by omega
    rw [hc_lv_of (Nat.le_refl 4) h1 (fun z => absurd z (by omega))] at hp
    exact br_t (nI_le (a := 4) (b := 4) (by omega) (by decide)) hp
  | succ d ih =>
    intro l hl h1
    have hT := hc_T_of l (by omega) c hc
    refine br_f (nI_ge (b := 4) (by omega) (by decide)) (nm_r (hk_sd l (by omega)) (br_f (hk_sdp (by omega)) ⟨hk_160, hk_sdn (by omega), hk_160, hk_sdn (by omega), ?_⟩))
    rw [hk_du hc (by omega), hk_dv hc (by omega)]
    refine hy_whole hs (by omega) (hc_uv (by omega) (by omega)) (hc_uv (by omega) (by omega)) M (fun h => br_f hk_10 ?_) (fun h => br_t rfl (nm_r (nI_1 l) (ih (l + 1) (by omega) (fun j hj => ?_))))
    · rw [hT] at h
      rw [hc_lv_of (l := l) (by omega) h1 (fun _ => h)] at hp
      exact hp
    · rw [hT] at h
      by_cases z : j = l
      · rw [z]; exact h
      · exact h1 j (by omega)
theorem hy_level {s c : Nat} {B : Nat → Bool} (hs : s < 4) (hc : c < 256) (M : hr_Y s B am) (hp : post (nI (hc_lv B (hc_H c)))) : wpY_levelAt post (an, ap, am, at') (nI s) (nI c) := by
  show ∃ n, wY_levelAt_2 post (nI s) (nI c) an ap am at' n 0
  exact ⟨5, hy_level_l hs hc M hp 4 0 (by omega) (fun j hj => absurd hj (by omega))⟩
theorem hy_first_l {c l x0 : Nat} (hc : c < 256) (hl : l < 5) (N : hr_N an) (hx : x0 = hc_H c / hc_bs l * hc_bs l) (hp : post (nI x0)) : ∀ d b m, b + d = 256 → m < 256 → x0 ≤ m → (hc_P x0 < b → m = x0) → wY_firstNumber_16 post (nI c) (nI l) (nI (hc_sd l)) an ap am at' (d + 1) (nI m) (nI b) := by
  have hx1 : x0 ≤ hc_H c := by rw [hx]; exact Nat.div_mul_le_self _ _
  have hx2 : x0 / hc_bs l = hc_H c / hc_bs l := by rw [hx]; exact Nat.mul_div_cancel _ (hc_bs_pos l)
  have hx3 := hc_H_lt c
  have hx4 := hc_P_lt x0
  intro d
  induction d with
  | zero =>
    intro b m hb hm h1 h2
    obtain rfl : b = 256 := by omega
    rw [h2 (by omega)]
    exact br_t (nI_le (a := 256) (b := 256) (by omega) (by decide)) hp
  | succ d ih =>
    intro b m hb hm h1 h2
    have hT := hc_T_of l hl c hc
    have hH := hc_H_lt b
    have eN : an (nI b).toNatClampNeg = nI (hc_H b) := by rw [nI_clamp (by omega), N b (by omega)]
    refine br_f (nI_ge (b := 256) (by omega) (by decide)) (br_f (hk_sdp hl) ⟨hk_160, hk_sdn hl, hk_160, hk_sdn hl, ?_⟩)
    rw [hk_du hc hl, hk_dv hc hl]
    refine hy_insq (by omega) hl (hc_uv hl (by omega)) (hc_uv hl (by omega)) (fun h => br_f hk_10 ⟨pk_in b 256 (by omega), ?_⟩) (fun h => br_t rfl (nm_r (nI_1 b) (ih (b + 1) m (by omega) hm h1 (fun z => ?_))))
    · rw [hT] at h
      have hb0 : x0 ≤ hc_H b := by rw [hx, ← h]; exact Nat.div_mul_le_self _ _
      have hbe : hc_P x0 = b → hc_H b = x0 := fun z => by rw [← z, hc_HP x0 (by omega)]
      refine pk_le m (hc_H b) (fun hle => nm_r (nI_1 b) (ih (b + 1) m (by omega) hm h1 (fun z => ?_))) (fun hlt => ⟨pk_in b 256 (by omega), nm_r eN (nm_r (nI_1 b) (ih (b + 1) (hc_H b) (by omega) hH hb0 (fun z => ?_)))⟩) rfl eN
      · by_cases z1 : hc_P x0 = b
        · have := hbe z1; omega
        · exact h2 (by omega)
      · by_cases z1 : hc_P x0 = b
        · exact hbe z1
        · have := h2 (by omega); omega
    · rw [hT] at h
      refine h2 ?_
      have : hc_P x0 ≠ b := fun z => h (by rw [← z, hc_HP x0 (by omega), hx2])
      omega
theorem hy_first {c l x0 : Nat} (hc : c < 256) (hl : l < 5) (N : hr_N an) (hx : x0 = hc_H c / hc_bs l * hc_bs l) (hp : post (nI x0)) : wpY_firstNumber post (an, ap, am, at') (nI c) (nI l) := by
  have hx1 : x0 ≤ hc_H c := by rw [hx]; exact Nat.div_mul_le_self _ _
  have hx3 := hc_H_lt c
  refine nm_r (hk_sd7 l hl) ?_
  exact ⟨257, hy_first_l hc hl N hx hp 256 0 255 (by omega) (by omega) (by omega) (fun z => absurd z (by omega))⟩
theorem hk_fm {k l : Nat} : k / hc_bs l * hc_bs l = k ↔ k % hc_bs l = 0 := by
  have := Nat.div_add_mod' k (hc_bs l)
  omega
/-- asks whether a piece begins at k -/
theorem hy_pc {s k : Nat} {B : Nat → Bool} {Q : Int32 → Int32 → Prop} (hs : s < 4) (hk : k < 256) (N : hr_N an) (M : hr_Y s B am) (hB : B k = true) (ht : hc_pc B k = true → Q (nI k) (nI (hc_lv B k))) (hf : hc_pc B k = false → ∀ x, x < 256 → x ≠ k → Q (nI x) (nI (hc_lv B k))) : wpY_levelAt (fun r => vp_in (nI k) 256 ∧ wpY_firstNumber (fun r' => Q r' r) (an, ap, am, at') (nI (hc_P k)) r) (an, ap, am, at') (nI s) (nI (hc_P k)) := by
  refine hy_level hs (hc_P_lt k) M ?_
  rw [hc_HP k hk]
  refine ⟨pk_in k 256 hk, ?_⟩
  have hl := hc_lv_le B k
  refine hy_first (hc_P_lt k) (by omega) N rfl ?_
  rw [hc_HP k hk]
  by_cases h : k % hc_bs (hc_lv B k) = 0
  · rw [hk_fm.mpr h]
    exact ht (hc_pc_t hB h)
  · have h1 := Nat.div_mul_le_self k (hc_bs (hc_lv B k))
    exact hf (hc_pc_f2 h) _ (by omega) (fun z => h (hk_fm.mp z))
theorem hy_pl {s k : Nat} (hs : s < 4) (hk : k < 256) (P : hr_P ap) : ap (nI k).toNatClampNeg = nI (hc_P k) := by rw [nI_clamp (by omega), P k hk]
theorem hy_pieces_l {s : Nat} {B : Nat → Bool} (hs : s < 4) (N : hr_N an) (P : hr_P ap) (M : hr_Y s B am) (hp : post (nI (hc_cn (hc_pc B) 256))) : ∀ d k, k + d = 256 → wY_pieces_14 post (nI s) an ap am at' (d + 1) (nI (hc_cn (hc_pc B) k)) (nI k) := by
  intro d
  induction d with
  | zero =>
    intro k hk
    obtain rfl : k = 256 := by omega
    exact br_t (nI_le (a := 256) (b := 256) (by omega) (by decide)) hp
  | succ d ih =>
    intro k hk
    have ih1 := ih (k + 1) (by omega)
    have hk' : k < 256 := by omega
    refine br_f (nI_ge (b := 256) (by omega) (by decide)) ⟨pk_in k 256 (by omega), ?_⟩
    rw [hy_pl hs hk' P]
    refine ⟨hy_in hs (hc_P_lt k), ?_⟩
    have eM := hy_mk hs (hc_P_lt k) M
    rw [hc_HP k hk'] at eM
    cases hB : B k with
    | false =>
      rw [hc_cn_f (hc_pc_f hB)] at ih1
      exact br_t (hk_bf' eM hB) (nm_r (nI_1 k) ih1)
    | true =>
      refine br_f (hk_bt' eM hB) ⟨pk_in k 256 (by omega), ?_⟩
      refine hy_pc hs hk' N M hB (Q := fun r' r => (r' = nI k → (∀ x2, x2 = nI (hc_cn (hc_pc B) k) + 1 → ∀ x3, x3 = nI k + 1 → wY_pieces_14 post (nI s) an ap am at' (d + 1) x2 x3)) ∧ (¬ r' = nI k → ∀ x3, x3 = nI k + 1 → wY_pieces_14 post (nI s) an ap am at' (d + 1) (nI (hc_cn (hc_pc B) k)) x3)) (fun h => br_t rfl ?_) (fun h x hx hn => br_f (fun z => hn ((nI_eq (by omega) (by omega)).mp z)) ?_)
      · rw [hc_cn_t h] at ih1
        exact nm_r (nI_1 _) (nm_r (nI_1 k) ih1)
      · rw [hc_cn_f h] at ih1
        exact nm_r (nI_1 k) ih1
/-- the k-th piece -/
theorem hy_piece_l {s : Nat} {B : Nat → Bool} {v : Int32} (hs : s < 4) (N : hr_N an) (P : hr_P ap) (M : hr_Y s B am) (hp : ∀ x, x < 256 → hc_pc B x = true → nI (hc_cn (hc_pc B) x) = v → post (nI (256 * hc_lv B x + x))) (hn : (∀ x, x < 256 → hc_pc B x = true → ¬ nI (hc_cn (hc_pc B) x) = v) → post (-3)) : ∀ d k, k + d = 256 → (∀ x, x < k → hc_pc B x = true → ¬ nI (hc_cn (hc_pc B) x) = v) → wY_piece_15 post (nI s) v an ap am at' (d + 1) (nI (hc_cn (hc_pc B) k)) (nI k) := by
  intro d
  induction d with
  | zero =>
    intro k hk h1
    obtain rfl : k = 256 := by omega
    exact br_t (nI_le (a := 256) (b := 256) (by omega) (by decide)) (hn h1)
  | succ d ih =>
    intro k hk h1
    have ih1 := ih (k + 1) (by omega)
    have hk' : k < 256 := by omega
    have hs1 : (hc_pc B k = true → ¬ nI (hc_cn (hc_pc B) k) = v) → ∀ x, x < k + 1 → hc_pc B x = true → ¬ nI (hc_cn (hc_pc B) x) = v := by
      intro h x hx hb
      by_cases z : x = k
      · rw [z] at hb ⊢; exact h hb
      · exact h1 x (by omega) hb
    refine br_f (nI_ge (b := 256) (by omega) (by decide)) ⟨pk_in k 256 (by omega), ?_⟩
    rw [hy_pl hs hk' P]
    refine ⟨hy_in hs (hc_P_lt k), ?_⟩
    have eM := hy_mk hs (hc_P_lt k) M
    rw [hc_HP k hk'] at eM
    cases hB : B k with
    | false =>
      have h2 := hc_pc_f hB
      rw [hc_cn_f h2] at ih1
      exact br_t (hk_bf' eM hB) (nm_r (nI_1 k) (ih1 (hs1 (fun z => by rw [h2] at z; exact Bool.noConfusion z))))
    | true =>
      refine br_f (hk_bt' eM hB) ⟨pk_in k 256 (by omega), ?_⟩
      refine hy_pc hs hk' N M hB (Q := fun r' r => (r' = nI k → ((nI (hc_cn (hc_pc B) k) = v → post ((256 * r) + nI k)) ∧ (¬ nI (hc_cn (hc_pc B) k) = v → (∀ x2, x2 = nI (hc_cn (hc_pc B) k) + 1 → ∀ x3, x3 = nI k + 1 → wY_piece_15 post (nI s) v an ap am at' (d + 1) x2 x3)))) ∧ (¬ r' = nI k → ∀ x3, x3 = nI k + 1 → wY_piece_15 post (nI s) v an ap am at' (d + 1) (nI (hc_cn (hc_pc B) k)) x3)) (fun h => br_t rfl (br_c (fun z => ?_) (fun z => ?_))) (fun h x hx hn => br_f (fun z => hn ((nI_eq (by omega) (by omega)).mp z)) ?_)
      · rw [hk_256]
        exact hp k hk' h z
      · rw [hc_cn_t h] at ih1
        exact nm_r (nI_1 _) (nm_r (nI_1 k) (ih1 (hs1 (fun _ => z))))
      · rw [hc_cn_f h] at ih1
        exact nm_r (nI_1 k) (ih1 (hs1 (fun z => by rw [h] at z; exact Bool.noConfusion z)))
theorem hy_nth_l {s : Nat} {B : Nat → Bool} {v : Int32} (hs : s < 4) (P : hr_P ap) (M : hr_Y s B am) (hp : ∀ x, x < 256 → B x = true → nI (hc_cn B x) = v → post (nI (hc_P x))) (hn : (∀ x, x < 256 → B x = true → ¬ nI (hc_cn B x) = v) → post (-3)) : ∀ d k, k + d = 256 → (∀ x, x < k → B x = true → ¬ nI (hc_cn B x) = v) → wY_nth_15 post (nI s) v an ap am at' (d + 1) (nI (hc_cn B k)) (nI k) := by
  intro d
  induction d with
  | zero =>
    intro k hk h1
    obtain rfl : k = 256 := by omega
    exact br_t (nI_le (a := 256) (b := 256) (by omega) (by decide)) (hn h1)
  | succ d ih =>
    intro k hk h1
    have ih1 := ih (k + 1) (by omega)
    have hk' : k < 256 := by omega
    have hs1 : (B k = true → ¬ nI (hc_cn B k) = v) → ∀ x, x < k + 1 → B x = true → ¬ nI (hc_cn B x) = v := by
      intro h x hx hb
      by_cases z : x = k
      · rw [z] at hb ⊢; exact h hb
      · exact h1 x (by omega) hb
    refine br_f (nI_ge (b := 256) (by omega) (by decide)) ⟨pk_in k 256 (by omega), ?_⟩
    rw [hy_pl hs hk' P]
    refine ⟨hy_in hs (hc_P_lt k), ?_⟩
    have eM := hy_mk hs (hc_P_lt k) M
    rw [hc_HP k hk'] at eM
    cases hB : B k with
    | false =>
      rw [hc_cn_f hB] at ih1
      exact br_t (hk_bf' eM hB) (nm_r (nI_1 k) (ih1 (hs1 (fun z => by rw [hB] at z; exact Bool.noConfusion z))))
    | true =>
      refine br_f (hk_bt' eM hB) (br_c (fun z => ⟨pk_in k 256 (by omega), hp k hk' hB z⟩) (fun z => ?_))
      rw [hc_cn_t hB] at ih1
      exact nm_r (nI_1 _) (nm_r (nI_1 k) (ih1 (hs1 (fun _ => z))))
/-- squares of a level in the order of the reference -/
def hc_g (B : Nat → Bool) (l : Nat) : Nat → Bool := fun j => hc_tb B l (hc_T l (j / 2 ^ l) (j % 2 ^ l))
theorem hc_g_at {B : Nat → Bool} {l u v : Nat} (hv : v < 2 ^ l) : hc_g B l (u * 2 ^ l + v) = hc_tb B l (hc_T l u v) := by
  unfold hc_g
  rw [Nat.add_comm, Nat.add_mul_div_right _ _ (Nat.two_pow_pos l), Nat.div_eq_of_lt hv, Nat.zero_add, Nat.add_mul_mod_self_right, Nat.mod_eq_of_lt hv]
theorem hc_g_all (B : Nat → Bool) {l : Nat} (hl : l < 5) : hc_cn (hc_g B l) (4 ^ l) = hc_cn (hc_tb B l) (4 ^ l) := hc_cn_perm (hc_permT l hl) (hc_tb B l)
theorem hy_tou_v {J : Int32 → Int32 → Prop} {s l u : Nat} {B : Nat → Bool} (hs : s < 4) (hl : l < 5) (hu : u < 2 ^ l) (M : hr_Y s B am) (hp : J (nI (hc_cn (hc_g B l) ((u + 1) * 2 ^ l))) (nI (u + 1))) : ∀ d v, v + d = 2 ^ l → wY_touched_38 post J (nI s) (nI l) (nI (2 ^ l)) (nI u) an ap am at' (d + 1) (nI (hc_cn (hc_g B l) (u * 2 ^ l + v))) (nI v) := by
  have h16 := hk_p16 l hl
  intro d
  induction d with
  | zero =>
    intro v hv
    obtain rfl : v = 2 ^ l := by omega
    rw [show u * 2 ^ l + 2 ^ l = (u + 1) * 2 ^ l by rw [Nat.succ_mul]]
    exact br_t (nI_le (Nat.le_refl _) (by omega)) (nm_r (nI_1 u) hp)
  | succ d ih =>
    intro v hv
    have ih1 := ih (v + 1) (by omega)
    rw [← Nat.add_assoc] at ih1
    refine br_f (nI_ge (by omega) (by omega)) (hy_some hs hl hu (by omega) M (fun h => br_f hk_10 ?_) (fun h => br_t rfl ?_))
    · rw [hc_cn_t (by rw [hc_g_at (by omega)]; exact h)] at ih1
      exact nm_r (nI_1 _) (nm_r (nI_1 v) ih1)
    · rw [hc_cn_f (by rw [hc_g_at (by omega)]; exact h)] at ih1
      exact nm_r (nI_1 v) ih1
theorem hy_tou_u {s l : Nat} {B : Nat → Bool} (hs : s < 4) (hl : l < 5) (M : hr_Y s B am) (hp : post (nI (hc_cn (hc_tb B l) (4 ^ l)))) : ∀ d u, u + d = 2 ^ l → wY_touched_29 post (nI s) (nI l) (nI (2 ^ l)) an ap am at' (d + 1) (nI (hc_cn (hc_g B l) (u * 2 ^ l))) (nI u) := by
  have h16 := hk_p16 l hl
  intro d
  induction d with
  | zero =>
    intro u hu
    obtain rfl : u = 2 ^ l := by omega
    rw [show 2 ^ l * 2 ^ l = 4 ^ l by rw [← Nat.mul_pow], hc_g_all B hl]
    exact br_t (nI_le (Nat.le_refl _) (by omega)) hp
  | succ d ih =>
    intro u hu
    exact br_f (nI_ge (by omega) (by omega)) ⟨2 ^ l + 1, hy_tou_v hs hl (by omega) M (ih (u + 1) (by omega)) (2 ^ l) 0 (by omega)⟩
end
end
section
/-- set s as the component holds it -/
def hr_X (s C : Nat) (F L : Nat → Nat) (ac af al : Nat → Int32) : Prop := ac s = nI C ∧ C ≤ 40 ∧ (∀ i, i < C → af (40 * s + i) = nI (F i)) ∧ (∀ i, i < C → al (40 * s + i) = nI (L i))
theorem hk_bs4 : ∀ l, l < 4 → 4 * nI (hc_bs (l + 1)) = nI (hc_bs l) ∧ nI (hc_bs (l + 1)) * 4 = nI (hc_bs l) ∧ nI (hc_bs l) / 4 = nI (hc_bs (l + 1)) := by decide +kernel
theorem hk_bs1 : ∀ l, l < 4 → hc_bs (l + 1) < 256 ∧ 1 < hc_bs l ∧ hc_bs l ≤ 256 := by decide +kernel
section
variable {mc cx cy : Int32} {ac af al amf aml : Nat → Int32} {s C : Nat} {F L : Nat → Nat} {B : Nat → Bool}
theorem hx_end (hs : s < 5) (R : hr_X s C F L ac af al) : 40 * nI s + ac (nI s).toNatClampNeg = nI (40 * s + C) := by rw [nI_clamp (by omega), R.1, hk_40]
theorem hx_af (hs : s < 5) (R : hr_X s C F L ac af al) {i : Nat} (hi : i < C) : af (nI (40 * s + i)).toNatClampNeg = nI (F i) := by
  have := R.2.1
  rw [nI_clamp (by omega), R.2.2.1 i hi]
theorem hx_al (hs : s < 5) (R : hr_X s C F L ac af al) {i : Nat} (hi : i < C) : al (nI (40 * s + i)).toNatClampNeg = nI (L i) := by
  have := R.2.1
  rw [nI_clamp (by omega), R.2.2.2 i hi]
theorem hx_in (hs : s < 5) (R : hr_X s C F L ac af al) {i : Nat} (hi : i < C) : vp_in (nI (40 * s + i)) 200 := by
  have := R.2.1
  exact pk_in (40 * s + i) 200 (by omega)
theorem hx_cells_l {post : Int32 → Prop} (hs : s < 5) (R : hr_X s C F L ac af al) (S : hc_Set C F L B 256) (hp : post (nI (hc_cn B 256))) : ∀ d i, i + d = C → wX_cells_17 post (nI s) mc cx cy ac af al amf aml (d + 1) (nI (hc_cn B (hc_e L i))) (nI (40 * s + i)) := by
  have h40 := R.2.1
  have hE := hx_end hs R
  intro d
  induction d with
  | zero =>
    intro i hi
    obtain rfl : i = C := by omega
    rw [hc_cn_end S] at hp
    exact ⟨pk_in s 5 hs, br_t (by rw [hE]; exact nI_le (Nat.le_refl _) (by omega)) hp⟩
  | succ d ih =>
    intro i hi
    have hi' : i < C := by omega
    have hS := S.1 i hi'
    have e : nI (hc_cn B (hc_e L i)) + (al (nI (40 * s + i)).toNatClampNeg - af (nI (40 * s + i)).toNatClampNeg + 1) = nI (hc_cn B (hc_e L (i + 1))) := by
      rw [hx_al hs R hi', hx_af hs R hi', hk_sub1 (by omega), nI_add, hc_cn_nx S hi']
      exact congrArg nI (by omega)
    exact ⟨pk_in s 5 hs, br_f (by rw [hE]; exact nI_ge (by omega) (by omega)) ⟨hx_in hs R hi', hx_in hs R hi', nm_r e (nm_r (nI_1 _) (ih (i + 1) (by omega)))⟩⟩
theorem hx_cells {post : Int32 → Prop} (hs : s < 4) (R : hr_X s C F L ac af al) (S : hc_Set C F L B 256) (hp : post (nI (hc_cn B 256))) : wpX_cells post (mc, cx, cy, ac, af, al, amf, aml) (nI s) := by
  unfold wpX_cells
  exact hs_Xok hs (br_f hk_10 (nm_r (hk_40m s) ⟨C + 1, hx_cells_l (by omega) R S hp C 0 (by omega)⟩))
theorem hx_has_l {post : Int32 → Prop} {y : Nat} (hs : s < 5) (R : hr_X s C F L ac af al) (S : hc_Set C F L B 256) (hy : y < 256) (hp : post (hk_b (B y))) : ∀ n lo hi, lo ≤ hi → hi ≤ C → hi - lo < n → (∀ i, i < lo → L i < y) → (∀ i, hi ≤ i → i < C → y ≤ L i) → wX_has_44 post (nI s) (nI y) mc cx cy ac af al amf aml n (nI (40 * s + lo)) (nI (40 * s + hi)) := by
  have h40 := R.2.1
  have hE := hx_end hs R
  intro n
  induction n with
  | zero => exact fun lo hi _ _ h => absurd h (by omega)
  | succ n ih =>
    intro lo hi h1 h2 h3 hlo hhi
    refine pk_le (40 * s + hi) (40 * s + lo) (fun h => ?_) (fun h => ?_)
    · obtain rfl : lo = hi := by omega
      have he := hc_at S h2 hlo
      refine ⟨pk_in s 5 hs, pk_le (40 * s + C) (40 * s + lo) (fun h4 => ?_) (fun h4 => ?_) hE⟩
      · obtain rfl : lo = C := by omega
        rw [S.2.2.2.2 y he hy] at hp
        exact hp
      · have hl : lo < C := by omega
        have h5 := S.1 lo hl
        have h6 := hhi lo (Nat.le_refl _) hl
        refine ⟨hx_in hs R hl, pk_lt y (F lo) (fun h7 => ?_) (fun h7 => ?_) rfl (hx_af hs R hl)⟩
        · rw [S.2.2.2.1 lo hl y he h7] at hp
          exact hp
        · rw [S.2.2.1 lo hl y h7 h6] at hp
          exact hp
    · have e : (nI (40 * s + lo) + nI (40 * s + hi)) / 2 = nI (40 * s + (lo + hi) / 2) := by
        rw [nI_add]
        refine (pk_div (d := 2) (by omega) (by decide) (by decide)).trans (congrArg nI ?_)
        omega
      have hm : (lo + hi) / 2 < C := by omega
      have h5 := S.1 _ hm
      refine ⟨hk_20, nm_r e ⟨hx_in hs R hm, pk_le y (L ((lo + hi) / 2)) (fun h7 => ?_) (fun h7 => ?_) rfl (hx_al hs R hm)⟩⟩
      · refine ih lo ((lo + hi) / 2) (by omega) (by omega) (by omega) hlo (fun i ha hb => ?_)
        exact Nat.le_trans h7 (hc_L_mono S ha hb)
      · refine nm_r (nI_1 _) (ih ((lo + hi) / 2 + 1) hi (by omega) (by omega) (by omega) (fun i ha => ?_) hhi)
        exact Nat.lt_of_le_of_lt (hc_L_mono S (by omega) hm) h7
/-- the largest whole square at a -/
theorem hx_large_l {post : Int32 → Prop} {a b : Nat} (hab : a ≤ b) (hb : b < 256) (hp : ∀ l, hc_La a b l → post (nI (hc_bs l))) : ∀ l, l ≤ 4 → a % hc_bs l = 0 → a + hc_bs l ≤ b + 1 → wX_largestAt_2 post (nI a) (nI b) mc cx cy ac af al amf aml (l + 1) (nI (hc_bs l)) := by
  intro l
  induction l with
  | zero => exact fun h1 h2 h3 => br_t (nI_le (a := 256) (b := 256) (by omega) (by decide)) (hp 0 ⟨h1, h2, h3, fun z => absurd z (by omega)⟩)
  | succ l ih =>
    intro h1 h2 h3
    obtain ⟨e1, e2, _⟩ := hk_bs4 l (by omega)
    obtain ⟨g1, g2, g3⟩ := hk_bs1 l (by omega)
    have e4 : nI a + nI (hc_bs l) - 1 = nI (a + hc_bs l - 1) := by
      rw [nI_add]; exact pk_sub (b := 1) (by omega)
    refine br_f (nI_ge (b := 256) g1 (by decide)) ?_
    rw [e1, e2, pk_rem (by omega) (by omega) (by omega), e4]
    refine ⟨nI_ne0 (by omega) (by omega), pk_eq (a % hc_bs l) 0 (fun h4 => pk_lt b (a + hc_bs l - 1) (fun h5 => hp (l + 1) ⟨h1, h2, h3, fun _ z => ?_⟩) (fun h5 => nm_e (ih (by omega) h4 (by omega)))) (fun h4 => hp (l + 1) ⟨h1, h2, h3, fun _ z => h4 z.1⟩) rfl rfl ?_⟩
    · have := z.2
      show False
      rw [Nat.add_sub_cancel] at this
      omega
    · have := Nat.mod_le a (hc_bs l)
      omega
theorem hx_large {post : Int32 → Prop} {a b : Nat} (hab : a ≤ b) (hb : b < 256) (hp : ∀ l, hc_La a b l → post (nI (hc_bs l))) : wpX_largestAt post (mc, cx, cy, ac, af, al, amf, aml) (nI a) (nI b) := by
  show ∃ n, wX_largestAt_2 post (nI a) (nI b) mc cx cy ac af al amf aml n 1
  exact ⟨5, hx_large_l hab hb hp 4 (by omega) (Nat.mod_one a) (by show a + 1 ≤ b + 1; omega)⟩
theorem hx_level_l {post : Int32 → Prop} {l : Nat} (hp : post (nI l)) : ∀ k, k ≤ 4 → wX_levelOf_4 post mc cx cy ac af al amf aml (k + 1) (nI (l + k)) (nI (hc_bs (4 - k))) := by
  intro k
  induction k with
  | zero => exact fun _ => br_t (by decide) hp
  | succ k ih =>
    intro hk
    obtain ⟨_, _, e3⟩ := hk_bs4 (4 - (k + 1)) (by omega)
    obtain ⟨g1, g2, g3⟩ := hk_bs1 (4 - (k + 1)) (by omega)
    rw [show 4 - (k + 1) + 1 = 4 - k by omega] at e3
    exact br_f (nI_ge (a := 1) g2 (by omega)) ⟨by decide, nm_r e3 (nm_r (pk_m1 (l + k)) (ih (by omega)))⟩
theorem hx_level {post : Int32 → Prop} {l : Nat} (hl : l ≤ 4) (hp : post (nI l)) : wpX_levelOf post (mc, cx, cy, ac, af, al, amf, aml) (nI (hc_bs l)) := by
  show ∃ n, wX_levelOf_4 post mc cx cy ac af al amf aml n 4 (nI (hc_bs l))
  have h := hx_level_l (mc := mc) (cx := cx) (cy := cy) (ac := ac) (af := af) (al := al) (amf := amf) (aml := aml) hp (4 - l) (by omega)
  rw [show l + (4 - l) = 4 by omega, show 4 - (4 - l) = l by omega] at h
  exact ⟨_, h⟩
theorem hx_gap_pc (S : hc_Set C F L B 256) {i : Nat} (hi : i < C) : hc_cn (hc_pc B) (F i) = hc_cn (hc_pc B) (hc_e L i) :=
  hc_cn_F2 (S.1 i hi).1 (fun x h1 h2 => hc_pc_f (S.2.2.2.1 i hi x h1 h2))
theorem hx_end_pc (S : hc_Set C F L B 256) : hc_cn (hc_pc B) 256 = hc_cn (hc_pc B) (hc_e L C) :=
  hc_cn_F2 (hc_e_le S C (by omega)) (fun x h1 h2 => hc_pc_f (S.2.2.2.2 x h1 h2))
theorem hx_pieces_a {post : Int32 → Prop} {J : Int32 → Int32 → Prop} {i : Nat} (hs : s < 5) (R : hr_X s C F L ac af al) (S : hc_Set C F L B 256) (hi : i < C) (hJ : J (nI (hc_cn (hc_pc B) (L i + 1))) (nI (40 * s + i + 1))) : ∀ n a, F i ≤ a → a ≤ L i + 1 → L i + 1 - a < n → hc_Bd B a → wX_pieces_40 post J (nI s) (nI (40 * s + i)) mc cx cy ac af al amf aml n (nI (hc_cn (hc_pc B) a)) (nI a) := by
  have hS := S.1 i hi
  intro n
  induction n with
  | zero => exact fun a _ _ h => absurd h (by omega)
  | succ n ih =>
    intro a h1 h2 h3 hB
    refine ⟨hx_in hs R hi, pk_lt (L i) a (fun h => ?_) (fun h => ⟨hx_in hs R hi, ?_⟩) (hx_al hs R hi)⟩
    · obtain rfl : a = L i + 1 := by omega
      exact nm_r (nI_1 _) hJ
    · rw [hx_al hs R hi]
      refine hx_large h hS.2.2 (fun l hl => ?_)
      obtain ⟨g1, g2, g3, g4⟩ := hc_greedy S hi h1 h hB hl
      have g5 := hc_bs_pos l
      have g6 := hl.2.2.1
      have h4 := ih (a + hc_bs l) (by omega) (by omega) (by omega) g4
      rw [hc_pc_step g5 g2 g3] at h4
      exact nm_r (nI_add _ _) (nm_r (nI_1 _) h4)
theorem hx_pieces_l {post : Int32 → Prop} (hs : s < 5) (R : hr_X s C F L ac af al) (S : hc_Set C F L B 256) (hp : post (nI (hc_cn (hc_pc B) 256))) : ∀ d i, i + d = C → wX_pieces_17 post (nI s) mc cx cy ac af al amf aml (d + 1) (nI (hc_cn (hc_pc B) (hc_e L i))) (nI (40 * s + i)) := by
  have h40 := R.2.1
  have hE := hx_end hs R
  intro d
  induction d with
  | zero =>
    intro i hi
    obtain rfl : i = C := by omega
    rw [hx_end_pc S] at hp
    exact ⟨pk_in s 5 hs, br_t (by rw [hE]; exact nI_le (Nat.le_refl _) (by omega)) hp⟩
  | succ d ih =>
    intro i hi
    have hi' : i < C := by omega
    have hS := S.1 i hi'
    have h1 := hx_pieces_a (mc := mc) (cx := cx) (cy := cy) (amf := amf) (aml := aml) (post := post) (J := wX_pieces_17 post (nI s) mc cx cy ac af al amf aml (d + 1)) hs R S hi' (ih (i + 1) (by omega)) (L i + 1 - F i + 1) (F i) (Nat.le_refl _) (by omega) (by omega) (hc_bd0 S hi')
    rw [hx_gap_pc S hi'] at h1
    exact ⟨pk_in s 5 hs, br_f (by rw [hE]; exact nI_ge (by omega) (by omega)) ⟨hx_in hs R hi', nm_r (hx_af hs R hi') ⟨_, h1⟩⟩⟩
theorem hk_vs0 {v : Int32} {c : Nat} : v - nI c = 0 ↔ nI c = v := by
  constructor
  · intro h
    have : v = (v - nI c) + nI c := by rw [Int32.sub_add_cancel]
    rw [h, Int32.zero_add] at this
    exact this.symm
  · intro h
    rw [← h, Int32.sub_self]
theorem hk_vs1' (v : Int32) (c : Nat) : v - nI c + (-1) = v - nI (c + 1) := by
  rw [← nI_1]
  grind
/-- the v-th piece: found, or none -/
theorem hx_piece_a {post : Int32 → Prop} {J : Int32 → Int32 → Prop} {i : Nat} {v : Int32} (hs : s < 5) (R : hr_X s C F L ac af al) (S : hc_Set C F L B 256) (hi : i < C) (hp : ∀ x, x < 256 → hc_pc B x = true → nI (hc_cn (hc_pc B) x) = v → post (nI (256 * hc_lv B x + x))) (hJ : (∀ x, x < L i + 1 → hc_pc B x = true → ¬ nI (hc_cn (hc_pc B) x) = v) → J (v - nI (hc_cn (hc_pc B) (L i + 1))) (nI (40 * s + i + 1))) : ∀ n a, F i ≤ a → a ≤ L i + 1 → L i + 1 - a < n → hc_Bd B a → (∀ x, x < a → hc_pc B x = true → ¬ nI (hc_cn (hc_pc B) x) = v) → wX_piece_43 post J (nI s) (nI (40 * s + i)) mc cx cy ac af al amf aml n (v - nI (hc_cn (hc_pc B) a)) (nI a) := by
  have hS := S.1 i hi
  intro n
  induction n with
  | zero => exact fun a _ _ h => absurd h (by omega)
  | succ n ih =>
    intro a h1 h2 h3 hB hno
    refine ⟨hx_in hs R hi, pk_lt (L i) a (fun h => ?_) (fun h => ⟨hx_in hs R hi, ?_⟩) (hx_al hs R hi)⟩
    · obtain rfl : a = L i + 1 := by omega
      exact nm_r (nI_1 _) (hJ hno)
    · rw [hx_al hs R hi]
      refine hx_large h hS.2.2 (fun l hl => ?_)
      obtain ⟨g1, g2, g3, g4⟩ := hc_greedy S hi h1 h hB hl
      have g5 := hc_bs_pos l
      have g6 := hl.2.2.1
      refine ek_if hk_vs0 (fun hv => hx_level hl.1 ?_) (fun hv => ?_)
      · rw [hk_256, ← g1]
        exact hp a (by omega) g2 hv
      · have h4 := ih (a + hc_bs l) (by omega) (by omega) (by omega) g4 (fun x hx hb => by
          by_cases z : x < a
          · exact hno x z hb
          · by_cases z1 : x = a
            · rw [z1]; exact hv
            · rw [g3 x (by omega) hx] at hb
              exact Bool.noConfusion hb)
        rw [hc_pc_step g5 g2 g3] at h4
        exact nm_r (hk_vs1' _ _) (nm_r (nI_add _ _) h4)
theorem hx_piece_l {post : Int32 → Prop} {v : Int32} (hs : s < 5) (R : hr_X s C F L ac af al) (S : hc_Set C F L B 256) (hp : ∀ x, x < 256 → hc_pc B x = true → nI (hc_cn (hc_pc B) x) = v → post (nI (256 * hc_lv B x + x))) (hn : (∀ x, x < 256 → hc_pc B x = true → ¬ nI (hc_cn (hc_pc B) x) = v) → post (-3)) : ∀ d i, i + d = C → (∀ x, x < hc_e L i → hc_pc B x = true → ¬ nI (hc_cn (hc_pc B) x) = v) → wX_piece_18 post (nI s) mc cx cy ac af al amf aml (d + 1) (v - nI (hc_cn (hc_pc B) (hc_e L i))) (nI (40 * s + i)) := by
  have h40 := R.2.1
  have hE := hx_end hs R
  intro d
  induction d with
  | zero =>
    intro i hi hno
    obtain rfl : i = C := by omega
    refine ⟨pk_in s 5 hs, br_t (by rw [hE]; exact nI_le (Nat.le_refl _) (by omega)) (hn (fun x hx hb => ?_))⟩
    by_cases z : x < hc_e L i
    · exact hno x z hb
    · rw [hc_pc_f (S.2.2.2.2 x (by omega) hx)] at hb
      exact Bool.noConfusion hb
  | succ d ih =>
    intro i hi hno
    have hi' : i < C := by omega
    have hS := S.1 i hi'
    have h1 := hx_piece_a (mc := mc) (cx := cx) (cy := cy) (amf := amf) (aml := aml) (post := post) (J := wX_piece_18 post (nI s) mc cx cy ac af al amf aml (d + 1)) hs R S hi' hp (ih (i + 1) (by omega)) (L i + 1 - F i + 1) (F i) (Nat.le_refl _) (by omega) (by omega) (hc_bd0 S hi') (fun x hx hb => by
      by_cases z : x < hc_e L i
      · exact hno x z hb
      · rw [hc_pc_f (S.2.2.2.1 i hi' x (by omega) hx)] at hb
        exact Bool.noConfusion hb)
    rw [hx_gap_pc S hi'] at h1
    exact ⟨pk_in s 5 hs, br_f (by rw [hE]; exact nI_ge (by omega) (by omega)) ⟨hx_in hs R hi', nm_r (hx_af hs R hi') ⟨_, h1⟩⟩⟩
theorem hx_nth_l {post : Int32 → SX → Prop} {k : Nat} (hk : k < 2 ^ 31) (hs : s < 5) (R : hr_X s C F L ac af al) (S : hc_Set C F L B 256) (hp : ∀ x, x < 256 → B x = true → hc_cn B x = k → ∀ cx' cy', post (nI (hc_P x)) (mc, cx', cy', ac, af, al, amf, aml)) (hn : hc_cn B 256 ≤ k → post (-3) (mc, cx, cy, ac, af, al, amf, aml)) : ∀ d i, i + d = C → hc_cn B (hc_e L i) ≤ k → wX_nth_25 post (nI s) mc cx cy ac af al amf aml (d + 1) (nI (k - hc_cn B (hc_e L i))) (nI (40 * s + i)) := by
  have h40 := R.2.1
  have hE := hx_end hs R
  intro d
  induction d with
  | zero =>
    intro i hi hc
    obtain rfl : i = C := by omega
    rw [← hc_cn_end S] at hc
    exact ⟨pk_in s 5 hs, br_t (by rw [hE]; exact nI_le (Nat.le_refl _) (by omega)) (hn hc)⟩
  | succ d ih =>
    intro i hi hc
    have hi' : i < C := by omega
    have hS := S.1 i hi'
    have e : al (nI (40 * s + i)).toNatClampNeg - af (nI (40 * s + i)).toNatClampNeg + 1 = nI (L i + 1 - F i) := by
      rw [hx_al hs R hi', hx_af hs R hi', hk_sub1 (by omega)]
    have hx := hc_cn_nx S hi'
    have ih1 := ih (i + 1) (by omega)
    refine ⟨pk_in s 5 hs, br_f (by rw [hE]; exact nI_ge (by omega) (by omega)) ⟨hx_in hs R hi', hx_in hs R hi', nm_r e (pk_le (L i + 1 - F i) (k - hc_cn B (hc_e L i)) (fun h => ?_) (fun h => ⟨hx_in hs R hi', ?_⟩))⟩⟩
    · have e2 : nI (k - hc_cn B (hc_e L i)) - nI (L i + 1 - F i) = nI (k - hc_cn B (hc_e L (i + 1))) := by
        rw [pk_sub h]
        exact congrArg nI (by omega)
      exact nm_r e2 (nm_r (nI_1 _) (ih1 (by omega)))
    · rw [hx_af hs R hi', nI_add]
      have h1 := hc_cn_in S hi' (F i + (k - hc_cn B (hc_e L i))) (by omega) (by omega)
      refine hf_find (by omega) (fun x y hxy => ?_)
      show post (16 * x + y) (mc, x, y, ac, af, al, amf, aml)
      rw [hxy]
      exact hp _ (by omega) (S.2.2.1 i hi' _ (by omega) (by omega)) (by omega) x y
theorem hk_shr : ∀ l, l < 5 → ∀ x, x < 256 → nI x >>> ((8 - 2 * nI l) &&& 31) = nI (x / hc_bs l) := by decide +kernel
theorem hx_tou_l {post : Int32 → Prop} {l : Nat} (hl : l < 5) (hs : s < 5) (R : hr_X s C F L ac af al) (S : hc_Set C F L B 256) (hp : post (nI (hc_cn (hc_tb B l) (4 ^ l)))) : ∀ d i, i + d = C → wX_touched_38 post (nI s) (8 - 2 * nI l) mc cx cy ac af al amf aml (d + 1) (nI (hc_cn (hc_tb B l) (hc_bf L l i))) (nI (hc_bf L l i) - 1) (nI (40 * s + i)) := by
  have h40 := R.2.1
  have hE := hx_end hs R
  intro d
  induction d with
  | zero =>
    intro i hi
    obtain rfl : i = C := by omega
    rw [hc_tb_end S hl] at hp
    exact ⟨pk_in s 5 hs, br_t (by rw [hE]; exact nI_le (Nat.le_refl _) (by omega)) hp⟩
  | succ d ih =>
    intro i hi
    have hi' : i < C := by omega
    have hS := S.1 i hi'
    have eF : af (nI (40 * s + i)).toNatClampNeg >>> ((8 - 2 * nI l) &&& 31) = nI (F i / hc_bs l) := by rw [hx_af hs R hi', hk_shr l hl _ (by omega)]
    have eL : al (nI (40 * s + i)).toNatClampNeg >>> ((8 - 2 * nI l) &&& 31) = nI (L i / hc_bs l) := by rw [hx_al hs R hi', hk_shr l hl _ (by omega)]
    have hb := hc_bf_le S (l := l) hi'
    have hd := Nat.div_le_div_right (c := hc_bs l) hS.2.1
    have hf := Nat.div_le_self (F i) (hc_bs l)
    have ih1 := ih (i + 1) (by omega)
    have ep : nI (hc_bf L l (i + 1)) - 1 = nI (L i / hc_bs l) := nI_pred _
    rw [ep] at ih1
    have hq : nI (F i / hc_bs l) = nI (hc_bf L l i) - 1 ↔ F i / hc_bs l + 1 = hc_bf L l i := by
      constructor
      · intro h
        have h1 : nI (F i / hc_bs l) + 1 = nI (hc_bf L l i) := by rw [h, Int32.sub_add_cancel]
        rw [nI_1, nI_eq (by omega) (by omega)] at h1
        exact h1
      · intro h
        rw [← h, nI_pred]
    have fin : ∀ f, F i / hc_bs l ≤ f → hc_bf L l i ≤ f → (f = F i / hc_bs l ∨ f = hc_bf L l i) → f ≤ L i / hc_bs l + 1 → nI (hc_cn (hc_tb B l) (hc_bf L l i)) + (nI (L i / hc_bs l) - nI f + 1) = nI (hc_cn (hc_tb B l) (hc_bf L l (i + 1))) := by
      intro f a1 a2 a3 a4
      rw [hk_sub1 a4, nI_add]
      exact congrArg nI (hc_tb_step S hi' a1 a2 a3 a4).symm
    refine ⟨pk_in s 5 hs, br_f (by rw [hE]; exact nI_ge (by omega) (by omega)) ⟨hx_in hs R hi', nm_r eF ⟨hx_in hs R hi', nm_r eL (ek_if hq (fun h => nm_r (nI_1 _) (nm_r (fin _ (by omega) (by omega) (Or.inr h) (by omega)) (nm_r (nI_1 _) ih1))) (fun h => nm_r (fin _ (by omega) (by omega) (Or.inl rfl) (by omega)) (nm_r (nI_1 _) ih1)))⟩⟩⟩
end
end
section
theorem hk_pm {x y : Nat} (hx : x + 1 < 2 ^ 31) (hy : y < 2 ^ 31) : nI x = nI y - 1 ↔ x + 1 = y := by
  constructor
  · intro h
    have h1 : nI x + 1 = nI y := by rw [h, Int32.sub_add_cancel]
    rw [nI_1, nI_eq hx hy] at h1
    exact h1
  · intro h
    rw [← h, nI_pred]
/-- the stretches that are being made -/
def hr_M (m : Nat) (F L : Nat → Nat) (amf aml : Nat → Int32) : Prop := (∀ i, i < m → amf i = nI (F i)) ∧ (∀ i, i < m → aml i = nI (L i))
theorem hx_app38 {post : SX → Prop} {cx cy : Int32} {ac af al amf aml : Nat → Int32} {m a b : Nat} {F L : Nat → Nat} (hm : m < 84) (hab : a < b) (hb : b ≤ 256) (R : hr_M m F L amf aml) (hp : ∀ amf' aml', hr_M (m + 1) (hc_u F m a) (hc_u L m (b - 1)) amf' aml' → post (nI (m + 1), cx, cy, ac, af, al, amf', aml')) : wX_append_38 post (nI a) (nI (b - 1)) (nI m) cx cy ac af al amf aml := by
  have e1 : upd amf (nI m).toNatClampNeg (vp_nar .short (nI a).toInt16.toInt32) = upd amf m (nI a) := by rw [nI_clamp (by omega), hk_vs (by omega)]
  have e2 : upd aml (nI m).toNatClampNeg (vp_nar .short (nI (b - 1)).toInt16.toInt32) = upd aml m (nI (b - 1)) := by rw [nI_clamp (by omega), hk_vs (by omega)]
  refine ⟨pk_in m 84 hm, nm_r e1 ⟨pk_in m 84 hm, nm_r e2 (nm_r (nI_1 m) (hp _ _ ⟨fun i hi => ?_, fun i hi => ?_⟩))⟩⟩
  · by_cases z : i = m
    · rw [z, pk_us, hc_us]
    · rw [pk_un z, hc_un z]
      exact R.1 i (by omega)
  · by_cases z : i = m
    · rw [z, pk_us, hc_us]
    · rw [pk_un z, hc_un z]
      exact R.2 i (by omega)
theorem hx_append {post : SX → Prop} {cx cy : Int32} {ac af al amf aml : Nat → Int32} {m a b : Nat} {F L : Nat → Nat} {D : Nat → Bool} (hm : m < 84) (hab : a < b) (hb : b ≤ 256) (R : hr_M m F L amf aml) (S : hc_Set m F L D a) (h : ∀ x, a ≤ x → x < b → D x = true) (hp : ∀ m' F' L' amf' aml', hr_M m' F' L' amf' aml' → hc_Set m' F' L' D b → post (nI m', cx, cy, ac, af, al, amf', aml')) : wpX_append post (nI m, cx, cy, ac, af, al, amf, aml) (nI a) (nI b - 1) := by
  have e : nI b - 1 = nI (b - 1) := pk_sub (b := 1) (by omega)
  rw [e]
  cases m with
  | zero =>
    refine br_t (by decide) (hx_app38 hm hab hb R (fun amf' aml' R' => hp _ _ _ _ _ R' (hc_app2 S (fun z => absurd z (by omega)) hab h)))
  | succ m =>
    refine br_f (nI_nle (by omega) (by omega)) ?_
    rw [nI_pred]
    have hS := S.1 m (by omega)
    have eL : aml (nI m).toNatClampNeg = nI (L m) := by rw [nI_clamp (by omega), R.2 m (by omega)]
    refine ⟨pk_in m 84 (by omega), ?_⟩
    rw [eL]
    refine ek_if (hk_pm (by omega) (by omega)) (fun z => ⟨pk_in m 84 (by omega), ?_⟩) (fun z => ?_)
    · have e2 : upd aml (nI m).toNatClampNeg (vp_nar .short (nI (b - 1)).toInt16.toInt32) = upd aml m (nI (b - 1)) := by rw [nI_clamp (by omega), hk_vs (by omega)]
      refine nm_r e2 (hp _ _ _ _ _ ⟨R.1, fun i hi => ?_⟩ (hc_app1 S z hab h))
      by_cases z : i = m
      · rw [z, pk_us, hc_us]
      · rw [pk_un z, hc_un z]
        exact R.2 i (by omega)
    · exact hx_app38 hm hab hb R (fun amf' aml' R' => hp _ _ _ _ _ R' (hc_app2 S (fun _ => z) hab h))
section
variable {post : Int32 → SX → Prop} {J : Int32 → Int32 → Int32 → Int32 → Int32 → Int32 → (Nat → Int32) → (Nat → Int32) → (Nat → Int32) → (Nat → Int32) → (Nat → Int32) → Prop} {mc cx cy x1 x2 x5 x6 x7 x8 x9 x10 x11 x12 : Int32} {ac af al amf aml : Nat → Int32} {s C i a : Nat} {F L : Nat → Nat}
theorem hx_m102 (hs : s < 5) (R : hr_X s C F L ac af al) (hi : i ≤ C) (ha : a ≤ 256) (hF : ∀ k, k < C → F k < 256) (h : wX_make_126 post J x1 x2 (nI (40 * s + i)) x6 (nI (40 * s + C)) x8 (nI a) (hk_b (hc_in C F i a)) mc cx cy ac af al amf aml) : wX_make_102 post J x1 x2 (nI (40 * s + i)) x6 (nI (40 * s + C)) x8 (nI a) mc cx cy ac af al amf aml := by
  have h40 := R.2.1
  by_cases g : i < C
  · have h1 := hF i g
    refine br_f (nI_ge (by omega) (by omega)) ⟨hx_in hs R g, pk_lt a (F i) (fun g2 => ?_) (fun g2 => ?_) rfl (hx_af hs R g)⟩
    · rw [hk_bf (b := hc_in C F i a) (decide_eq_false (fun z => by omega))] at h
      exact h
    · rw [hk_bt (b := hc_in C F i a) (decide_eq_true ⟨g, g2⟩)] at h
      exact h
  · rw [hk_bf (b := hc_in C F i a) (decide_eq_false (fun z => g z.1))] at h
    exact br_t (nI_le (by omega) (by omega)) h
theorem hx_m126 (hs : s < 5) (R : hr_X s C F L ac af al) (hi : i ≤ C) (ha : a ≤ 256) (hF : ∀ k, k < C → F k < 256) (h : wX_make_152 post J x1 x2 x5 (nI (40 * s + i)) x7 (nI (40 * s + C)) (nI a) x10 (hk_b (hc_in C F i a)) mc cx cy ac af al amf aml) : wX_make_126 post J x1 x2 x5 (nI (40 * s + i)) x7 (nI (40 * s + C)) (nI a) x10 mc cx cy ac af al amf aml := by
  have h40 := R.2.1
  by_cases g : i < C
  · have h1 := hF i g
    refine br_f (nI_ge (by omega) (by omega)) ⟨hx_in hs R g, pk_lt a (F i) (fun g2 => ?_) (fun g2 => ?_) rfl (hx_af hs R g)⟩
    · rw [hk_bf (b := hc_in C F i a) (decide_eq_false (fun z => by omega))] at h
      exact h
    · rw [hk_bt (b := hc_in C F i a) (decide_eq_true ⟨g, g2⟩)] at h
      exact h
  · rw [hk_bf (b := hc_in C F i a) (decide_eq_false (fun z => g z.1))] at h
    exact br_t (nI_le (by omega) (by omega)) h
theorem hx_m152 (hs : s < 5) (R : hr_X s C F L ac af al) (hi : i ≤ C) (h : wX_make_192 post J x1 x2 (nI (40 * s + i)) x6 (nI (40 * s + C)) x8 x9 (hk_b (hc_in C F i a)) x11 (nI (hc_nx C F L i a)) mc cx cy ac af al amf aml) : wX_make_152 post J x1 x2 (nI (40 * s + i)) x6 (nI (40 * s + C)) x8 x9 (hk_b (hc_in C F i a)) x11 mc cx cy ac af al amf aml := by
  have h40 := R.2.1
  by_cases g : i < C
  · refine br_f (nI_ge (by omega) (by omega)) ?_
    by_cases g2 : F i ≤ a
    · have e : hc_nx C F L i a = L i + 1 := by unfold hc_nx; rw [if_pos g, if_pos g2]
      rw [e] at h
      refine br_f (hk_bt' rfl (decide_eq_true ⟨g, g2⟩)) ⟨hx_in hs R g, ?_⟩
      rw [hx_al hs R g, nI_1 (L i)]
      exact h
    · have e : hc_nx C F L i a = F i := by unfold hc_nx; rw [if_pos g, if_neg g2]
      rw [e] at h
      refine br_t (hk_bf' rfl (decide_eq_false (fun z => g2 z.2))) ⟨hx_in hs R g, ?_⟩
      rw [hx_af hs R g]
      exact h
  · have e : hc_nx C F L i a = 256 := by unfold hc_nx; rw [if_neg g]
    rw [e] at h
    exact br_t (nI_le (by omega) (by omega)) h
theorem hx_m192 (hs : s < 5) (R : hr_X s C F L ac af al) (hi : i ≤ C) (h : wX_make_230 post J x1 x2 x5 (nI (40 * s + i)) x7 (nI (40 * s + C)) x9 x10 (hk_b (hc_in C F i a)) x12 (nI (hc_nx C F L i a)) mc cx cy ac af al amf aml) : wX_make_192 post J x1 x2 x5 (nI (40 * s + i)) x7 (nI (40 * s + C)) x9 x10 (hk_b (hc_in C F i a)) x12 mc cx cy ac af al amf aml := by
  have h40 := R.2.1
  by_cases g : i < C
  · refine br_f (nI_ge (by omega) (by omega)) ?_
    by_cases g2 : F i ≤ a
    · have e : hc_nx C F L i a = L i + 1 := by unfold hc_nx; rw [if_pos g, if_pos g2]
      rw [e] at h
      refine br_f (hk_bt' rfl (decide_eq_true ⟨g, g2⟩)) ⟨hx_in hs R g, ?_⟩
      rw [hx_al hs R g, nI_1 (L i)]
      exact h
    · have e : hc_nx C F L i a = F i := by unfold hc_nx; rw [if_pos g, if_neg g2]
      rw [e] at h
      refine br_t (hk_bf' rfl (decide_eq_false (fun z => g2 z.2))) ⟨hx_in hs R g, ?_⟩
      rw [hx_af hs R g]
      exact h
  · have e : hc_nx C F L i a = 256 := by unfold hc_nx; rw [if_neg g]
    rw [e] at h
    exact br_t (nI_le (by omega) (by omega)) h
/-- the smaller of two ends -/
def hc_mn (a b : Nat) : Nat := if a ≤ b then a else b
theorem hx_m230 {p q : Nat} (hp : p ≤ 256) (hq : q ≤ 256) (h : wX_make_241 post J x1 x2 x5 x6 x7 x8 x9 x10 x11 (nI (hc_mn p q)) mc cx cy ac af al amf aml) : wX_make_230 post J x1 x2 x5 x6 x7 x8 x9 x10 x11 (nI p) (nI q) mc cx cy ac af al amf aml := by
  unfold hc_mn at h
  refine pk_le p q (fun g => ?_) (fun g => ?_)
  · rw [if_pos g] at h
    exact h
  · rw [if_neg (by omega)] at h
    exact h
theorem hx_m241 {how : Nat} {p q : Bool} (hh : how < 3) (h : wX_make_301 post J x1 (nI how) x5 x6 x7 x8 x9 x12 (hk_b (hc_f how p q)) mc cx cy ac af al amf aml) : wX_make_241 post J x1 (nI how) x5 x6 x7 x8 x9 (hk_b p) (hk_b q) x12 mc cx cy ac af al amf aml := by
  have h3 : how = 0 ∨ how = 1 ∨ how = 2 := by omega
  cases p <;> cases q <;> rcases h3 with rfl | rfl | rfl
  · exact br_t rfl (br_t rfl h)
  · exact br_f hk_10 (br_t rfl (br_t rfl (br_t rfl h)))
  · exact br_f hk_20 (br_f (by decide) (br_t rfl h))
  · exact br_t rfl (br_t rfl h)
  · exact br_f hk_10 (br_t rfl (br_t rfl (br_f hk_10 h)))
  · exact br_f hk_20 (br_f (by decide) (br_t rfl h))
  · exact br_t rfl (br_f hk_10 (br_t rfl h))
  · exact br_f hk_10 (br_t rfl (br_f hk_10 h))
  · exact br_f hk_20 (br_f (by decide) (br_f hk_10 (br_t rfl h)))
  · exact br_t rfl (br_f hk_10 (br_f hk_10 h))
  · exact br_f hk_10 (br_t rfl (br_f hk_10 h))
  · exact br_f hk_20 (br_f (by decide) (br_f hk_10 (br_f hk_10 h)))
/-- the pointers go to the first stretch that isn't over -/
theorem hx_m77 (hs : s < 5) (R : hr_X s C F L ac af al) (ha : a ≤ 256) (hL : ∀ k, k < C → L k < 256) (K : ∀ i, i ≤ C → (∀ k, k < i → L k < a) → (i < C → a ≤ L i) → wX_make_102 post J x1 x2 x5 (nI (40 * s + i)) x7 (nI (40 * s + C)) (nI a) mc cx cy ac af al amf aml) : ∀ d i, i + d = C → (∀ k, k < i → L k < a) → wX_make_77 post J x1 x2 x5 x7 (nI (40 * s + C)) (nI a) mc cx cy ac af al amf aml (d + 1) (nI (40 * s + i)) := by
  have h40 := R.2.1
  intro d
  induction d with
  | zero =>
    intro i hi h1
    obtain rfl : i = C := by omega
    exact br_t (nI_le (by omega) (by omega)) (K i (by omega) h1 (fun z => absurd z (by omega)))
  | succ d ih =>
    intro i hi h1
    have hi' : i < C := by omega
    have hl := hL i hi'
    refine br_f (nI_ge (by omega) (by omega)) ⟨hx_in hs R hi', pk_le a (L i) (fun g => K i (by omega) h1 (fun _ => g)) (fun g => nm_r (nI_1 _) (ih (i + 1) (by omega) (fun k hk => ?_))) rfl (hx_al hs R hi')⟩
    by_cases z : k = i
    · rw [z]; exact g
    · exact h1 k (by omega)
theorem hx_m52 (hs : s < 5) (R : hr_X s C F L ac af al) (ha : a ≤ 256) (hL : ∀ k, k < C → L k < 256) (K : ∀ i, i ≤ C → (∀ k, k < i → L k < a) → (i < C → a ≤ L i) → ∃ n, wX_make_77 post J x1 x2 (nI (40 * s + i)) (nI (40 * s + C)) x8 (nI a) mc cx cy ac af al amf aml n x6) : ∀ d i, i + d = C → (∀ k, k < i → L k < a) → wX_make_52 post J x1 x2 x6 (nI (40 * s + C)) x8 (nI a) mc cx cy ac af al amf aml (d + 1) (nI (40 * s + i)) := by
  have h40 := R.2.1
  intro d
  induction d with
  | zero =>
    intro i hi h1
    obtain rfl : i = C := by omega
    exact br_t (nI_le (by omega) (by omega)) (K i (by omega) h1 (fun z => absurd z (by omega)))
  | succ d ih =>
    intro i hi h1
    have hi' : i < C := by omega
    have hl := hL i hi'
    refine br_f (nI_ge (by omega) (by omega)) ⟨hx_in hs R hi', pk_le a (L i) (fun g => K i (by omega) h1 (fun _ => g)) (fun g => nm_r (nI_1 _) (ih (i + 1) (by omega) (fun k hk => ?_))) rfl (hx_al hs R hi')⟩
    by_cases z : k = i
    · rw [z]; exact g
    · exact h1 k (by omega)
end
section
variable {post : Int32 → SX → Prop} {cx cy : Int32} {ac af al : Nat → Int32} {d0 s t how CA CB : Nat} {FA LA FB LB : Nat → Nat} {A B D : Nat → Bool}
theorem hx_m44 (hs : s < 5) (ht : t < 5) (hh : how < 3) (RA : hr_X s CA FA LA ac af al) (SA : hc_Set CA FA LA A 256) (RB : hr_X t CB FB LB ac af al) (SB : hc_Set CB FB LB B 256) (hD : ∀ x, x < 256 → D x = hc_f how (A x) (B x)) (hE : ∀ m F L amf aml, hr_M m F L amf aml → hc_Set m F L D 256 → ((nI m ≤ 40 → ∃ n, wX_make_340 post (nI d0) (nI m) cx cy n 0 ac af al amf aml) ∧ (¬ nI m ≤ 40 → post (-2) (nI m, cx, cy, ac, af, al, amf, aml)))) : ∀ n i j a m F L amf aml, i ≤ CA → j ≤ CB → a ≤ 256 → 256 - a < n → (∀ k, k < i → LA k < a) → (∀ k, k < j → LB k < a) → hr_M m F L amf aml → hc_Set m F L D a → wX_make_44 post (nI d0) (nI how) (nI (40 * s + CA)) (nI (40 * t + CB)) n (nI (40 * s + i)) (nI (40 * t + j)) (nI a) (nI m) cx cy ac af al amf aml := by
  have hA40 := RA.2.1
  have hB40 := RB.2.1
  have hLA : ∀ k, k < CA → LA k < 256 := fun k hk => (SA.1 k hk).2.2
  have hLB : ∀ k, k < CB → LB k < 256 := fun k hk => (SB.1 k hk).2.2
  have hFA : ∀ k, k < CA → FA k < 256 := fun k hk => by have := SA.1 k hk; omega
  have hFB : ∀ k, k < CB → FB k < 256 := fun k hk => by have := SB.1 k hk; omega
  intro n
  induction n with
  | zero => exact fun i j a _ _ _ _ _ _ _ _ h => absurd h (by omega)
  | succ n ih =>
    intro i j a m F L amf aml hi hj ha hn hlo1 hlo2 R S
    refine pk_le 256 a (fun h => ?_) (fun h => ⟨CA - i + 1, ?_⟩)
    · obtain rfl : a = 256 := by omega
      exact hE m F L amf aml R S
    · refine hx_m52 hs RA ha hLA (fun i' hi' g1 g2 => ⟨CB - j + 1, ?_⟩) (CA - i) i (by omega) hlo1
      refine hx_m77 ht RB ha hLB (fun j' hj' g3 g4 => ?_) (CB - j) j (by omega) hlo2
      obtain ⟨p1, p2, p3⟩ := hc_ptr SA hi' g1 g2 h
      obtain ⟨q1, q2, q3⟩ := hc_ptr SB hj' g3 g4 h
      refine hx_m102 hs RA hi' ha hFA (hx_m126 ht RB hj' ha hFB (hx_m152 hs RA hi' (hx_m192 ht RB hj' (hx_m230 p2 q2 (hx_m241 hh ?_)))))
      have hmn : a < hc_mn (hc_nx CA FA LA i' a) (hc_nx CB FB LB j' a) ∧ hc_mn (hc_nx CA FA LA i' a) (hc_nx CB FB LB j' a) ≤ hc_nx CA FA LA i' a ∧ hc_mn (hc_nx CA FA LA i' a) (hc_nx CB FB LB j' a) ≤ hc_nx CB FB LB j' a := by
        unfold hc_mn
        split <;> omega
      obtain ⟨m1, m2, m3⟩ := hmn
      generalize hc_mn (hc_nx CA FA LA i' a) (hc_nx CB FB LB j' a) = b at m1 m2 m3 ⊢
      have hv : ∀ x, a ≤ x → x < b → D x = hc_f how (hc_in CA FA i' a) (hc_in CB FB j' a) := fun x h1 h2 => by
        rw [hD x (by omega), p3 x h1 (by omega), q3 x h1 (by omega)]
      have go : ∀ m' F' L' amf' aml', hr_M m' F' L' amf' aml' → hc_Set m' F' L' D b → wX_make_44 post (nI d0) (nI how) (nI (40 * s + CA)) (nI (40 * t + CB)) n (nI (40 * s + i')) (nI (40 * t + j')) (nI b) (nI m') cx cy ac af al amf' aml' := by
        intro m' F' L' amf' aml' R' S'
        exact ih i' j' b m' F' L' amf' aml' hi' hj' (by omega) (by omega) (fun k hk => Nat.lt_trans (g1 k hk) m1) (fun k hk => Nat.lt_trans (g3 k hk) m1) R' S'
      have hm : m < 84 := by
        have h1 := hc_runs S
        have h2 := hc_comb hD (hc_runs SA) (hc_runs SB) a (by omega)
        omega
      cases hf : hc_f how (hc_in CA FA i' a) (hc_in CB FB j' a) with
      | false =>
        rw [hf] at hv
        exact br_t rfl (go m F L amf aml R (hc_app0 S (by omega) hv))
      | true =>
        rw [hf] at hv
        exact br_f hk_10 (hx_append hm m1 (by omega) R S hv go)
/-- other sets stay -/
def hr_XK (d : Nat) (ac af al ac' af' al' : Nat → Int32) : Prop := ∀ t, t < 4 → t ≠ d → ac' t = ac t ∧ ∀ i, i < 40 → af' (40 * t + i) = af (40 * t + i) ∧ al' (40 * t + i) = al (40 * t + i)
theorem hx_m340 {m : Nat} {F L : Nat → Nat} {amf aml : Nat → Int32} (hd : d0 < 4) (hm : m ≤ 40) (R : hr_M m F L amf aml) (S : hc_Set m F L D 256) (hp : ∀ ac' af' al', hr_X d0 m F L ac' af' al' → hr_XK d0 ac af al ac' af' al' → post (nI (hc_cn D 256)) (nI m, cx, cy, ac', af', al', amf, aml)) : ∀ d k af' al', k + d = m → (∀ i, i < k → af' (40 * d0 + i) = nI (F i)) → (∀ i, i < k → al' (40 * d0 + i) = nI (L i)) → (∀ t, t < 4 → t ≠ d0 → ∀ i, i < 40 → af' (40 * t + i) = af (40 * t + i) ∧ al' (40 * t + i) = al (40 * t + i)) → wX_make_340 post (nI d0) (nI m) cx cy (d + 1) (nI k) ac af' al' amf aml := by
  intro d
  induction d with
  | zero =>
    intro k af' al' hk h1 h2 h3
    obtain rfl : k = m := by omega
    have e : upd ac (nI d0).toNatClampNeg (vp_nar .byte (nI k).toInt8.toInt32) = upd ac d0 (nI k) := by rw [nI_clamp (by omega), hk_vb (by omega)]
    have R' : hr_X d0 k F L (upd ac d0 (nI k)) af' al' := ⟨pk_us, hm, h1, h2⟩
    refine br_t (nI_le (by omega) (by omega)) ⟨pk_in d0 5 (by omega), nm_r e (hx_cells hd R' S (hp _ _ _ R' (fun t ht hn => ⟨pk_un hn, h3 t ht hn⟩)))⟩
  | succ d ih =>
    intro k af' al' hk h1 h2 h3
    have hS := S.1 k (by omega)
    have ei : (40 * nI d0 + nI k).toNatClampNeg = 40 * d0 + k := by rw [hk_40, nI_clamp (by omega)]
    have e1 : upd af' (40 * nI d0 + nI k).toNatClampNeg (vp_nar .short (amf (nI k).toNatClampNeg)) = upd af' (40 * d0 + k) (nI (F k)) := by
      rw [ei, nI_clamp (by omega), R.1 k (by omega), hk_vs1 (by omega)]
    have e2 : upd al' (40 * nI d0 + nI k).toNatClampNeg (vp_nar .short (aml (nI k).toNatClampNeg)) = upd al' (40 * d0 + k) (nI (L k)) := by
      rw [ei, nI_clamp (by omega), R.2 k (by omega), hk_vs1 (by omega)]
    have hin : vp_in (40 * nI d0 + nI k) 200 := pk_in (40 * d0 + k) 200 (by omega) (hk_40 d0 k)
    refine br_f (nI_ge (by omega) (by omega)) ⟨pk_in k 84 (by omega), hin, nm_r e1 ⟨pk_in k 84 (by omega), hin, nm_r e2 (nm_r (nI_1 k) (ih (k + 1) _ _ (by omega) (fun i hi => ?_) (fun i hi => ?_) (fun t ht hn i hi => ?_)))⟩⟩
    · by_cases z : i = k
      · rw [z, pk_us]
      · rw [pk_un (by omega)]
        exact h1 i (by omega)
    · by_cases z : i = k
      · rw [z, pk_us]
      · rw [pk_un (by omega)]
        exact h2 i (by omega)
    · rw [pk_un (by omega), pk_un (by omega)]
      exact h3 t ht hn i hi
theorem hx_make {mc : Int32} {amf aml : Nat → Int32} (hd : d0 < 4) (hs : s < 5) (ht : t < 5) (hh : how < 3) (RA : hr_X s CA FA LA ac af al) (SA : hc_Set CA FA LA A 256) (RB : hr_X t CB FB LB ac af al) (SB : hc_Set CB FB LB B 256) (hD : ∀ x, x < 256 → D x = hc_f how (A x) (B x)) (hfull : 40 < hc_cn (hc_rise D) 256 → ∀ m amf' aml', post (-2) (m, cx, cy, ac, af, al, amf', aml')) (hp : hc_cn (hc_rise D) 256 ≤ 40 → ∀ m F L ac' af' al' mc' amf' aml', hr_X d0 m F L ac' af' al' → hc_Set m F L D 256 → hr_XK d0 ac af al ac' af' al' → post (nI (hc_cn D 256)) (mc', cx, cy, ac', af', al', amf', aml')) : wpX_make post (mc, cx, cy, ac, af, al, amf, aml) (nI d0) (nI how) (nI s) (nI t) := by
  have hA40 := RA.2.1
  have hB40 := RB.2.1
  have eA : nI (40 * s) + ac (nI s).toNatClampNeg = nI (40 * s + CA) := by rw [nI_clamp (by omega), RA.1, nI_add]
  have eB : nI (40 * t) + ac (nI t).toNatClampNeg = nI (40 * t + CB) := by rw [nI_clamp (by omega), RB.1, nI_add]
  refine nm_r (hk_40m s) (nm_r (hk_40m t) ⟨pk_in s 5 hs, nm_r eA ⟨pk_in t 5 ht, nm_r eB ⟨257, ?_⟩⟩⟩)
  refine hx_m44 (F := fun _ => 0) (L := fun _ => 0) hs ht hh RA SA RB SB hD (fun m F L amf' aml' R S => ?_) 257 0 0 0 0 amf aml (by omega) (by omega) (by omega) (by omega) (fun k hk => absurd hk (by omega)) (fun k hk => absurd hk (by omega)) ⟨fun k hk => absurd hk (by omega), fun k hk => absurd hk (by omega)⟩ (hc_Set0 _ _ _)
  have hr := hc_runs S
  have hm := hc_cn_le (hc_rise D) 256
  refine pk_le m 40 (fun h => ⟨m + 1, ?_⟩) (fun h => hfull (by omega) _ _ _)
  exact hx_m340 hd h R S (fun ac' af' al' R' K => hp (by omega) m F L ac' af' al' _ _ _ R' S K) m 0 af al (by omega) (fun i hi => absurd hi (by omega)) (fun i hi => absurd hi (by omega)) (fun _ _ _ _ _ => ⟨rfl, rfl⟩)
end
end
section
theorem hk_sdx : ∀ l, l < 5 → (1 : Int32) <<< ((4 - nI l) &&& 31) = nI (hc_sd l) := by decide +kernel
theorem hc_sdsq : ∀ l, l < 5 → hc_sd l * hc_sd l = hc_bs l := by decide +kernel
theorem hk_mask : ∀ l, l < 5 → ∀ h, h < 256 → nI h &&& (-(nI (hc_bs l))) = nI (h / hc_bs l * hc_bs l) := by decide +kernel
/-- the square as a set -/
def hc_op (l b : Nat) : Nat → Bool := fun x => decide (x / hc_bs l = b)
theorem hx_change {post : Int32 → SX → Prop} {mc cx cy p0 p1 p2 : Int32} {ac af al amf aml : Nat → Int32} (h1 : (p0 < 0 ∨ 3 < p0) ∨ p1 < 0 → post (-1) (mc, cx, cy, ac, af, al, amf, aml)) (h2 : ∀ q, q < 2 ^ 31 → p1 = nI q → ¬ hg_ok q → post (-1) (mc, cx, cy, ac, af, al, amf, aml)) (h3 : ∀ s q, s < 4 → p0 = nI s → q < 2 ^ 31 → p1 = nI q → hg_ok q → ∀ (ac' af' al' : Nat → Int32) (F' L' : Nat → Nat), hr_X 4 1 F' L' ac' af' al' → hc_Set 1 F' L' (hc_op (q / 1024) (hc_T (q / 1024) (q / 32 % 32) (q % 32))) 256 → hr_XK 4 ac af al ac' af' al' → ((p2 = 0 → wpX_make post (mc, cx, cy, ac', af', al', amf, aml) (nI s) (nI 2) (nI s) (nI 4)) ∧ (¬ p2 = 0 → wpX_make post (mc, cx, cy, ac', af', al', amf, aml) (nI s) (nI 1) (nI s) (nI 4)))) : wpX_change post (mc, cx, cy, ac, af, al, amf, aml) p0 p1 p2 := by
  unfold wpX_change
  rcases hs_case p0 with hb | ⟨s, hs, rfl⟩
  · exact hs_Xno hb (br_t rfl (h1 (Or.inl hb)))
  · refine hs_Xok hs (br_f hk_10 ?_)
    by_cases hn : p1 < 0
    · exact br_f (Int32.not_le.mpr hn) (h1 (Or.inr hn))
    · obtain ⟨q, hq, rfl⟩ := nI_of hn
      have e1 : nI q >>> ((10 : Int32) &&& 31) = nI (q / 1024) := pk_shrN hq _ 10 (by decide)
      have e2 : (nI q >>> ((5 : Int32) &&& 31)) &&& 31 = nI (q / 32 % 32) := by
        rw [show nI q >>> ((5 : Int32) &&& 31) = nI (q / 32) from pk_shrN hq _ 5 (by decide)]
        exact pk_andN (by omega) 5 (by decide)
      have e3 : nI q &&& 31 = nI (q % 32) := pk_andN (by omega) 5 (by decide)
      refine br_t (nI_pos' hq) (nm_r e1 (nm_r e2 (nm_r e3 ?_)))
      by_cases g1 : q / 1024 < 5
      · have hpw := hk_p16 _ g1
        rw [hk_p _ g1]
        refine br_f (nI_nlt (a := 4) (by omega) (by decide)) (pk_le (2 ^ (q / 1024)) (q / 32 % 32) (fun h => h2 q hq rfl (fun z => ?_)) (fun h => pk_lt (q % 32) (2 ^ (q / 1024)) (fun h' => nm_r (hk_sdx _ g1) (nm_r (e' := nI (hc_bs (q / 1024))) ?_ ?_)) (fun h' => h2 q hq rfl (fun z => ?_))))
        · have := z.2.1; omega
        · rw [pk_mul, hc_sdsq _ g1]
        · have hx := h3 s q hs rfl hq rfl ⟨g1, h, h'⟩
          obtain ⟨t1, _, _⟩ := hc_T_inv _ g1 _ h _ h'
          have hbp := hc_bs_pw _ g1
          have b1 : (q / 32 % 32 + 1) * hc_sd (q / 1024) ≤ 16 := by
            rw [← hc_sd_pw _ g1]; exact Nat.mul_le_mul_right _ h
          have b2 : (q % 32 + 1) * hc_sd (q / 1024) ≤ 16 := by
            rw [← hc_sd_pw _ g1]; exact Nat.mul_le_mul_right _ h'
          have b3 := hc_sd_pos (q / 1024)
          have bp := hc_bs_pos (q / 1024)
          rw [Nat.succ_mul] at b1 b2
          have b4 : (hc_T (q / 1024) (q / 32 % 32) (q % 32) + 1) * hc_bs (q / 1024) ≤ 256 := by
            rw [← hbp]; exact Nat.mul_le_mul_right _ t1
          rw [Nat.succ_mul] at b4
          rw [pk_mul, pk_mul]
          refine hx_num (by omega) (by omega) (nm_r (hk_mask _ g1 _ (hc_H_lt _)) ?_)
          show ∀ x, x = _ → _
          generalize hT : hc_T (q / 1024) (q / 32 % 32) (q % 32) = T at hx b4
          unfold hc_T at hT
          rw [hT]
          have e5 : upd al 160 (vp_nar .short (((nI (T * hc_bs (q / 1024)) + nI (hc_bs (q / 1024))) - 1).toInt16.toInt32)) = upd al 160 (nI (T * hc_bs (q / 1024) + hc_bs (q / 1024) - 1)) := by
            rw [nI_add, show nI (T * hc_bs (q / 1024) + hc_bs (q / 1024)) - 1 = nI (T * hc_bs (q / 1024) + hc_bs (q / 1024) - 1) from pk_sub (b := 1) (by omega), hk_vs (by omega)]
          have e6 : upd af 160 (vp_nar .short (nI (T * hc_bs (q / 1024))).toInt16.toInt32) = upd af 160 (nI (T * hc_bs (q / 1024))) := by rw [hk_vs (by omega)]
          have e7 : upd ac 4 (vp_nar .byte 1) = upd ac 4 (nI 1) := rfl
          refine nm_r e7 (nm_r e6 (nm_r e5 (hx _ _ _ (fun _ => T * hc_bs (q / 1024)) (fun _ => T * hc_bs (q / 1024) + hc_bs (q / 1024) - 1) ⟨pk_us, by decide, fun i hi => ?_, fun i hi => ?_⟩ (hc_Set1 (a := T * hc_bs (q / 1024)) (b := T * hc_bs (q / 1024) + hc_bs (q / 1024) - 1) (by omega) (by omega) rfl rfl (fun x hx => ?_)) (fun t ht hn => ⟨pk_un (by omega), fun i hi => ⟨pk_un (by omega), pk_un (by omega)⟩⟩))))
          · obtain rfl : i = 0 := by omega
            exact pk_us
          · obtain rfl : i = 0 := by omega
            exact pk_us
          · unfold hc_op
            rw [decide_eq_true_iff, hk_dq bp, Nat.succ_mul]
            omega
        · have := z.2.2; omega
      · exact br_t (nI_lt (a := 4) (by omega) (by omega)) (h2 q hq rfl (fun z => g1 z.1))
theorem hy_change_ok {post : Int32 → SY → Prop} {an ap am at' : Nat → Int32} {s q : Nat} {B : Nat → Bool} {x : Bool} (hs : s < 4) (hq : q < 2 ^ 31) (ok : hg_ok q) (P : hr_P ap) (M : hr_Y s B am) (hfull : 40 < hc_cn (hc_rise (hc_ch B (q / 1024) (hc_T (q / 1024) (q / 32 % 32) (q % 32)) x)) 256 → ∀ at', post (-2) (an, ap, am, at')) (hp : hc_cn (hc_rise (hc_ch B (q / 1024) (hc_T (q / 1024) (q / 32 % 32) (q % 32)) x)) 256 ≤ 40 → ∀ am' at', hr_Y s (hc_ch B (q / 1024) (hc_T (q / 1024) (q / 32 % 32) (q % 32)) x) am' → hr_K s am am' → post (nI (hc_cn (hc_ch B (q / 1024) (hc_T (q / 1024) (q / 32 % 32) (q % 32)) x) 256)) (an, ap, am', at')) : wpY_change post (an, ap, am, at') (nI s) (nI q) (hk_b x) := by
  refine hy_change (fun z => ?_) (fun q' hq' e hno => ?_) (fun s' q' hs' es hq' e _ => ?_)
  · rcases z with (z | z) | z
    · exact absurd z (hs_n0 hs)
    · exact absurd z (hs_n3 hs)
    · exact absurd z (nI_pos hq)
  · rw [nI_eq hq hq'] at e
    rw [← e] at hno
    exact absurd ok hno
  · rw [nI_eq hq hq'] at e
    rw [nI_eq (by omega) (by omega)] at es
    subst e es
    exact ⟨257, hy_change_l hs ok.1 ok.2.1 ok.2.2 M (fun at' T => hy_keep hs P T (fun h => hfull h at') (fun h am' a b => hp h am' at' a b)) 256 0 at' (by omega) (fun j hj => absurd hj (by omega))⟩
theorem hc_ch_1 {B : Nat → Bool} {l b : Nat} : ∀ x, x < 256 → hc_ch B l b true x = hc_f 1 (B x) (hc_op l b x) := by
  intro x _
  unfold hc_ch hc_op hc_f
  by_cases h : x / hc_bs l = b
  · rw [if_pos h, decide_eq_true h]; cases B x <;> rfl
  · rw [if_neg h, decide_eq_false h]; cases B x <;> rfl
theorem hc_ch_2 {B : Nat → Bool} {l b : Nat} : ∀ x, x < 256 → hc_ch B l b false x = hc_f 2 (B x) (hc_op l b x) := by
  intro x _
  unfold hc_ch hc_op hc_f
  by_cases h : x / hc_bs l = b
  · rw [if_pos h, decide_eq_true h]; cases B x <;> rfl
  · rw [if_neg h, decide_eq_false h]; cases B x <;> rfl
/-- set s, on both sides -/
def hr_S (s : Nat) (ac af al am : Nat → Int32) : Prop := ∃ (C : Nat) (F L : Nat → Nat) (B : Nat → Bool), hr_X s C F L ac af al ∧ hc_Set C F L B 256 ∧ hr_Y s B am
def hr_R (ac af al an ap am : Nat → Int32) : Prop := hr_N an ∧ hr_P ap ∧ ∀ s, s < 4 → hr_S s ac af al am
theorem hr_XK_X {d s C : Nat} {F L : Nat → Nat} {ac af al ac' af' al' : Nat → Int32} (K : hr_XK d ac af al ac' af' al') (hs : s < 4) (hn : s ≠ d) (R : hr_X s C F L ac af al) : hr_X s C F L ac' af' al' := by
  obtain ⟨k1, k2⟩ := K s hs hn
  obtain ⟨r1, r2, r3, r4⟩ := R
  exact ⟨k1.trans r1, r2, fun i hi => ((k2 i (by omega)).1).trans (r3 i hi), fun i hi => ((k2 i (by omega)).2).trans (r4 i hi)⟩
theorem hr_new {d m : Nat} {F L : Nat → Nat} {D : Nat → Bool} {ac af al an ap am ac' af' al' am' : Nat → Int32} (R : hr_R ac af al an ap am) (X : hr_X d m F L ac' af' al') (S : hc_Set m F L D 256) (Y : hr_Y d D am') (KX : hr_XK d ac af al ac' af' al') (KY : hr_K d am am') : hr_R ac' af' al' an ap am' := by
  refine ⟨R.1, R.2.1, fun t ht => ?_⟩
  by_cases z : t = d
  · subst z
    exact ⟨m, F, L, D, X, S, Y⟩
  · obtain ⟨C, F1, L1, B, h1, h2, h3⟩ := R.2.2 t ht
    exact ⟨C, F1, L1, B, hr_XK_X KX ht z h1, h2, fun c hc => (KY t ht z c hc).trans (h3 c hc)⟩
theorem hr_op {ac af al an ap am ac' af' al' : Nat → Int32} (R : hr_R ac af al an ap am) (KX : hr_XK 4 ac af al ac' af' al') : hr_R ac' af' al' an ap am := by
  refine ⟨R.1, R.2.1, fun t ht => ?_⟩
  obtain ⟨C, F1, L1, B, h1, h2, h3⟩ := R.2.2 t ht
  exact ⟨C, F1, L1, B, hr_XK_X KX ht (by omega) h1, h2, h3⟩
end
section
/-- the tables are the curve's, and every set of the component is the marked set of the reference, numbered along the curve -/
def i_Rel (k : Nat) (u : SX) (v : SY) : Prop := hr_R u.2.2.2.1 u.2.2.2.2.1 u.2.2.2.2.2.1 v.1 v.2.1 v.2.2.1
theorem i_up {k : Nat} {u : SX} {v : SY} (h : i_Rel k u v) : i_Rel (k + 5) u v := h
theorem i_vc0 : wpX_init (fun u => wpY_init (fun v => i_Rel 0 u v)) := by
  unfold wpX_init
  refine hy_init (fun an ap N P => ⟨N, P, fun s hs => ⟨0, fun _ => 0, fun _ => 0, fun _ => false, ⟨rfl, by decide, fun i hi => absurd hi (by omega), fun i hi => absurd hi (by omega)⟩, hc_app0 (hc_Set0 _ _ _) (by omega) (fun _ _ _ => rfl), fun c hc => (hk_bf rfl).symm⟩⟩)
theorem i_vc_change {k : Nat} {u : SX} {v : SY} (I : i_Rel k u v) (hk : k + 5 ≤ 2560) (v1 : Int32) (v2 : Int32) (v3 : Int32) : wpX_change (fun r u' => wpY_change (fun r' v' => r' = r ∧ i_Rel (k + 5) u' v') v v1 v2 (lw_bz v3)) u v1 v2 (lw_bz v3) := by
  obtain ⟨mc, cx, cy, ac, af, al, amf, aml⟩ := u
  obtain ⟨an, ap, am, at'⟩ := v
  have R : hr_R ac af al an ap am := I
  obtain ⟨x, hx⟩ : ∃ x : Bool, lw_bz v3 = hk_b x := by
    rcases lw_bz_01 v3 with h | h
    · exact ⟨false, h⟩
    · exact ⟨true, h⟩
  rw [hx]
  refine hx_change (fun z => ?_) (fun q hq e hno => ?_) (fun s q hs es hq e ok ac' af' al' F' L' RO SO KO => ?_)
  · refine hy_change (fun _ => ⟨rfl, R⟩) (fun _ _ _ _ => ⟨rfl, R⟩) (fun s q hs es hq e _ => ?_)
    rw [es, e] at z
    rcases z with (z | z) | z
    · exact absurd z (hs_n0 hs)
    · exact absurd z (hs_n3 hs)
    · exact absurd z (nI_pos hq)
  · refine hy_change (fun _ => ⟨rfl, R⟩) (fun _ _ _ _ => ⟨rfl, R⟩) (fun s q' hs es hq' e' ok => ?_)
    rw [e, nI_eq hq hq'] at e'
    rw [e'] at hno
    exact absurd ok hno
  · subst es e
    obtain ⟨C, F, L, B, h1, h2, h3⟩ := R.2.2 s hs
    have RA := hr_XK_X KO hs (by omega) h1
    cases x with
    | false =>
      refine br_t rfl (hx_make hs (by omega) (by decide) (by decide) RA h2 RO SO hc_ch_2 (fun hf m amf' aml' => ?_) (fun hle m F2 L2 ac2 af2 al2 mc2 amf2 aml2 X2 S2 K2 => ?_))
      · exact hy_change_ok hs hq ok R.2.1 h3 (fun _ at' => ⟨rfl, hr_op R KO⟩) (fun h => absurd h (by omega))
      · exact hy_change_ok hs hq ok R.2.1 h3 (fun h => absurd h (by omega)) (fun _ am' at' Y KY => ⟨rfl, hr_new (hr_op R KO) X2 S2 Y K2 KY⟩)
    | true =>
      refine br_f hk_10 (hx_make hs (by omega) (by decide) (by decide) RA h2 RO SO hc_ch_1 (fun hf m amf' aml' => ?_) (fun hle m F2 L2 ac2 af2 al2 mc2 amf2 aml2 X2 S2 K2 => ?_))
      · exact hy_change_ok hs hq ok R.2.1 h3 (fun _ at' => ⟨rfl, hr_op R KO⟩) (fun h => absurd h (by omega))
      · exact hy_change_ok hs hq ok R.2.1 h3 (fun h => absurd h (by omega)) (fun _ am' at' Y KY => ⟨rfl, hr_new (hr_op R KO) X2 S2 Y K2 KY⟩)
theorem i_vc_combine {k : Nat} {u : SX} {v : SY} (I : i_Rel k u v) (hk : k + 5 ≤ 2560) (v1 : Int32) (v2 : Int32) (v3 : Int32) (v4 : Int32) : wpX_combine (fun r u' => wpY_combine (fun r' v' => r' = r ∧ i_Rel (k + 5) u' v') v v1 v2 v3 v4) u v1 v2 v3 v4 := by
  obtain ⟨mc, cx, cy, ac, af, al, amf, aml⟩ := u
  obtain ⟨an, ap, am, at'⟩ := v
  have R : hr_R ac af al an ap am := I
  unfold wpX_combine
  rcases hs_case v1 with h1 | ⟨d, hd, rfl⟩
  · refine hs_Xno h1 (br_t rfl ?_)
    unfold wpY_combine
    exact hs_Yno h1 (br_t rfl ⟨rfl, R⟩)
  rcases hs_case v3 with h3 | ⟨s, hs, rfl⟩
  · refine hs_Xok hd (br_f hk_10 (hs_Xno h3 (br_t rfl ?_)))
    unfold wpY_combine
    exact hs_Yok hd (br_f hk_10 (hs_Yno h3 (br_t rfl ⟨rfl, R⟩)))
  rcases hs_case v4 with h4 | ⟨t, ht, rfl⟩
  · refine hs_Xok hd (br_f hk_10 (hs_Xok hs (br_f hk_10 (hs_Xno h4 (br_t rfl ?_)))))
    unfold wpY_combine
    exact hs_Yok hd (br_f hk_10 (hs_Yok hs (br_f hk_10 (hs_Yno h4 (br_t rfl ⟨rfl, R⟩)))))
  refine hs_Xok hd (br_f hk_10 (hs_Xok hs (br_f hk_10 (hs_Xok ht (br_f hk_10 ?_)))))
  have Y : ∀ r : Int32, ∀ u' : SX, ((v2 < 0 → (r = -1 ∧ i_Rel (k + 5) u' (an, ap, am, at'))) ∧ (¬ v2 < 0 → ((v2 ≤ 2 → (∃ n, wY_combine_39 (fun r' v' => r' = r ∧ i_Rel (k + 5) u' v') (nI d) v2 (nI s) (nI t) n 0 an ap am at')) ∧ (¬ v2 ≤ 2 → (r = -1 ∧ i_Rel (k + 5) u' (an, ap, am, at')))))) → wpY_combine (fun r' v' => r' = r ∧ i_Rel (k + 5) u' v') (an, ap, am, at') (nI d) v2 (nI s) (nI t) := by
    intro r u' h
    unfold wpY_combine
    refine hs_Yok hd (br_f hk_10 (hs_Yok hs (br_f hk_10 (hs_Yok ht (br_f hk_10 ?_)))))
    exact br_c (fun z => ⟨(h.1 z).1.symm, (h.1 z).2⟩) (fun z => br_c (fun y => (h.2 z).1 y) (fun y => ⟨((h.2 z).2 y).1.symm, ((h.2 z).2 y).2⟩))
  by_cases hn : v2 < 0
  · exact br_t hn (Y _ _ (br_t hn ⟨rfl, R⟩))
  by_cases h2 : v2 ≤ 2
  · obtain ⟨how, hh, rfl⟩ := nI_of2 (n := 2) (M := 2) (by decide) hn h2
    refine br_f hn (br_t h2 ?_)
    obtain ⟨CA, FA, LA, A, a1, a2, a3⟩ := R.2.2 s hs
    obtain ⟨CB, FB, LB, B, b1, b2, b3⟩ := R.2.2 t ht
    refine hx_make (D := fun x => hc_f how (A x) (B x)) hd (by omega) (by omega) (by omega) a1 a2 b1 b2 (fun _ _ => rfl) (fun hf m amf' aml' => ?_) (fun hle m F2 L2 ac2 af2 al2 mc2 amf2 aml2 X2 S2 K2 => ?_)
    · exact Y _ _ (br_f hn (br_t h2 ⟨257, hy_combine_l hs ht (by omega) a3 b3 (fun at' T => hy_keep hd R.2.1 T (fun _ => ⟨rfl, R⟩) (fun h => absurd h (by omega))) 256 0 at' (by omega) (fun j hj => absurd hj (by omega))⟩))
    · exact Y _ _ (br_f hn (br_t h2 ⟨257, hy_combine_l hs ht (by omega) a3 b3 (fun at' T => hy_keep hd R.2.1 T (fun h => absurd h (by omega)) (fun _ am' YY KY => ⟨rfl, hr_new R X2 S2 YY K2 KY⟩)) 256 0 at' (by omega) (fun j hj => absurd hj (by omega))⟩))
  · exact br_f hn (br_f h2 (Y _ _ (br_f hn (br_f h2 ⟨rfl, R⟩))))
theorem i_vc_has {k : Nat} {u : SX} {v : SY} (I : i_Rel k u v) (hk : k + 5 ≤ 2560) (v1 : Int32) (v2 : Int32) (v3 : Int32) : wpX_has (fun r => wpY_has (fun r' => r' = r ∧ i_Rel (k + 5) u v) v v1 v2 v3) u v1 v2 v3 := by
  obtain ⟨mc, cx, cy, ac, af, al, amf, aml⟩ := u
  obtain ⟨an, ap, am, at'⟩ := v
  have R : hr_R ac af al an ap am := I
  unfold wpX_has
  rcases hs_case v1 with h1 | ⟨s, hs, rfl⟩
  · refine hs_Xno h1 (br_t rfl ?_)
    unfold wpY_has
    exact hs_Yno h1 (br_t rfl ⟨rfl, R⟩)
  rcases hs_cell v2 v3 with h2 | ⟨x, y, hx, hy, rfl, rfl⟩
  · refine hs_Xok hs (br_f hk_10 (hs_Xcno h2 (br_t rfl ?_)))
    unfold wpY_has
    exact hs_Yok hs (br_f hk_10 (hs_Ycno h2 (br_t rfl ⟨rfl, R⟩)))
  obtain ⟨C, F, L, B, a1, a2, a3⟩ := R.2.2 s hs
  have eE : nI (40 * s) + ac (nI s).toNatClampNeg = nI (40 * s + C) := by rw [nI_clamp (by omega), a1.1, nI_add]
  refine hs_Xok hs (br_f hk_10 (hs_Xcok hx hy (br_f hk_10 (hx_num hx hy (nm_r (hk_40m s) ⟨pk_in s 5 (by omega), nm_r eE ⟨C + 1, ?_⟩⟩)))))
  refine hx_has_l (by omega) a1 a2 (hc_H_lt _) ?_ (C + 1) 0 C (by omega) (by omega) (by omega) (fun i hi => absurd hi (by omega)) (fun i hi hi' => absurd hi' (by omega))
  unfold wpY_has
  refine hs_Yok hs (br_f hk_10 (hs_Ycok hx hy (br_f hk_10 ?_)))
  have e : 256 * nI s + 16 * nI x + nI y = 256 * nI s + nI (16 * x + y) := by rw [Int32.add_assoc, hk_16]
  rw [e]
  refine ⟨hy_in hs (by omega), ?_⟩
  have eM := hy_mk (am := am) hs (show 16 * x + y < 256 by omega) a3
  cases hB : B (hc_H (16 * x + y)) with
  | false => exact br_t (hk_bf' eM hB) ⟨rfl, R⟩
  | true => exact br_f (hk_bt' eM hB) ⟨rfl, R⟩
theorem i_vc_cells {k : Nat} {u : SX} {v : SY} (I : i_Rel k u v) (hk : k + 5 ≤ 2560) (v1 : Int32) : wpX_cells (fun r => wpY_cells (fun r' => r' = r ∧ i_Rel (k + 5) u v) v v1) u v1 := by
  obtain ⟨mc, cx, cy, ac, af, al, amf, aml⟩ := u
  obtain ⟨an, ap, am, at'⟩ := v
  have R : hr_R ac af al an ap am := I
  rcases hs_case v1 with h1 | ⟨s, hs, rfl⟩
  · unfold wpX_cells
    refine hs_Xno h1 (br_t rfl ?_)
    unfold wpY_cells
    exact hs_Yno h1 (br_t rfl ⟨rfl, R⟩)
  obtain ⟨C, F, L, B, a1, a2, a3⟩ := R.2.2 s hs
  exact hx_cells hs a1 a2 (hy_cells hs a3 ⟨rfl, R⟩)
theorem i_vc_stretches {k : Nat} {u : SX} {v : SY} (I : i_Rel k u v) (hk : k + 5 ≤ 2560) (v1 : Int32) : wpX_stretches (fun r => wpY_stretches (fun r' v' => r' = r ∧ i_Rel (k + 5) u v') v v1) u v1 := by
  obtain ⟨mc, cx, cy, ac, af, al, amf, aml⟩ := u
  obtain ⟨an, ap, am, at'⟩ := v
  have R : hr_R ac af al an ap am := I
  unfold wpX_stretches
  rcases hs_case v1 with h1 | ⟨s, hs, rfl⟩
  · refine hs_Xno h1 (br_t rfl ?_)
    unfold wpY_stretches
    exact hs_Yno h1 (br_t rfl ⟨rfl, R⟩)
  obtain ⟨C, F, L, B, a1, a2, a3⟩ := R.2.2 s hs
  refine hs_Xok hs (br_f hk_10 ⟨pk_in s 5 (by omega), ?_⟩)
  have e : ac (nI s).toNatClampNeg = nI (hc_cn (hc_rise B) 256) := by rw [nI_clamp (by omega), a1.1, hc_runs a2]
  rw [e]
  unfold wpY_stretches
  exact hs_Yok hs (br_f hk_10 ⟨257, hy_stretches_l hs R.2.1 a3 (fun at' => ⟨rfl, R⟩) 256 0 at' (by omega) (fun j hj => absurd hj (by omega))⟩)
theorem i_vc_pieces {k : Nat} {u : SX} {v : SY} (I : i_Rel k u v) (hk : k + 5 ≤ 2560) (v1 : Int32) : wpX_pieces (fun r => wpY_pieces (fun r' => r' = r ∧ i_Rel (k + 5) u v) v v1) u v1 := by
  obtain ⟨mc, cx, cy, ac, af, al, amf, aml⟩ := u
  obtain ⟨an, ap, am, at'⟩ := v
  have R : hr_R ac af al an ap am := I
  unfold wpX_pieces
  rcases hs_case v1 with h1 | ⟨s, hs, rfl⟩
  · refine hs_Xno h1 (br_t rfl ?_)
    unfold wpY_pieces
    exact hs_Yno h1 (br_t rfl ⟨rfl, R⟩)
  obtain ⟨C, F, L, B, a1, a2, a3⟩ := R.2.2 s hs
  refine hs_Xok hs (br_f hk_10 (nm_r (hk_40m s) ⟨C + 1, hx_pieces_l (by omega) a1 a2 ?_ C 0 (by omega)⟩))
  unfold wpY_pieces
  exact hs_Yok hs (br_f hk_10 ⟨257, hy_pieces_l hs R.1 R.2.1 a3 ⟨rfl, R⟩ 256 0 (by omega)⟩)
theorem i_vc_piece {k : Nat} {u : SX} {v : SY} (I : i_Rel k u v) (hk : k + 5 ≤ 2560) (v1 : Int32) (v2 : Int32) : wpX_piece (fun r => wpY_piece (fun r' => r' = r ∧ i_Rel (k + 5) u v) v v1 v2) u v1 v2 := by
  obtain ⟨mc, cx, cy, ac, af, al, amf, aml⟩ := u
  obtain ⟨an, ap, am, at'⟩ := v
  have R : hr_R ac af al an ap am := I
  unfold wpX_piece
  rcases hs_case v1 with h1 | ⟨s, hs, rfl⟩
  · refine hs_Xno h1 (br_t rfl ?_)
    unfold wpY_piece
    exact hs_Yno h1 (br_t rfl ⟨rfl, R⟩)
  obtain ⟨C, F, L, B, a1, a2, a3⟩ := R.2.2 s hs
  refine hs_Xok hs (br_f hk_10 (nm_r (hk_40m s) ⟨C + 1, ?_⟩))
  have h0 : v2 - nI (hc_cn (hc_pc B) (hc_e L 0)) = v2 := by
    show v2 - 0 = v2
    rw [Int32.sub_zero]
  have hX := hx_piece_l (mc := mc) (cx := cx) (cy := cy) (amf := amf) (aml := aml) (v := v2) (post := fun r => wpY_piece (fun r' => r' = r ∧ i_Rel (k + 5) (mc, cx, cy, ac, af, al, amf, aml) (an, ap, am, at')) (an, ap, am, at') (nI s) v2) (by omega) a1 a2 (fun x hx hb he => ?_) (fun hno => ?_) C 0 (by omega) (fun x hx => absurd hx (Nat.not_lt_zero x))
  · rw [h0] at hX
    exact hX
  · unfold wpY_piece
    refine hs_Yok hs (br_f hk_10 ⟨257, hy_piece_l hs R.1 R.2.1 a3 (fun x' hx' hb' he' => ⟨?_, R⟩) (fun hno => absurd he (hno x hx hb)) 256 0 (by omega) (fun x hx => absurd hx (Nat.not_lt_zero x))⟩)
    have hx1 := hc_cn_le (hc_pc B) x
    have hx2 := hc_cn_le (hc_pc B) x'
    rw [← he', nI_eq (by omega) (by omega)] at he
    rw [hc_cn_uni hb hb' he]
  · unfold wpY_piece
    exact hs_Yok hs (br_f hk_10 ⟨257, hy_piece_l hs R.1 R.2.1 a3 (fun x' hx' hb' he' => absurd he' (hno x' hx' hb')) (fun _ => ⟨rfl, R⟩) 256 0 (by omega) (fun x hx => absurd hx (Nat.not_lt_zero x))⟩)
theorem i_vc_number {k : Nat} {u : SX} {v : SY} (I : i_Rel k u v) (hk : k + 5 ≤ 2560) (v1 : Int32) (v2 : Int32) : wpX_number (fun r => wpY_number (fun r' => r' = r ∧ i_Rel (k + 5) u v) v v1 v2) u v1 v2 := by
  obtain ⟨mc, cx, cy, ac, af, al, amf, aml⟩ := u
  obtain ⟨an, ap, am, at'⟩ := v
  have R : hr_R ac af al an ap am := I
  unfold wpX_number
  rcases hs_cell v1 v2 with h2 | ⟨x, y, hx, hy, rfl, rfl⟩
  · refine hs_Xcno h2 (br_t rfl ?_)
    unfold wpY_number
    exact hs_Ycno h2 (br_t rfl ⟨rfl, R⟩)
  refine hs_Xcok hx hy (br_f hk_10 (hx_num hx hy ?_))
  unfold wpY_number
  refine hs_Ycok hx hy (br_f hk_10 ?_)
  rw [hk_16]
  refine ⟨pk_in (16 * x + y) 256 (by omega), ?_, R⟩
  rw [nI_clamp (by omega)]
  exact R.1 _ (by omega)
theorem i_vc_place {k : Nat} {u : SX} {v : SY} (I : i_Rel k u v) (hk : k + 5 ≤ 2560) (v1 : Int32) : wpX_place (fun r u' => wpY_place (fun r' => r' = r ∧ i_Rel (k + 5) u' v) v v1) u v1 := by
  obtain ⟨mc, cx, cy, ac, af, al, amf, aml⟩ := u
  obtain ⟨an, ap, am, at'⟩ := v
  have R : hr_R ac af al an ap am := I
  by_cases h0 : v1 < 0
  · exact br_t h0 (br_t h0 ⟨rfl, R⟩)
  by_cases h2 : v1 ≤ 255
  · have h3 := Int32.not_lt.mpr h2
    obtain ⟨n, hn, rfl⟩ := nI_of2 (n := 255) (M := 255) (by decide) h0 h2
    refine br_f h0 (br_t h2 (hf_find (by omega) (fun x y hxy => ?_)))
    show wpY_place (fun r' => r' = 16 * x + y ∧ _) _ _
    rw [hxy]
    refine br_f h0 (br_f h3 ⟨pk_in n 256 (by omega), ?_, R⟩)
    rw [nI_clamp (by omega)]
    exact R.2.1 n (by omega)
  · exact br_f h0 (br_f h2 (br_f h0 (br_t (Int32.not_le.mp h2) ⟨rfl, R⟩)))
theorem i_vc_nth {k : Nat} {u : SX} {v : SY} (I : i_Rel k u v) (hk : k + 5 ≤ 2560) (v1 : Int32) (v2 : Int32) : wpX_nth (fun r u' => wpY_nth (fun r' => r' = r ∧ i_Rel (k + 5) u' v) v v1 v2) u v1 v2 := by
  obtain ⟨mc, cx, cy, ac, af, al, amf, aml⟩ := u
  obtain ⟨an, ap, am, at'⟩ := v
  have R : hr_R ac af al an ap am := I
  unfold wpX_nth
  rcases hs_case v1 with h1 | ⟨s, hs, rfl⟩
  · refine hs_Xno h1 (br_t rfl ?_)
    unfold wpY_nth
    exact hs_Yno h1 (br_t rfl ⟨rfl, R⟩)
  obtain ⟨C, F, L, B, a1, a2, a3⟩ := R.2.2 s hs
  refine hs_Xok hs (br_f hk_10 ?_)
  by_cases h0 : v2 < 0
  · refine br_f (Int32.not_le.mpr h0) ?_
    unfold wpY_nth
    refine hs_Yok hs (br_f hk_10 ⟨257, hy_nth_l hs R.2.1 a3 (fun x' hx' hb' he' => ?_) (fun _ => ⟨rfl, R⟩) 256 0 (by omega) (fun x hx => absurd hx (Nat.not_lt_zero x))⟩)
    have hx1 := hc_cn_le B x'
    rw [← he'] at h0
    exact absurd h0 (nI_pos (by omega))
  · obtain ⟨j, hj, rfl⟩ := nI_of h0
    refine br_t (nI_pos' hj) (nm_r (hk_40m s) ⟨C + 1, hx_nth_l hj (by omega) a1 a2 (fun x hx hb he cx' cy' => ?_) (fun hle => ?_) C 0 (by omega) (Nat.zero_le _)⟩)
    · unfold wpY_nth
      refine hs_Yok hs (br_f hk_10 ⟨257, hy_nth_l hs R.2.1 a3 (fun x' hx' hb' he' => ⟨?_, R⟩) (fun hno => absurd (congrArg nI he) (hno x hx hb)) 256 0 (by omega) (fun x hx => absurd hx (Nat.not_lt_zero x))⟩)
      have hx2 := hc_cn_le B x'
      rw [nI_eq (by omega) hj] at he'
      rw [hc_cn_uni hb hb' (he.trans he'.symm)]
    · unfold wpY_nth
      refine hs_Yok hs (br_f hk_10 ⟨257, hy_nth_l hs R.2.1 a3 (fun x' hx' hb' he' => ?_) (fun _ => ⟨rfl, R⟩) 256 0 (by omega) (fun x hx => absurd hx (Nat.not_lt_zero x))⟩)
      have hx2 := hc_cn_le B x'
      have hx3 := hc_cn_lt hx' hb'
      rw [nI_eq (by omega) hj] at he'
      omega
theorem i_vc_touched {k : Nat} {u : SX} {v : SY} (I : i_Rel k u v) (hk : k + 5 ≤ 2560) (v1 : Int32) (v2 : Int32) : wpX_touched (fun r => wpY_touched (fun r' => r' = r ∧ i_Rel (k + 5) u v) v v1 v2) u v1 v2 := by
  obtain ⟨mc, cx, cy, ac, af, al, amf, aml⟩ := u
  obtain ⟨an, ap, am, at'⟩ := v
  have R : hr_R ac af al an ap am := I
  unfold wpX_touched
  rcases hs_case v1 with h1 | ⟨s, hs, rfl⟩
  · refine hs_Xno h1 (br_t rfl ?_)
    unfold wpY_touched
    exact hs_Yno h1 (br_t rfl ⟨rfl, R⟩)
  obtain ⟨C, F, L, B, a1, a2, a3⟩ := R.2.2 s hs
  refine hs_Xok hs (br_f hk_10 ?_)
  by_cases h0 : v2 < 0
  · refine br_t h0 ?_
    unfold wpY_touched
    exact hs_Yok hs (br_f hk_10 (br_t h0 ⟨rfl, R⟩))
  by_cases h4 : v2 ≤ 4
  · obtain ⟨l, hl, rfl⟩ := nI_of2 (n := 4) (M := 4) (by decide) h0 h4
    have hp16 := hk_p16 l (by omega)
    refine br_f h0 (br_t h4 (nm_e (nm_r (hk_40m s) ⟨C + 1, hx_tou_l (by omega) (by omega) a1 a2 ?_ C 0 (by omega)⟩)))
    unfold wpY_touched
    refine hs_Yok hs (br_f hk_10 (br_f h0 (br_t h4 (nm_r (hk_p l (by omega)) ⟨2 ^ l + 1, ?_⟩))))
    have h := hy_tou_u (an := an) (ap := ap) (at' := at') (post := fun r' => r' = nI (hc_cn (hc_tb B l) (4 ^ l)) ∧ i_Rel (k + 5) (mc, cx, cy, ac, af, al, amf, aml) (an, ap, am, at')) hs (by omega) a3 ⟨rfl, R⟩ (2 ^ l) 0 (by omega)
    rw [Nat.zero_mul] at h
    exact h
  · refine br_f h0 (br_f h4 ?_)
    unfold wpY_touched
    exact hs_Yok hs (br_f hk_10 (br_f h0 (br_f h4 ⟨rfl, R⟩)))
end
