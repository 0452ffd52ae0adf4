section
theorem pk_us {f : Nat → Int32} {k : Nat} {x : Int32} : upd f k x k = x := if_pos rfl
theorem pk_un {f : Nat → Int32} {k j : Nat} {x : Int32} (h : j ≠ k) : upd f k x j = f j := if_neg h
theorem pk_sub {a b : Nat} (h : b ≤ a) : nI a - nI b = nI (a - b) := by
  obtain ⟨c, rfl⟩ : ∃ c, a = c + b := ⟨a - b, by omega⟩
  rw [← nI_add, Int32.add_sub_cancel, Nat.add_sub_cancel]
theorem pk_m1 (n : Nat) : nI (n + 1) + (-1) = nI n := by
  rw [← nI_1, Int32.add_assoc, show (1 : Int32) + (-1) = 0 from rfl, Int32.add_zero]
theorem pk_mul (a b : Nat) : nI a * nI b = nI (a * b) := (Int32.ofNat_mul a b).symm
theorem pk_div {a d : Nat} (ha : a < 2 ^ 31) (h0 : 0 < d) (hd : d < 2 ^ 31) : nI a / nI d = nI (a / d) := by
  apply Int32.toInt_inj.mp
  rw [lg_idiv_nonneg (by rw [nI_toInt ha]; omega) (by rw [nI_toInt hd]; omega), nI_toInt ha, nI_toInt hd, nI_toInt (Nat.lt_of_le_of_lt (Nat.div_le_self a d) ha)]
  first | rfl | exact (Int.natCast_ediv _ _).symm
theorem pk_rem {a d : Nat} (ha : a < 2 ^ 31) (h0 : 0 < d) (hd : d < 2 ^ 31) : nI a - nI a / nI d * nI d = nI (a % d) := by
  rw [pk_div ha h0 hd, pk_mul, pk_sub (Nat.div_mul_le_self a d)]
  exact congrArg nI (by have := Nat.div_add_mod' a d; omega)
theorem pk_sub_toInt {a b : Nat} (ha : a < 2 ^ 30) (hb : b < 2 ^ 30) : (nI a - nI b).toInt = (a : Int) - b := by
  rw [Int32.toInt_sub, nI_toInt (by omega), nI_toInt (by omega)]
  exact Int.bmod_eq_of_le (by omega) (by omega)
theorem pk_sneg {a b : Nat} (hb : b < 2 ^ 30) (h : a < b) : nI a - nI b < 0 := by
  rw [Int32.lt_iff_toInt_lt, pk_sub_toInt (by omega) hb, show (0 : Int32).toInt = 0 from by decide]
  omega
theorem pk_ix (x : Int32) {n : Nat} (hn : n < 2 ^ 31) : x < 0 ∨ nI n ≤ x ∨ ∃ j : Nat, j < n ∧ x = nI j := by
  by_cases h : x < 0
  · exact Or.inl h
  · obtain ⟨j, hj, rfl⟩ := nI_of h
    by_cases h2 : j < n
    · exact Or.inr (Or.inr ⟨j, h2, rfl⟩)
    · exact Or.inr (Or.inl (nI_le (by omega) hj))
theorem pk_le {x y : Int32} {A B : Prop} (a b : Nat) (f : a ≤ b → A) (g : b < a → B) (hx : x = nI a := by rfl) (hy : y = nI b := by rfl) (ha : a < 2 ^ 31 := by omega) (hb : b < 2 ^ 31 := by omega) : (x ≤ y → A) ∧ (¬ x ≤ y → B) := by
  subst hx hy
  rw [nI_leI ha hb]
  exact ⟨f, fun z => g (by omega)⟩
theorem pk_lt {x y : Int32} {A B : Prop} (a b : Nat) (f : a < b → A) (g : b ≤ a → B) (hx : x = nI a := by rfl) (hy : y = nI b := by rfl) (ha : a < 2 ^ 31 := by omega) (hb : b < 2 ^ 31 := by omega) : (x < y → A) ∧ (¬ x < y → B) := by
  subst hx hy
  rw [nI_ltI ha hb]
  exact ⟨f, fun z => g (by omega)⟩
theorem pk_eq {x y : Int32} {A B : Prop} (a b : Nat) (f : a = b → A) (g : a ≠ b → B) (hx : x = nI a := by rfl) (hy : y = nI b := by rfl) (ha : a < 2 ^ 31 := by omega) (hb : b < 2 ^ 31 := by omega) : (x = y → A) ∧ (¬ x = y → B) := by
  subst hx hy
  rw [nI_eq ha hb]
  exact ⟨f, g⟩
theorem pk_in {x : Int32} (n N : Nat) (h : n < N) (hx : x = nI n := by rfl) (hN : N < 2 ^ 31 := by omega) : vp_in x N := by
  subst hx
  exact vp_in_nI h hN
theorem pk_cl {x : Int32} (n : Nat) (hx : x = nI n := by rfl) (h : n < 2 ^ 31 := by omega) : x.toNatClampNeg = n := by
  subst hx
  exact nI_clamp h
theorem pk_tn {n : Nat} (h : n < 2 ^ 32) : (nI n).toBitVec.toNat = n := Nat.mod_eq_of_lt h
theorem pk_and (x : Int32) {m : Int32} (k : Nat) (hm : m.toBitVec.toNat = 2 ^ k - 1) : x &&& m = nI (x.toBitVec.toNat % 2 ^ k) := by
  apply Int32.toBitVec_inj.mp
  apply BitVec.eq_of_toNat_eq
  rw [Int32.toBitVec_and, BitVec.toNat_and, hm, Nat.and_two_pow_sub_one_eq_mod]
  show _ = (BitVec.ofNat 32 _).toNat
  rw [BitVec.toNat_ofNat]
  exact (Nat.mod_eq_of_lt (Nat.lt_of_le_of_lt (Nat.mod_le _ _) x.toBitVec.isLt)).symm
theorem pk_andN {n : Nat} (h : n < 2 ^ 32) {m : Int32} (k : Nat) (hm : m.toBitVec.toNat = 2 ^ k - 1) : nI n &&& m = nI (n % 2 ^ k) := by
  rw [pk_and _ k hm, pk_tn h]
theorem pk_andE (x : Int32) {m : Int32} (k : Nat) (hm : m.toBitVec.toNat = 2 ^ k - 1) : ∃ j : Nat, j < 2 ^ k ∧ x &&& m = nI j := ⟨_, Nat.mod_lt _ (Nat.two_pow_pos k), pk_and x k hm⟩
theorem pk_loop {σ : Type} (W : Nat → Nat → σ → Prop) (I : Nat → σ → Prop) (e i0 : Nat) (s : σ) (hi : i0 ≤ e) (h0 : I i0 s) (hx : ∀ n s, I e s → W (n + 1) e s)
    (hs : ∀ n i s, i < e → I i s → (∀ s', I (i + 1) s' → W n (i + 1) s') → W (n + 1) i s) : ∃ n, W n i0 s :=
  ⟨e + 1, loop_i W I e hx hs (e + 1) i0 s hi (by omega) h0⟩
theorem pk_least (P : Nat → Prop) (h : ∃ k, P k) : ∃ k, P k ∧ ∀ j, j < k → ¬ P j := by
  obtain ⟨k, hk⟩ := h
  induction k using Nat.strongRecOn with
  | ind k ih =>
    by_cases e : ∃ j, j < k ∧ P j
    · obtain ⟨j, hj, pj⟩ := e
      exact ih j hj pj
    · exact ⟨k, hk, fun j hj pj => e ⟨j, hj, pj⟩⟩
theorem nx_xor (a b : Nat) : nI a ^^^ nI b = nI (a ^^^ b) := by
  apply Int32.toBitVec_inj.1
  show BitVec.ofNat 32 a ^^^ BitVec.ofNat 32 b = BitVec.ofNat 32 (a ^^^ b)
  apply BitVec.eq_of_getLsbD_eq
  intro i hi
  simp [hi]
end
section
/-! ===== the field of 16 elements: BitVec 4, sum = xor, product by a table ===== -/
def hc_T : Nat := 0xa5783ce1b4692df05ba48679c23d1fe07ae36bf258c149d0843fd16a2e957bc0386d92c74f1ae5b0c6b1285f394ed7a0e7f6c5d4a3b28190192a7f4cd5e6b380bc5243ad618f9e70428ef93517dbac6063c914be8d27fa509d15ae26fb73c8402147ed8b9afc5630df9b5713eca86420fedcba98765432100000000000000000
def hc_m (a b : BitVec 4) : BitVec 4 := BitVec.ofNat 4 (hc_T >>> (4 * (16 * a.toNat + b.toNat)))
def hc_v (a : BitVec 4) : BitVec 4 := BitVec.ofNat 4 (0x834a5c2f67bde910 >>> (4 * a.toNat))
def hc_e (i : Nat) : BitVec 4 := BitVec.ofNat 4 (0x9dfe7a5bc6384219dfe7a5bc638421 >>> (4 * i))
def hc_g (a : BitVec 4) : Nat := (0xcbd679e3a5824100 >>> (4 * a.toNat)) % 16
theorem hc_mC : ∀ a b, hc_m a b = hc_m b a := by decide +kernel
theorem hc_mA : ∀ a b c, hc_m (hc_m a b) c = hc_m a (hc_m b c) := by decide +kernel
theorem hc_mD : ∀ a b c, hc_m a (b ^^^ c) = hc_m a b ^^^ hc_m a c := by decide +kernel
theorem hc_mE (a b c : BitVec 4) : hc_m (a ^^^ b) c = hc_m a c ^^^ hc_m b c := by
  rw [hc_mC, hc_mD, hc_mC c a, hc_mC c b]
theorem hc_m0 : ∀ a, hc_m a 0 = 0 := by decide +kernel
theorem hc_0m : ∀ a, hc_m 0 a = 0 := by decide +kernel
theorem hc_m1 : ∀ a, hc_m a 1 = a := by decide +kernel
theorem hc_1m : ∀ a, hc_m 1 a = a := by decide +kernel
theorem hc_mz : ∀ a b, hc_m a b = 0 → a = 0 ∨ b = 0 := by decide +kernel
theorem hc_mv : ∀ a, a ≠ 0 → hc_m (hc_v a) a = 1 := by decide +kernel
theorem hc_vd (a b : BitVec 4) (h : b ≠ 0) : hc_m (hc_m a (hc_v b)) b = a := by
  rw [hc_mA, hc_mv b h, hc_m1]
theorem hc_mL (a b c : BitVec 4) : hc_m a (hc_m b c) = hc_m b (hc_m a c) := by
  rw [← hc_mA, hc_mC a b, hc_mA]
theorem hc_xx (a : BitVec 4) : a ^^^ a = 0 := BitVec.xor_self
theorem hc_x0 (a : BitVec 4) : a ^^^ 0 = a := BitVec.xor_zero
theorem hc_0x (a : BitVec 4) : 0 ^^^ a = a := BitVec.zero_xor
theorem hc_xz {a b : BitVec 4} (h : a ^^^ b = 0) : a = b := by
  have h2 : a ^^^ b ^^^ b = b := by rw [h]; exact hc_0x b
  rwa [BitVec.xor_assoc, hc_xx, hc_x0] at h2
theorem hc_xc (a b : BitVec 4) : a ^^^ b ^^^ b = a := by rw [BitVec.xor_assoc, hc_xx, hc_x0]
theorem hc_xc' (a b : BitVec 4) : a ^^^ (a ^^^ b) = b := by rw [← BitVec.xor_assoc, hc_xx, hc_0x]
theorem hc_x4 (a b c d : BitVec 4) : (a ^^^ b) ^^^ (c ^^^ d) = (a ^^^ c) ^^^ (b ^^^ d) := by
  rw [BitVec.xor_assoc, BitVec.xor_assoc, ← BitVec.xor_assoc b c d, BitVec.xor_comm b c, BitVec.xor_assoc c b d]
/-! powers -/
def hc_p (v : BitVec 4) : Nat → BitVec 4
  | 0 => 1
  | n + 1 => hc_m (hc_p v n) v
theorem hc_p_add (v : BitVec 4) (a b : Nat) : hc_p v (a + b) = hc_m (hc_p v a) (hc_p v b) := by
  induction b with
  | zero => exact (hc_m1 _).symm
  | succ b ih => rw [← Nat.add_assoc, hc_p, ih, hc_p, hc_mA]
/-! the symbols as ints -/
def hc_I (x : BitVec 4) : Int32 := nI x.toNat
theorem hc_lt (x : BitVec 4) : x.toNat < 16 := x.isLt
theorem hc_Icl (x : BitVec 4) : (hc_I x).toNatClampNeg = x.toNat := nI_clamp (by have := hc_lt x; omega)
theorem hc_Iin (x : BitVec 4) : vp_in (hc_I x) 16 := vp_in_nI (hc_lt x) (by decide)
theorem hc_Ix (x y : BitVec 4) : hc_I x ^^^ hc_I y = hc_I (x ^^^ y) := by
  show nI _ ^^^ nI _ = nI _
  rw [nx_xor, BitVec.toNat_xor]
theorem hc_I0 : hc_I 0 = 0 := rfl
theorem hc_I1 : hc_I 1 = 1 := rfl
theorem hc_Iinj {x y : BitVec 4} (h : hc_I x = hc_I y) : x = y := by
  apply BitVec.eq_of_toNat_eq
  have hx := hc_lt x
  have hy := hc_lt y
  exact (nI_eq (by omega) (by omega)).mp h
theorem hc_Iz {x : BitVec 4} : hc_I x = 0 ↔ x = 0 := ⟨fun h => hc_Iinj (h.trans hc_I0.symm), fun h => by rw [h]; rfl⟩
theorem hc_Inz {x : BitVec 4} (h : x ≠ 0) : ¬ hc_I x = 0 := fun z => h (hc_Iz.mp z)
theorem hc_Ieq {x y : BitVec 4} : hc_I x = hc_I y ↔ x = y := ⟨hc_Iinj, fun h => by rw [h]⟩
theorem hc_Iof {n : Nat} (h : n < 16) : nI n = hc_I (BitVec.ofNat 4 n) := by
  show nI n = nI _
  rw [BitVec.toNat_ofNat, Nat.mod_eq_of_lt h]
/-! sums -/
def hc_s (f : Nat → BitVec 4) : Nat → BitVec 4
  | 0 => 0
  | n + 1 => hc_s f n ^^^ f n
theorem hc_s_ext {f g : Nat → BitVec 4} {n : Nat} (h : ∀ i, i < n → f i = g i) : hc_s f n = hc_s g n := by
  induction n with
  | zero => rfl
  | succ n ih => rw [hc_s, hc_s, ih (fun i hi => h i (by omega)), h n (by omega)]
theorem hc_s_z {f : Nat → BitVec 4} {n : Nat} (h : ∀ i, i < n → f i = 0) : hc_s f n = 0 := by
  induction n with
  | zero => rfl
  | succ n ih => rw [hc_s, ih (fun i hi => h i (by omega)), h n (by omega)]; rfl
theorem hc_s_add (f g : Nat → BitVec 4) (n : Nat) : hc_s (fun i => f i ^^^ g i) n = hc_s f n ^^^ hc_s g n := by
  induction n with
  | zero => exact (hc_xx 0).symm
  | succ n ih => rw [hc_s, hc_s, hc_s, ih, hc_x4]
theorem hc_s_mul (c : BitVec 4) (f : Nat → BitVec 4) (n : Nat) : hc_s (fun i => hc_m c (f i)) n = hc_m c (hc_s f n) := by
  induction n with
  | zero => exact (hc_m0 c).symm
  | succ n ih => rw [hc_s, hc_s, ih, hc_mD]
theorem hc_s_mulr (c : BitVec 4) (f : Nat → BitVec 4) (n : Nat) : hc_s (fun i => hc_m (f i) c) n = hc_m (hc_s f n) c := by
  induction n with
  | zero => exact (hc_0m c).symm
  | succ n ih => rw [hc_s, hc_s, ih, hc_mE]
theorem hc_s_swap (f : Nat → Nat → BitVec 4) (n k : Nat) : hc_s (fun i => hc_s (fun j => f i j) k) n = hc_s (fun j => hc_s (fun i => f i j) n) k := by
  induction n with
  | zero => exact (hc_s_z (fun _ _ => rfl)).symm
  | succ n ih =>
    rw [hc_s, ih, ← hc_s_add]
    exact hc_s_ext (fun j _ => rfl)
theorem hc_s_len {f : Nat → BitVec 4} {n k : Nat} (hk : n ≤ k) (h : ∀ i, n ≤ i → i < k → f i = 0) : hc_s f k = hc_s f n := by
  induction k with
  | zero => rw [Nat.le_zero.mp hk]
  | succ k ih =>
    by_cases e : n = k + 1
    · rw [e]
    · rw [hc_s, h k (by omega) (by omega), hc_x0, ih (by omega) (fun i h1 h2 => h i h1 (by omega))]
theorem hc_s_one {f : Nat → BitVec 4} {n k : Nat} (hk : k < n) (h : ∀ i, i < n → i ≠ k → f i = 0) : hc_s f n = f k := by
  rw [hc_s_len (n := k + 1) hk (fun i h1 h2 => h i h2 (by omega)), hc_s, hc_s_z (fun i hi => h i (by omega) (by omega)), hc_0x]
theorem hc_s_blk (f : Nat → BitVec 4) (n : Nat) : hc_s f (4 * n) = hc_s (fun x => hc_s (fun r => f (4 * x + r)) 4) n := by
  induction n with
  | zero => rfl
  | succ n ih =>
    show hc_s f (4 * n + 1 + 1 + 1 + 1) = _
    rw [hc_s, hc_s, hc_s, hc_s, hc_s, ih]
    show _ = _ ^^^ ((((0 ^^^ f (4 * n + 0)) ^^^ f (4 * n + 1)) ^^^ f (4 * n + 2)) ^^^ f (4 * n + 3))
    rw [hc_0x, ← BitVec.xor_assoc, ← BitVec.xor_assoc, ← BitVec.xor_assoc]
    rfl
/-! counts -/
def hc_c (f : Nat → Bool) : Nat → Nat
  | 0 => 0
  | n + 1 => hc_c f n + (if f n = true then 1 else 0)
theorem hc_c_ext {f g : Nat → Bool} {n : Nat} (h : ∀ i, i < n → f i = g i) : hc_c f n = hc_c g n := by
  induction n with
  | zero => rfl
  | succ n ih => rw [hc_c, hc_c, ih (fun i hi => h i (by omega)), h n (by omega)]
theorem hc_c_mono (f : Nat → Bool) {n k : Nat} (h : n ≤ k) : hc_c f n ≤ hc_c f k := by
  induction k with
  | zero => rw [Nat.le_zero.mp h]; exact Nat.le_refl _
  | succ k ih =>
    by_cases e : n = k + 1
    · rw [e]; exact Nat.le_refl _
    · rw [hc_c]
      have := ih (by omega)
      omega
theorem hc_c_z {f : Nat → Bool} {n : Nat} (h : ∀ i, i < n → f i = false) : hc_c f n = 0 := by
  induction n with
  | zero => rfl
  | succ n ih => rw [hc_c, ih (fun i hi => h i (by omega)), h n (by omega)]; rfl
theorem hc_c_upd {f : Nat → Bool} {n k : Nat} (hk : k < n) (hf : f k = false) : hc_c (fun i => if i = k then true else f i) n = hc_c f n + 1 := by
  induction n with
  | zero => omega
  | succ n ih =>
    rw [hc_c, hc_c]
    by_cases e : n = k
    · subst e
      rw [hc_c_ext (g := f) (fun i hi => if_neg (by omega)), hf]
      simp
    · rw [ih (by omega)]
      simp only [if_neg e]
      omega
theorem hc_c_len (f : Nat → Bool) (n : Nat) : ((List.range n).filter f).length = hc_c f n := by
  induction n with
  | zero => rfl
  | succ n ih =>
    rw [List.range_succ, List.filter_append, List.length_append, ih, hc_c]
    cases h : f n <;> simp [h]
theorem hc_c_add {f g k : Nat → Bool} {n : Nat} (h : ∀ i, i < n → (if k i = true then 1 else 0) = (if f i = true then 1 else 0) + (if g i = true then 1 else 0)) : hc_c k n = hc_c f n + hc_c g n := by
  induction n with
  | zero => rfl
  | succ n ih =>
    rw [hc_c, hc_c, hc_c, ih (fun i hi => h i (by omega)), h n (by omega)]
    omega
theorem hc_c_le {f g : Nat → Bool} {n : Nat} (h : ∀ i, i < n → f i = true → g i = true) : hc_c f n ≤ hc_c g n := by
  induction n with
  | zero => exact Nat.le_refl _
  | succ n ih =>
    rw [hc_c, hc_c]
    have h1 := ih (fun i hi => h i (by omega))
    have h2 := h n (by omega)
    by_cases e : f n = true
    · rw [if_pos e, if_pos (h2 e)]; omega
    · rw [if_neg e]; omega
theorem hc_c_le3 {f g h k : Nat → Bool} {n : Nat} (H : ∀ i, i < n → f i = true → g i = true ∨ h i = true ∨ k i = true) : hc_c f n ≤ hc_c g n + hc_c h n + hc_c k n := by
  induction n with
  | zero => exact Nat.zero_le _
  | succ n ih =>
    rw [hc_c, hc_c, hc_c, hc_c]
    have h1 := ih (fun i hi => H i (by omega))
    have h2 := H n (by omega)
    by_cases e : f n = true
    · rw [if_pos e]
      rcases h2 e with h3 | h3 | h3
      · rw [if_pos h3]; omega
      · rw [if_pos h3]; omega
      · rw [if_pos h3]; omega
    · rw [if_neg e]; omega
theorem hc_c_sh (f : Nat → Bool) (n : Nat) : hc_c f (n + 1) = (if f 0 = true then 1 else 0) + hc_c (fun i => f (i + 1)) n := by
  induction n with
  | zero => rw [hc_c, hc_c, hc_c]; omega
  | succ n ih => rw [hc_c, ih, hc_c]; omega
theorem hc_c_rev (f : Nat → Bool) (n : Nat) : hc_c (fun i => f (n - i)) (n + 1) = hc_c f (n + 1) := by
  induction n with
  | zero => rfl
  | succ n ih =>
    rw [hc_c_sh]
    have e : hc_c (fun i => f (n + 1 - (i + 1))) (n + 1) = hc_c (fun i => f (n - i)) (n + 1) := hc_c_ext (fun i _ => by rw [Nat.add_sub_add_right])
    rw [e, ih, show hc_c f (n + 1 + 1) = hc_c f (n + 1) + (if f (n + 1) = true then 1 else 0) from rfl, Nat.sub_zero]
    omega
end
section
/-! ===== a triangular family of vectors over the error positions is no longer than their list ===== -/
def hc_l (f : Nat → BitVec 4) : List Nat → BitVec 4
  | [] => 0
  | q :: Q => f q ^^^ hc_l f Q
theorem hc_l_ext {f g : Nat → BitVec 4} {Q : List Nat} (h : ∀ q, q ∈ Q → f q = g q) : hc_l f Q = hc_l g Q := by
  induction Q with
  | nil => rfl
  | cons q Q ih => rw [hc_l, hc_l, h q (List.mem_cons_self), ih (fun x hx => h x (List.mem_cons_of_mem _ hx))]
theorem hc_l_z {f : Nat → BitVec 4} {Q : List Nat} (h : ∀ q, q ∈ Q → f q = 0) : hc_l f Q = 0 := by
  induction Q with
  | nil => rfl
  | cons q Q ih => rw [hc_l, h q (List.mem_cons_self), ih (fun x hx => h x (List.mem_cons_of_mem _ hx))]; rfl
theorem hc_l_add (f g : Nat → BitVec 4) (Q : List Nat) : hc_l (fun i => f i ^^^ g i) Q = hc_l f Q ^^^ hc_l g Q := by
  induction Q with
  | nil => exact (hc_xx 0).symm
  | cons q Q ih => rw [hc_l, hc_l, hc_l, ih, hc_x4]
theorem hc_l_mulr (c : BitVec 4) (f : Nat → BitVec 4) (Q : List Nat) : hc_l (fun i => hc_m (f i) c) Q = hc_m (hc_l f Q) c := by
  induction Q with
  | nil => exact (hc_0m c).symm
  | cons q Q ih => rw [hc_l, hc_l, ih, hc_mE]
theorem hc_l_swap (f : Nat → Nat → BitVec 4) (Q : List Nat) (n : Nat) : hc_l (fun q => hc_s (fun p => f q p) n) Q = hc_s (fun p => hc_l (fun q => f q p) Q) n := by
  induction Q with
  | nil => exact (hc_s_z (fun _ _ => rfl)).symm
  | cons q Q ih =>
    rw [hc_l, ih, ← hc_s_add]
    exact hc_s_ext (fun p _ => rfl)
theorem hc_l_er {f : Nat → BitVec 4} {Q : List Nat} {q0 : Nat} (h : q0 ∈ Q) : hc_l f Q = f q0 ^^^ hc_l f (Q.erase q0) := by
  induction Q with
  | nil => exact absurd h (List.not_mem_nil)
  | cons q Q ih =>
    by_cases e : q = q0
    · subst e
      rw [List.erase_cons_head, hc_l]
    · have h2 : q0 ∈ Q := by
        rcases List.mem_cons.mp h with h3 | h3
        · exact absurd h3.symm e
        · exact h3
      rw [List.erase_cons_tail (by simpa using e), hc_l, hc_l, ih h2, ← BitVec.xor_assoc, ← BitVec.xor_assoc, BitVec.xor_comm (f q) (f q0)]
theorem hc_l_one {f : Nat → BitVec 4} {Q : List Nat} {b : Nat} (hQ : Q.Nodup) (hb : b ∈ Q) (h : ∀ q, q ∈ Q → q ≠ b → f q = 0) : hc_l f Q = f b := by
  rw [hc_l_er hb, hc_l_z, hc_x0]
  intro q hq
  have h2 := (hQ.mem_erase_iff).mp hq
  exact h q h2.2 h2.1
theorem hc_hom : ∀ (P Q : List Nat) (V : Nat → Nat → BitVec 4), Q.Nodup → P.length < Q.length →
    ∃ x : Nat → BitVec 4, (∃ q, q ∈ Q ∧ x q ≠ 0) ∧ ∀ p, p ∈ P → hc_l (fun q => hc_m (x q) (V q p)) Q = 0 := by
  intro P
  induction P with
  | nil =>
    intro Q V hQ hl
    cases Q with
    | nil => exact absurd hl (Nat.lt_irrefl _)
    | cons q Q => exact ⟨fun _ => 1, ⟨q, List.mem_cons_self, show (1 : BitVec 4) ≠ 0 by decide⟩, fun p hp => absurd hp (List.not_mem_nil)⟩
  | cons p P ih =>
    intro Q V hQ hl
    rw [List.length_cons] at hl
    by_cases h : ∃ q0, q0 ∈ Q ∧ V q0 p ≠ 0
    · obtain ⟨q0, hq, hv⟩ := h
      obtain ⟨x, ⟨q1, hq1, hx1⟩, hz⟩ := ih (Q.erase q0) (fun q t => V q t ^^^ hc_m (hc_m (V q p) (hc_v (V q0 p))) (V q0 t)) (hQ.erase q0)
        (by rw [List.length_erase_of_mem hq]; omega)
      have key : ∀ t, t ∈ p :: P → hc_l (fun q => hc_m (x q) (V q t ^^^ hc_m (hc_m (V q p) (hc_v (V q0 p))) (V q0 t))) (Q.erase q0) = 0 := by
        intro t ht
        rcases List.mem_cons.mp ht with e | e
        · subst e
          refine hc_l_z (fun q _ => ?_)
          rw [hc_vd _ _ hv, hc_xx, hc_m0]
        · exact hz t e
      have hq2 := (hQ.mem_erase_iff).mp hq1
      refine ⟨fun q => if q = q0 then hc_l (fun q => hc_m (x q) (hc_m (V q p) (hc_v (V q0 p)))) (Q.erase q0) else x q, ⟨q1, hq2.2, ?_⟩, ?_⟩
      · dsimp only
        rw [if_neg hq2.1]
        exact hx1
      · intro t ht
        rw [hc_l_er hq]
        dsimp only
        rw [if_pos rfl]
        have e1 : hc_l (fun q => hc_m (if q = q0 then hc_l (fun q => hc_m (x q) (hc_m (V q p) (hc_v (V q0 p)))) (Q.erase q0) else x q) (V q t)) (Q.erase q0) = hc_l (fun q => hc_m (x q) (V q t)) (Q.erase q0) := by
          refine hc_l_ext (fun q hq3 => ?_)
          rw [if_neg ((hQ.mem_erase_iff).mp hq3).1]
        have e2 := key t ht
        have e3 : hc_l (fun q => hc_m (x q) (V q t ^^^ hc_m (hc_m (V q p) (hc_v (V q0 p))) (V q0 t))) (Q.erase q0)
            = hc_l (fun q => hc_m (x q) (V q t)) (Q.erase q0) ^^^ hc_m (hc_l (fun q => hc_m (x q) (hc_m (V q p) (hc_v (V q0 p)))) (Q.erase q0)) (V q0 t) := by
          rw [← hc_l_mulr, ← hc_l_add]
          exact hc_l_ext (fun q _ => by rw [hc_mD, hc_mA (x q)])
        rw [e3] at e2
        rw [e1, hc_xz e2, hc_xx]
    · obtain ⟨x, hx, hz⟩ := ih Q V hQ (by omega)
      refine ⟨x, hx, fun t ht => ?_⟩
      rcases List.mem_cons.mp ht with e | e
      · subst e
        refine hc_l_z (fun q hq => ?_)
        have h0 : V q t = 0 := Classical.byContradiction (fun n => h ⟨q, hq, n⟩)
        rw [h0, hc_m0]
      · exact hz t e
theorem hc_rank {P Q : List Nat} {E : Nat → BitVec 4} {vec u : Nat → Nat → BitVec 4} {N : Nat} (hQ : Q.Nodup) (hP : ∀ p, p < N → E p ≠ 0 → p ∈ P)
    (hd : ∀ b, b ∈ Q → hc_s (fun p => hc_m (E p) (hc_m (vec b p) (u b p))) N ≠ 0)
    (ht : ∀ b c, b ∈ Q → c ∈ Q → c < b → hc_s (fun p => hc_m (E p) (hc_m (vec b p) (u c p))) N = 0) : Q.length ≤ P.length := by
  refine Nat.le_of_not_lt (fun hl => ?_)
  obtain ⟨x, ⟨q1, hq1, hx1⟩, hz⟩ := hc_hom P Q vec hQ hl
  obtain ⟨b, ⟨hb, hxb⟩, hm⟩ := pk_least (fun q => q ∈ Q ∧ x q ≠ 0) ⟨q1, hq1, hx1⟩
  have e1 : hc_l (fun q => hc_m (x q) (hc_s (fun p => hc_m (E p) (hc_m (vec q p) (u b p))) N)) Q = hc_m (x b) (hc_s (fun p => hc_m (E p) (hc_m (vec b p) (u b p))) N) := by
    refine hc_l_one (f := fun q => hc_m (x q) (hc_s (fun p => hc_m (E p) (hc_m (vec q p) (u b p))) N)) hQ hb (fun q hq hn => ?_)
    by_cases h0 : x q = 0
    · rw [h0, hc_0m]
    · have h1 : ¬ q < b := fun hlt => hm q hlt ⟨hq, h0⟩
      rw [ht q b hq hb (by omega), hc_m0]
  have e2 : hc_l (fun q => hc_m (x q) (hc_s (fun p => hc_m (E p) (hc_m (vec q p) (u b p))) N)) Q = 0 := by
    have e3 : hc_l (fun q => hc_m (x q) (hc_s (fun p => hc_m (E p) (hc_m (vec q p) (u b p))) N)) Q = hc_l (fun q => hc_s (fun p => hc_m (hc_m (x q) (vec q p)) (hc_m (E p) (u b p))) N) Q := by
      refine hc_l_ext (fun q _ => ?_)
      rw [← hc_s_mul]
      exact hc_s_ext (fun p _ => by rw [hc_mA, hc_mL (vec q p)])
    rw [e3, hc_l_swap]
    refine hc_s_z (fun p hp => ?_)
    rw [hc_l_mulr]
    by_cases h0 : E p = 0
    · rw [h0, hc_0m, hc_m0]
    · rw [hz p (hP p hp h0), hc_0m]
  rcases hc_mz _ _ (e1.symm.trans e2) with h | h
  · exact hxb h
  · exact hd b hb h
end
section
/-! ===== the curve y^4 + y = x^5, its 64 points, monomials by order ===== -/
def hc_x (p : Nat) : BitVec 4 := BitVec.ofNat 4 (p / 4)
def hc_y (p : Nat) : BitVec 4 := BitVec.ofNat 4 (0x5432fe98dcba5432dcba5432fe985432dcbafe98fe98fe98dcbadcba54327610 >>> (4 * p))
/-- not a gap -/
def hc_n (o : Nat) : Bool := decide (5 * (o % 4) ≤ o)
def hc_f (o p : Nat) : BitVec 4 := hc_m (hc_p (hc_x p) ((o - 5 * (o % 4)) / 4)) (hc_p (hc_y p) (o % 4))
theorem hc_n_iff {o : Nat} : hc_n o = true ↔ 5 * (o % 4) ≤ o := by rw [hc_n, decide_eq_true_iff]
theorem hc_n_ij {o : Nat} (h : hc_n o = true) : ∃ i j, j < 4 ∧ o = 4 * i + 5 * j := by
  rw [hc_n_iff] at h
  exact ⟨(o - 5 * (o % 4)) / 4, o % 4, by omega, by omega⟩
theorem hc_ij_n (i j : Nat) (h : j < 4) : hc_n (4 * i + 5 * j) = true := by
  have e1 : (4 * i + 5 * j) % 4 = j := by omega
  rw [hc_n_iff, e1]
  omega
theorem hc_n_add {a b : Nat} (ha : hc_n a = true) (hb : hc_n b = true) : hc_n (a + b) = true := by
  rw [hc_n_iff] at *
  omega
theorem hc_f_ij (i j p : Nat) (h : j < 4) : hc_f (4 * i + 5 * j) p = hc_m (hc_p (hc_x p) i) (hc_p (hc_y p) j) := by
  have e1 : (4 * i + 5 * j) % 4 = j := by omega
  have e2 : (4 * i + 5 * j - 5 * j) / 4 = i := by omega
  rw [hc_f, e1, e2]
theorem hc_cv0 : ∀ p : Fin 64, hc_p (hc_y p.val) 4 = hc_p (hc_x p.val) 5 ^^^ hc_y p.val := by decide +kernel
theorem hc_cv {p : Nat} (h : p < 64) : hc_p (hc_y p) 4 = hc_p (hc_x p) 5 ^^^ hc_y p := hc_cv0 ⟨p, h⟩
theorem hc_p1 (v : BitVec 4) : hc_p v 1 = v := hc_1m v
theorem hc_ff {a b p : Nat} (hp : p < 64) (ha : hc_n a = true) (hb : hc_n b = true) :
    hc_m (hc_f a p) (hc_f b p) = hc_f (a + b) p ^^^ (if 4 ≤ a % 4 + b % 4 then hc_f (a + b - 15) p else 0) := by
  obtain ⟨i, j, hj, rfl⟩ := hc_n_ij ha
  obtain ⟨k, l, hl, rfl⟩ := hc_n_ij hb
  have e1 : (4 * i + 5 * j) % 4 = j := by omega
  have e2 : (4 * k + 5 * l) % 4 = l := by omega
  rw [e1, e2, hc_f_ij i j p hj, hc_f_ij k l p hl]
  have e3 : hc_m (hc_m (hc_p (hc_x p) i) (hc_p (hc_y p) j)) (hc_m (hc_p (hc_x p) k) (hc_p (hc_y p) l)) = hc_m (hc_p (hc_x p) (i + k)) (hc_p (hc_y p) (j + l)) := by
    rw [hc_p_add, hc_p_add, hc_mA, hc_mA, hc_mL (hc_p (hc_y p) j)]
  rw [e3]
  by_cases h4 : 4 ≤ j + l
  · rw [if_pos h4]
    have e4 : 4 * i + 5 * j + (4 * k + 5 * l) = 4 * (i + k + 5) + 5 * (j + l - 4) := by omega
    have e5 : 4 * i + 5 * j + (4 * k + 5 * l) - 15 = 4 * (i + k) + 5 * (j + l - 3) := by omega
    have e6 : j + l = 4 + (j + l - 4) := by omega
    have e7 : j + l - 3 = 1 + (j + l - 4) := by omega
    rw [e5, e4, hc_f_ij _ _ _ (by omega), hc_f_ij _ _ _ (by omega), e7, hc_p_add (hc_x p) (i + k) 5]
    conv => lhs; rw [e6]
    rw [hc_p_add (hc_y p) 4, hc_p_add (hc_y p) 1, hc_cv hp, hc_p1, hc_mE, hc_mD, hc_mA]
  · rw [if_neg h4, hc_x0]
    have e4 : 4 * i + 5 * j + (4 * k + 5 * l) = 4 * (i + k) + 5 * (j + l) := by omega
    rw [e4, hc_f_ij _ _ _ (by omega)]
theorem hc_Z0 : ∀ m : Fin 75, hc_n m.val = true → hc_s (hc_f m.val) 64 = 0 := by decide +kernel
theorem hc_Z {m : Nat} (h : m < 75) (hn : hc_n m = true) : hc_s (hc_f m) 64 = 0 := hc_Z0 ⟨m, h⟩ hn
theorem hc_orth {a b : Nat} (ha : hc_n a = true) (hb : hc_n b = true) (h : a + b < 75) : hc_s (fun p => hc_m (hc_f a p) (hc_f b p)) 64 = 0 := by
  rw [hc_s_ext (fun p hp => hc_ff hp ha hb), hc_s_add, hc_Z h (hc_n_add ha hb), hc_0x]
  by_cases h4 : 4 ≤ a % 4 + b % 4
  · rw [hc_s_ext (g := hc_f (a + b - 15)) (fun p _ => if_pos h4)]
    refine hc_Z (by omega) ?_
    rw [hc_n_iff] at *
    omega
  · exact hc_s_z (fun p _ => if_neg h4)
/-! the dual functions -/
def hc_dx (i : Nat) (x : BitVec 4) : BitVec 4 := if i = 0 then hc_p x (15 - i) ^^^ 1 else hc_p x (15 - i)
def hc_dy (j : Nat) (y : BitVec 4) : BitVec 4 := if j = 0 then hc_p y (3 - j) ^^^ 1 else hc_p y (3 - j)
def hc_d (i j p : Nat) : BitVec 4 := hc_m (hc_dx i (hc_x p)) (hc_dy j (hc_y p))
theorem hc_dX : ∀ x z : BitVec 4, hc_s (fun i => hc_m (hc_p z i) (hc_dx i x)) 16 = if z = x then 1 else 0 := by decide +kernel
theorem hc_dY0 : ∀ (x : Fin 16) (r s : Fin 4), hc_s (fun j => hc_m (hc_p (hc_y (4 * x.val + s.val)) j) (hc_dy j (hc_y (4 * x.val + r.val)))) 4 = if s = r then 1 else 0 := by decide +kernel
theorem hc_eY0 : ∀ (x : Fin 16) (j l : Fin 4), hc_s (fun r => hc_m (hc_p (hc_y (4 * x.val + r)) l.val) (hc_dy j.val (hc_y (4 * x.val + r)))) 4 = if j = l then 1 else 0 := by decide +kernel
theorem hc_eX0 : ∀ i k : Fin 16, hc_s (fun x => hc_m (hc_p (BitVec.ofNat 4 x) k.val) (hc_dx i.val (BitVec.ofNat 4 x))) 16 = if i = k then 1 else 0 := by decide +kernel
theorem hc_xb {x r : Nat} (h : r < 4) : hc_x (4 * x + r) = BitVec.ofNat 4 x := by
  rw [hc_x, show (4 * x + r) / 4 = x from by omega]
theorem hc_m4 (a b c d : BitVec 4) : hc_m (hc_m a b) (hc_m c d) = hc_m (hc_m a c) (hc_m b d) := by
  rw [hc_mA, hc_mA, hc_mL b]
/-- the dual functions pick the point -/
theorem hc_inv1 {p z : Nat} (hp : p < 64) (hz : z < 64) :
    hc_s (fun j => hc_s (fun i => hc_m (hc_f (4 * i + 5 * j) z) (hc_d i j p)) 16) 4 = if z = p then 1 else 0 := by
  have e1 : hc_s (fun j => hc_s (fun i => hc_m (hc_f (4 * i + 5 * j) z) (hc_d i j p)) 16) 4
      = hc_s (fun j => hc_m (hc_s (fun i => hc_m (hc_p (hc_x z) i) (hc_dx i (hc_x p))) 16) (hc_m (hc_p (hc_y z) j) (hc_dy j (hc_y p)))) 4 := by
    refine hc_s_ext (fun j hj => ?_)
    rw [← hc_s_mulr]
    exact hc_s_ext (fun i _ => by rw [hc_f_ij _ _ _ hj, hc_d, hc_m4])
  rw [e1, hc_s_mul, hc_dX]
  by_cases hx : p / 4 = z / 4
  · have e2 : hc_x z = hc_x p := by rw [hc_x, hc_x, hx]
    rw [if_pos e2, hc_1m]
    have e3 := hc_dY0 ⟨p / 4, by omega⟩ ⟨p % 4, by omega⟩ ⟨z % 4, by omega⟩
    dsimp only at e3
    rw [show 4 * (p / 4) + p % 4 = p from by omega, show 4 * (p / 4) + z % 4 = z from by omega] at e3
    rw [e3]
    by_cases h : z = p
    · rw [if_pos h, if_pos (Fin.ext (by dsimp only; rw [h]))]
    · rw [if_neg h, if_neg (fun c => h (by have := congrArg Fin.val c; dsimp only at this; omega))]
  · have e2 : ¬ hc_x z = hc_x p := by
      intro c
      have := congrArg BitVec.toNat c
      rw [hc_x, hc_x, BitVec.toNat_ofNat, BitVec.toNat_ofNat, Nat.mod_eq_of_lt (by omega), Nat.mod_eq_of_lt (by omega)] at this
      exact hx this.symm
    rw [if_neg e2, hc_0m, if_neg (fun c => hx (by rw [c]))]
/-- and they pick the monomial -/
theorem hc_inv2 {i j k l : Nat} (hi : i < 16) (hj : j < 4) (hk : k < 16) (hl : l < 4) :
    hc_s (fun p => hc_m (hc_f (4 * k + 5 * l) p) (hc_d i j p)) 64 = if i = k ∧ j = l then 1 else 0 := by
  rw [show (64 : Nat) = 4 * 16 from rfl, hc_s_blk]
  have e1 : hc_s (fun x => hc_s (fun r => hc_m (hc_f (4 * k + 5 * l) (4 * x + r)) (hc_d i j (4 * x + r))) 4) 16
      = hc_s (fun x => hc_m (hc_m (hc_p (BitVec.ofNat 4 x) k) (hc_dx i (BitVec.ofNat 4 x))) (if j = l then 1 else 0)) 16 := by
    refine hc_s_ext (fun x hx => ?_)
    have e2 := hc_eY0 ⟨x, hx⟩ ⟨j, hj⟩ ⟨l, hl⟩
    dsimp only at e2
    have e3 : (if (⟨j, hj⟩ : Fin 4) = ⟨l, hl⟩ then (1 : BitVec 4) else 0) = if j = l then 1 else 0 := by
      by_cases h : j = l
      · rw [if_pos h, if_pos (Fin.ext h)]
      · rw [if_neg h, if_neg (fun c => h (congrArg Fin.val c))]
    rw [e3] at e2
    rw [← e2, ← hc_s_mul]
    refine hc_s_ext (fun r hr => ?_)
    rw [hc_f_ij _ _ _ hl, hc_d, hc_xb hr, hc_m4]
  rw [e1, hc_s_mulr]
  have e4 := hc_eX0 ⟨i, hi⟩ ⟨k, hk⟩
  dsimp only at e4
  rw [e4]
  by_cases h : i = k
  · rw [if_pos (Fin.ext h), hc_1m]
    by_cases h2 : j = l
    · rw [if_pos h2, if_pos ⟨h, h2⟩]
    · rw [if_neg h2, if_neg (fun c => h2 c.2)]
  · rw [if_neg (fun c => h (congrArg Fin.val c)), hc_0m, if_neg (fun c => h c.1)]
/-! message orders and the codeword -/
def hc_o (k : Nat) : Nat := (0xcf2c70beeb6caeaa689e69648e28607de75c6da6585d65544d24503ce34c289205100 >>> (6 * k)) % 64
def hc_W (M : Nat → BitVec 4) (p : Nat) : BitVec 4 := hc_s (fun k => hc_m (M k) (hc_f (hc_o k) p)) 46
theorem hc_o0 : ∀ k : Fin 46, hc_o k.val ≤ 51 ∧ hc_n (hc_o k.val) = true ∧ hc_c hc_n (hc_o k.val) = k.val := by decide +kernel
theorem hc_o1 : ∀ o : Fin 52, hc_n o.val = true → hc_c hc_n o.val < 46 ∧ hc_o (hc_c hc_n o.val) = o.val := by decide +kernel
theorem hc_o2 : hc_c hc_n 52 = 46 := by decide +kernel
theorem hc_o_le {k : Nat} (h : k < 46) : hc_o k ≤ 51 := (hc_o0 ⟨k, h⟩).1
theorem hc_o_n {k : Nat} (h : k < 46) : hc_n (hc_o k) = true := (hc_o0 ⟨k, h⟩).2.1
theorem hc_o_inj {k l : Nat} (hk : k < 46) (hl : l < 46) (h : hc_o k = hc_o l) : k = l := by
  have h1 := (hc_o0 ⟨k, hk⟩).2.2
  have h2 := (hc_o0 ⟨l, hl⟩).2.2
  dsimp only at h1 h2
  rw [← h1, ← h2, h]
theorem hc_dec {M : Nat → BitVec 4} {k : Nat} (hk : k < 46) :
    hc_s (fun p => hc_m (hc_W M p) (hc_d ((hc_o k - 5 * (hc_o k % 4)) / 4) (hc_o k % 4) p)) 64 = M k := by
  have hn := hc_o_n hk
  have hb := hc_o_le hk
  rw [hc_n_iff] at hn
  have e1 : hc_s (fun p => hc_m (hc_W M p) (hc_d ((hc_o k - 5 * (hc_o k % 4)) / 4) (hc_o k % 4) p)) 64
      = hc_s (fun p => hc_s (fun l => hc_m (M l) (hc_m (hc_f (hc_o l) p) (hc_d ((hc_o k - 5 * (hc_o k % 4)) / 4) (hc_o k % 4) p))) 46) 64 := by
    refine hc_s_ext (fun p _ => ?_)
    rw [hc_W, ← hc_s_mulr]
    exact hc_s_ext (fun l _ => by rw [hc_mA])
  rw [e1, hc_s_swap]
  have e2 : ∀ l, l < 46 → hc_s (fun p => hc_m (M l) (hc_m (hc_f (hc_o l) p) (hc_d ((hc_o k - 5 * (hc_o k % 4)) / 4) (hc_o k % 4) p))) 64 = hc_m (M l) (if k = l then 1 else 0) := by
    intro l hl
    have hn2 := hc_o_n hl
    have hb2 := hc_o_le hl
    rw [hc_n_iff] at hn2
    rw [hc_s_mul]
    have e3 := hc_inv2 (i := (hc_o k - 5 * (hc_o k % 4)) / 4) (j := hc_o k % 4) (k := (hc_o l - 5 * (hc_o l % 4)) / 4) (l := hc_o l % 4) (by omega) (by omega) (by omega) (by omega)
    rw [show 4 * ((hc_o l - 5 * (hc_o l % 4)) / 4) + 5 * (hc_o l % 4) = hc_o l from by omega] at e3
    rw [e3]
    by_cases h : k = l
    · rw [if_pos h, if_pos (by rw [h]; exact ⟨rfl, rfl⟩)]
    · rw [if_neg h, if_neg (fun c => h (hc_o_inj hk hl (by omega)))]
  rw [hc_s_ext e2, hc_s_one (k := k) hk (fun l _ hn3 => by rw [if_neg (fun c => hn3 c.symm), hc_m0]), if_pos rfl, hc_m1]
/-- the syndrome of an error -/
def hc_S (E : Nat → BitVec 4) (o : Nat) : BitVec 4 := hc_s (fun p => hc_m (E p) (hc_f o p)) 64
theorem hc_meas {M E : Nat → BitVec 4} {o : Nat} (ho : o ≤ 23) (hn : hc_n o = true) :
    hc_s (fun p => hc_m (hc_W M p ^^^ E p) (hc_f o p)) 64 = hc_S E o := by
  have e0 : hc_s (fun p => hc_m (hc_W M p) (hc_f o p)) 64 = 0 := by
    have e1 : hc_s (fun p => hc_m (hc_W M p) (hc_f o p)) 64 = hc_s (fun p => hc_s (fun l => hc_m (M l) (hc_m (hc_f (hc_o l) p) (hc_f o p))) 46) 64 := by
      refine hc_s_ext (fun p _ => ?_)
      rw [hc_W, ← hc_s_mulr]
      exact hc_s_ext (fun l _ => by rw [hc_mA])
    rw [e1, hc_s_swap]
    refine hc_s_z (fun l hl => ?_)
    rw [hc_s_mul, hc_orth (hc_o_n hl) hn (by have := hc_o_le hl; omega), hc_m0]
  rw [hc_s_ext (fun p _ => hc_mE _ _ _), hc_s_add, e0, hc_0x]
  rfl
/-- the inverse transform -/
theorem hc_err {E : Nat → BitVec 4} {p : Nat} (hp : p < 64) :
    hc_s (fun j => hc_s (fun i => hc_m (hc_S E (4 * i + 5 * j)) (hc_d i j p)) 16) 4 = E p := by
  have e1 : hc_s (fun j => hc_s (fun i => hc_m (hc_S E (4 * i + 5 * j)) (hc_d i j p)) 16) 4
      = hc_s (fun z => hc_s (fun j => hc_s (fun i => hc_m (E z) (hc_m (hc_f (4 * i + 5 * j) z) (hc_d i j p))) 16) 4) 64 := by
    rw [hc_s_swap (fun z j => hc_s (fun i => hc_m (E z) (hc_m (hc_f (4 * i + 5 * j) z) (hc_d i j p))) 16)]
    refine hc_s_ext (fun j _ => ?_)
    rw [hc_s_swap (fun z i => hc_m (E z) (hc_m (hc_f (4 * i + 5 * j) z) (hc_d i j p)))]
    refine hc_s_ext (fun i _ => ?_)
    rw [hc_S, ← hc_s_mulr]
    exact hc_s_ext (fun z _ => by rw [hc_mA])
  have e2 : ∀ z, z < 64 → hc_s (fun j => hc_s (fun i => hc_m (E z) (hc_m (hc_f (4 * i + 5 * j) z) (hc_d i j p))) 16) 4 = hc_m (E z) (if z = p then 1 else 0) := by
    intro z hz
    rw [← hc_inv1 hp hz, ← hc_s_mul]
    exact hc_s_ext (fun j _ => hc_s_mul _ _ _)
  rw [e1, hc_s_ext e2, hc_s_one (k := p) hp (fun z _ hn => by rw [if_neg hn, hc_m0]), if_pos rfl, hc_m1]
end
section
/-! ===== the elimination over antidiagonals, its ghost vectors, and the vote ===== -/
def hc_up {α : Type} (f : Nat → α) (k : Nat) (v : α) : Nat → α := fun i => if i = k then v else f i
theorem hc_us {α : Type} {f : Nat → α} {k : Nat} {v : α} : hc_up f k v k = v := if_pos rfl
theorem hc_un {α : Type} {f : Nat → α} {k i : Nat} {v : α} (h : i ≠ k) : hc_up f k v i = f i := if_neg h
/-- the entry of vector v in column b -/
def hc_b (E v : Nat → BitVec 4) (b : Nat) : BitVec 4 := hc_s (fun p => hc_m (E p) (hc_m (v p) (hc_f b p))) 64
/-- the reduced row a as a vector -/
def hc_w (F V : Nat → Nat → BitVec 4) (a p : Nat) : BitVec 4 := hc_f a p ^^^ hc_s (fun q => hc_m (F a q) (V q p)) 6
theorem hc_b_ext {E v w : Nat → BitVec 4} {b : Nat} (h : ∀ p, v p = w p) : hc_b E v b = hc_b E w b := hc_s_ext (fun p _ => by rw [h p])
theorem hc_b_add (E v w : Nat → BitVec 4) (b : Nat) : hc_b E (fun p => v p ^^^ w p) b = hc_b E v b ^^^ hc_b E w b := by
  rw [hc_b, hc_b, hc_b, ← hc_s_add]
  exact hc_s_ext (fun p _ => by rw [hc_mE, hc_mD])
theorem hc_b_mul (E v : Nat → BitVec 4) (c : BitVec 4) (b : Nat) : hc_b E (fun p => hc_m c (v p)) b = hc_m c (hc_b E v b) := by
  rw [hc_b, hc_b, ← hc_s_mul]
  exact hc_s_ext (fun p _ => by rw [hc_mA, hc_mL (E p)])
theorem hc_b_sum (E c : Nat → BitVec 4) (V : Nat → Nat → BitVec 4) (b n : Nat) : hc_b E (fun p => hc_s (fun q => hc_m (c q) (V q p)) n) b = hc_s (fun q => hc_m (c q) (hc_b E (V q) b)) n := by
  induction n with
  | zero => exact hc_s_z (fun p _ => by show hc_m _ (hc_m 0 _) = 0; rw [hc_0m, hc_m0])
  | succ n ih =>
    rw [hc_s, ← ih, ← hc_b_mul, ← hc_b_add]
    exact hc_b_ext (fun p => rfl)
theorem hc_b_f {E : Nat → BitVec 4} {a b : Nat} (ha : hc_n a = true) (hb : hc_n b = true) :
    hc_b E (hc_f a) b = hc_S E (a + b) ^^^ (if 4 ≤ a % 4 + b % 4 then hc_S E (a + b - 15) else 0) := by
  have e1 : hc_b E (hc_f a) b = hc_s (fun p => hc_m (E p) (hc_f (a + b) p) ^^^ hc_m (E p) (if 4 ≤ a % 4 + b % 4 then hc_f (a + b - 15) p else 0)) 64 :=
    hc_s_ext (fun p hp => by rw [hc_ff hp ha hb, hc_mD])
  rw [e1, hc_s_add]
  by_cases h : 4 ≤ a % 4 + b % 4
  · rw [if_pos h]
    have e2 : hc_s (fun p => hc_m (E p) (if 4 ≤ a % 4 + b % 4 then hc_f (a + b - 15) p else 0)) 64 = hc_S E (a + b - 15) := hc_s_ext (fun p _ => by rw [if_pos h])
    rw [e2]
    rfl
  · rw [if_neg h]
    have e2 : hc_s (fun p => hc_m (E p) (if 4 ≤ a % 4 + b % 4 then hc_f (a + b - 15) p else 0)) 64 = 0 := hc_s_z (fun p _ => by rw [if_neg h, hc_m0])
    rw [e2]
    rfl
theorem hc_b_w (E : Nat → BitVec 4) (F V : Nat → Nat → BitVec 4) (a b : Nat) :
    hc_b E (hc_w F V a) b = hc_b E (hc_f a) b ^^^ hc_s (fun q => hc_m (F a q) (hc_b E (V q) b)) 6 := by
  rw [← hc_b_sum, ← hc_b_add]
  rfl
/-- at most six error positions -/
def hc_6 (E : Nat → BitVec 4) : Prop := ∃ P : List Nat, P.length ≤ 6 ∧ ∀ p, p < 64 → E p ≠ 0 → p ∈ P
/-- the pairs done: all antidiagonals below o, and of o itself the rows below a0 -/
def hc_P (o a0 a b : Nat) : Prop := a + b < o ∨ (a + b = o ∧ a < a0)
def hc_V (E : Nat → BitVec 4) (o a0 K : Nat) (R C : Nat → Nat) (rp cp : Nat → Option Nat) (F D V : Nat → Nat → BitVec 4) : Prop :=
  (∀ q, q < K → R q < 76 ∧ C q < 76 ∧ hc_n (R q) = true ∧ hc_n (C q) = true ∧ hc_P o a0 (R q) (C q) ∧ rp (R q) = some q ∧ cp (C q) = some q) ∧
  (∀ a q, rp a = some q → q < K ∧ R q = a) ∧
  (∀ b q, cp b = some q → q < K ∧ C q = b) ∧
  (∀ a q, F a q ≠ 0 → q < K ∧ R q < a ∧ hc_P o a0 a (C q)) ∧
  (∀ q, q < K → ∀ p, V q p = hc_w F V (R q) p) ∧
  (∀ q b, q < K → hc_n b = true → hc_P o a0 (R q) b → D q b = hc_b E (V q) b) ∧
  (∀ q b, K ≤ q → D q b = 0) ∧
  (∀ q, q < K → hc_b E (V q) (C q) ≠ 0) ∧
  (∀ q b, q < K → hc_n b = true → b < C q → hc_b E (V q) b = 0) ∧
  (∀ a b, hc_n a = true → hc_n b = true → rp a = none → hc_P o a0 a b → hc_b E (hc_w F V a) b = 0) ∧
  hc_c (fun a => (rp a).isSome) 76 = K ∧ hc_c (fun b => (cp b).isSome) 76 = K
theorem hc_V0 (E : Nat → BitVec 4) : hc_V E 0 0 0 (fun _ => 0) (fun _ => 0) (fun _ => none) (fun _ => none) (fun _ _ => 0) (fun _ _ => 0) (fun _ _ => 0) :=
  ⟨fun q h => absurd h (Nat.not_lt_zero q), fun _ _ h => (nomatch h), fun _ _ h => (nomatch h), fun _ _ h => absurd rfl h, fun q h => absurd h (Nat.not_lt_zero q), fun q _ h => absurd h (Nat.not_lt_zero q),
    fun _ _ _ => rfl, fun q h => absurd h (Nat.not_lt_zero q), fun q _ h => absurd h (Nat.not_lt_zero q), fun a b _ _ _ h => absurd h (by unfold hc_P; omega),
    hc_c_z (fun _ _ => rfl), hc_c_z (fun _ _ => rfl)⟩
section
variable {E : Nat → BitVec 4} {o a0 K : Nat} {R C : Nat → Nat} {rp cp : Nat → Option Nat} {F D V : Nat → Nat → BitVec 4}
theorem hc_K6 (h6 : hc_6 E) (I : hc_V E o a0 K R C rp cp F D V) : K ≤ 6 := by
  obtain ⟨P, hl, hP⟩ := h6
  obtain ⟨i1, i2, i3, i4, i5, i6, i7, i8, i9, i10, i11, i12⟩ := I
  have h := hc_rank (P := P) (Q := (List.range 76).filter (fun b => (cp b).isSome)) (E := E) (vec := fun b => V ((cp b).getD 0)) (u := hc_f) (N := 64)
    (List.Pairwise.filter _ List.nodup_range) hP
    (by
      intro b hb
      have hs := (List.mem_filter.mp hb).2
      obtain ⟨q, hq⟩ := Option.isSome_iff_exists.mp hs
      have h3 := i3 b q hq
      have h8 := i8 q h3.1
      rw [h3.2] at h8
      try dsimp only
      rw [hq]
      exact h8)
    (by
      intro b c hb hc hlt
      have hs := (List.mem_filter.mp hb).2
      obtain ⟨q, hq⟩ := Option.isSome_iff_exists.mp hs
      have h3 := i3 b q hq
      have hs2 := (List.mem_filter.mp hc).2
      obtain ⟨q2, hq2⟩ := Option.isSome_iff_exists.mp hs2
      have h4 := i3 c q2 hq2
      have hn := (i1 q2 h4.1).2.2.2.1
      rw [h4.2] at hn
      have h9 := i9 q c h3.1 hn (by rw [h3.2]; exact hlt)
      try dsimp only
      rw [hq]
      exact h9)
  rw [hc_c_len, i12] at h
  omega
/-- what the program reckons is the entry -/
theorem hc_ent (I : hc_V E o a0 K R C rp cp F D V) (hK : K ≤ 6) {a b : Nat} (hab : a + b = o) (ha : hc_n a = true) (hb : hc_n b = true) :
    hc_S E (a + b) ^^^ ((if 4 ≤ a % 4 + b % 4 then hc_S E (a + b - 15) else 0) ^^^ hc_s (fun q => hc_m (F a q) (D q b)) K) = hc_b E (hc_w F V a) b := by
  obtain ⟨i1, i2, i3, i4, i5, i6, i7, i8, i9, i10, i11, i12⟩ := I
  rw [hc_b_w, hc_b_f ha hb, BitVec.xor_assoc]
  have e : hc_s (fun q => hc_m (F a q) (hc_b E (V q) b)) 6 = hc_s (fun q => hc_m (F a q) (D q b)) K := by
    rw [hc_s_len (n := K) hK]
    · refine hc_s_ext (fun q hq => ?_)
      by_cases h0 : F a q = 0
      · rw [h0, hc_0m, hc_0m]
      · have h4 := i4 a q h0
        rw [i6 q b hq hb (by unfold hc_P; omega)]
    · intro q h1 h2
      have h0 : F a q = 0 := Classical.byContradiction (fun n => by have := (i4 a q n).1; omega)
      rw [h0, hc_0m]
  rw [e]
theorem hc_P1 {a b c : Nat} (h : hc_P o c a b) : hc_P o (c + 1) a b := by unfold hc_P at *; omega
/-- a pair that is no pair of non-gaps -/
theorem hc_skip {a : Nat} (I : hc_V E o a K R C rp cp F D V) (h : ¬ (hc_n a = true ∧ hc_n (o - a) = true)) : hc_V E o (a + 1) K R C rp cp F D V := by
  obtain ⟨i1, i2, i3, i4, i5, i6, i7, i8, i9, i10, i11, i12⟩ := I
  refine ⟨fun q hq => ?_, i2, i3, fun a' q hf => ?_, i5, fun q b hq hb hP => ?_, i7, i8, i9, fun a' b ha hb hr hP => ?_, i11, i12⟩
  · obtain ⟨j1, j2, j3, j4, j5, j6, j7⟩ := i1 q hq
    exact ⟨j1, j2, j3, j4, hc_P1 j5, j6, j7⟩
  · obtain ⟨j1, j2, j3⟩ := i4 a' q hf
    exact ⟨j1, j2, hc_P1 j3⟩
  · refine i6 q b hq hb ?_
    have h1 := (i1 q hq).2.2.1
    by_cases e : R q = a ∧ R q + b = o
    · exfalso
      apply h
      rw [e.1] at h1
      have e2 : o - a = b := by omega
      rw [e2]
      exact ⟨h1, hb⟩
    · unfold hc_P at *
      omega
  · refine i10 a' b ha hb hr ?_
    by_cases e : a' = a ∧ a' + b = o
    · exfalso
      apply h
      rw [e.1] at ha
      have e2 : o - a = b := by omega
      rw [e2]
      exact ⟨ha, hb⟩
    · unfold hc_P at *
      omega
/-- the row has its pivot: the row is extended -/
theorem hc_ext {a b q : Nat} (I : hc_V E o a K R C rp cp F D V) (hab : a + b = o) (hr : rp a = some q) :
    hc_V E o (a + 1) K R C rp cp F (hc_up D q (hc_up (D q) b (hc_b E (hc_w F V a) b))) V := by
  obtain ⟨i1, i2, i3, i4, i5, i6, i7, i8, i9, i10, i11, i12⟩ := I
  obtain ⟨hq, hR⟩ := i2 a q hr
  refine ⟨fun q hq => ?_, i2, i3, fun a' q hf => ?_, i5, fun q' b' hq' hb' hP => ?_, fun q' b' hq' => ?_, i8, i9, fun a' b' ha hb hr' hP => ?_, i11, i12⟩
  · obtain ⟨j1, j2, j3, j4, j5, j6, j7⟩ := i1 q hq
    exact ⟨j1, j2, j3, j4, hc_P1 j5, j6, j7⟩
  · obtain ⟨j1, j2, j3⟩ := i4 a' q hf
    exact ⟨j1, j2, hc_P1 j3⟩
  · by_cases e : q' = q
    · subst e
      rw [hc_us]
      by_cases e2 : b' = b
      · subst e2
        rw [hc_us]
        refine hc_b_ext (fun p => ?_)
        rw [i5 q' hq p, hR]
      · rw [hc_un e2]
        refine i6 q' b' hq hb' ?_
        unfold hc_P at *
        omega
    · rw [hc_un e]
      refine i6 q' b' hq' hb' ?_
      have h1 : R q' ≠ a := by
        intro c
        have h2 := (i1 q' hq').2.2.2.2.2.1
        rw [c, hr] at h2
        exact e (Option.some.inj h2).symm
      unfold hc_P at *
      omega
  · rw [hc_un (by omega)]
    exact i7 q' b' hq'
  · refine i10 a' b' ha hb hr' ?_
    have h1 : a' ≠ a := by
      intro c
      rw [c, hr] at hr'
      exact nomatch hr'
    unfold hc_P at *
    omega
/-- the entry is 0: nothing to do -/
theorem hc_nil {a b : Nat} (I : hc_V E o a K R C rp cp F D V) (hab : a + b = o) (hr : rp a = none) (he : hc_b E (hc_w F V a) b = 0) :
    hc_V E o (a + 1) K R C rp cp F D V := by
  obtain ⟨i1, i2, i3, i4, i5, i6, i7, i8, i9, i10, i11, i12⟩ := I
  refine ⟨fun q hq => ?_, i2, i3, fun a' q hf => ?_, i5, fun q b' hq hb hP => ?_, i7, i8, i9, fun a' b' ha hb hr' hP => ?_, i11, i12⟩
  · obtain ⟨j1, j2, j3, j4, j5, j6, j7⟩ := i1 q hq
    exact ⟨j1, j2, j3, j4, hc_P1 j5, j6, j7⟩
  · obtain ⟨j1, j2, j3⟩ := i4 a' q hf
    exact ⟨j1, j2, hc_P1 j3⟩
  · refine i6 q b' hq hb ?_
    have h1 : R q ≠ a := by
      intro c
      have h2 := (i1 q hq).2.2.2.2.2.1
      rw [c, hr] at h2
      exact nomatch h2
    unfold hc_P at *
    omega
  · by_cases e : a' = a ∧ a' + b' = o
    · obtain ⟨e1, e2⟩ := e
      subst e1
      have e3 : b' = b := by omega
      rw [e3]
      exact he
    · refine i10 a' b' ha hb hr' ?_
      unfold hc_P at *
      omega
/-- the column has a pivot q above: the entry is cleared -/
theorem hc_clr_row {a b q : Nat} (I : hc_V E o a K R C rp cp F D V) (hab : a + b = o) (hr : rp a = none) (hc : cp b = some q) : q < K ∧ C q = b ∧ R q < a := by
  obtain ⟨i1, i2, i3, i4, i5, i6, i7, i8, i9, i10, i11, i12⟩ := I
  obtain ⟨hq, hC⟩ := i3 b q hc
  have h1 := i1 q hq
  have h2 : R q ≠ a := by
    intro c
    have h3 := h1.2.2.2.2.2.1
    rw [c, hr] at h3
    exact nomatch h3
  have h3 := h1.2.2.2.2.1
  unfold hc_P at h3
  exact ⟨hq, hC, by omega⟩
theorem hc_clr {a b q : Nat} (I : hc_V E o a K R C rp cp F D V) (hK : K ≤ 6) (hab : a + b = o) (hr : rp a = none) (hb : hc_n b = true) (hc : cp b = some q) :
    D q b ≠ 0 ∧ hc_V E o (a + 1) K R C rp cp (hc_up F a (hc_up (F a) q (hc_m (hc_b E (hc_w F V a) b) (hc_v (D q b))))) D V := by
  obtain ⟨hq, hC, hR⟩ := hc_clr_row I hab hr hc
  obtain ⟨i1, i2, i3, i4, i5, i6, i7, i8, i9, i10, i11, i12⟩ := I
  have hD : D q b = hc_b E (V q) b := i6 q b hq hb (by unfold hc_P; omega)
  have hD0 : D q b ≠ 0 := by
    have := i8 q hq
    rw [hC] at this
    rw [hD]
    exact this
  have hF : F a q = 0 := Classical.byContradiction (fun n => by
    have := (i4 a q n).2.2
    rw [hC] at this
    unfold hc_P at this
    omega)
  have hRa : ∀ q', q' < K → R q' ≠ a := by
    intro q' hq' c
    have h3 := (i1 q' hq').2.2.2.2.2.1
    rw [c, hr] at h3
    exact nomatch h3
  have hw : ∀ a' p, a' ≠ a → hc_w (hc_up F a (hc_up (F a) q (hc_m (hc_b E (hc_w F V a) b) (hc_v (D q b))))) V a' p = hc_w F V a' p := by
    intro a' p h
    rw [hc_w, hc_un h, hc_w]
  have hwa : ∀ p, hc_w (hc_up F a (hc_up (F a) q (hc_m (hc_b E (hc_w F V a) b) (hc_v (D q b))))) V a p = hc_w F V a p ^^^ hc_m (hc_m (hc_b E (hc_w F V a) b) (hc_v (D q b))) (V q p) := by
    intro p
    rw [hc_w, hc_us, hc_w, BitVec.xor_assoc]
    congr 1
    have e1 : hc_s (fun i => hc_m (hc_up (F a) q (hc_m (hc_b E (hc_w F V a) b) (hc_v (D q b))) i) (V i p)) 6
        = hc_s (fun i => hc_m (F a i) (V i p) ^^^ (if i = q then hc_m (hc_m (hc_b E (hc_w F V a) b) (hc_v (D q b))) (V q p) else 0)) 6 := by
      refine hc_s_ext (fun i _ => ?_)
      by_cases e : i = q
      · subst e
        rw [hc_us, if_pos rfl, hF, hc_0m, hc_0x]
      · rw [hc_un e, if_neg e, hc_x0]
    rw [e1, hc_s_add]
    congr 1
    rw [hc_s_one (k := q) (by omega) (fun i _ hi => if_neg hi), if_pos rfl]
  have hwa2 : ∀ b', hc_b E (hc_w (hc_up F a (hc_up (F a) q (hc_m (hc_b E (hc_w F V a) b) (hc_v (D q b))))) V a) b' = hc_b E (hc_w F V a) b' ^^^ hc_m (hc_m (hc_b E (hc_w F V a) b) (hc_v (D q b))) (hc_b E (V q) b') := by
    intro b'
    rw [← hc_b_mul, ← hc_b_add]
    exact hc_b_ext hwa
  refine ⟨hD0, fun q hq => ?_, i2, i3, fun a' q' hf => ?_, fun q' hq' p => ?_, fun q b' hq hb hP => ?_, i7, i8, i9, fun a' b' ha' hb' hr' hP => ?_, i11, i12⟩
  · obtain ⟨j1, j2, j3, j4, j5, j6, j7⟩ := i1 q hq
    exact ⟨j1, j2, j3, j4, hc_P1 j5, j6, j7⟩
  · by_cases e : a' = a
    · subst e
      rw [hc_us] at hf
      by_cases e2 : q' = q
      · subst e2
        exact ⟨hq, hR, by rw [hC]; unfold hc_P; omega⟩
      · rw [hc_un e2] at hf
        obtain ⟨j1, j2, j3⟩ := i4 a' q' hf
        exact ⟨j1, j2, hc_P1 j3⟩
    · rw [hc_un e] at hf
      obtain ⟨j1, j2, j3⟩ := i4 a' q' hf
      exact ⟨j1, j2, hc_P1 j3⟩
  · rw [hw _ _ (hRa q' hq')]
    exact i5 q' hq' p
  · refine i6 q b' hq hb ?_
    have h1 := hRa q hq
    unfold hc_P at *
    omega
  · by_cases e : a' = a
    · subst e
      rw [hwa2]
      by_cases e2 : b' = b
      · subst e2
        rw [← hD, hc_vd _ _ hD0, hc_xx]
      · have h1 : b' < b := by unfold hc_P at hP; omega
        rw [i10 a' b' ha' hb' hr' (by unfold hc_P; omega), i9 q b' hq hb' (by rw [hC]; exact h1), hc_m0, hc_xx]
    · rw [hc_b_ext (fun p => hw a' p e)]
      refine i10 a' b' ha' hb' hr' ?_
      unfold hc_P at *
      omega
/-- a new pivot -/
theorem hc_new {a b : Nat} (I : hc_V E o a K R C rp cp F D V) (hab : a + b = o) (h76 : a < 76) (hb76 : b < 76) (ha : hc_n a = true) (hb : hc_n b = true) (hr : rp a = none) (hc : cp b = none) (he : hc_b E (hc_w F V a) b ≠ 0) :
    hc_V E o (a + 1) (K + 1) (hc_up R K a) (hc_up C K b) (hc_up rp a (some K)) (hc_up cp b (some K)) F (hc_up D K (hc_up (D K) b (hc_b E (hc_w F V a) b))) (hc_up V K (hc_w F V a)) := by
  obtain ⟨i1, i2, i3, i4, i5, i6, i7, i8, i9, i10, i11, i12⟩ := I
  have hFK : ∀ a', F a' K = 0 := fun a' => Classical.byContradiction (fun n => by have := (i4 a' K n).1; omega)
  have hw : ∀ a' p, hc_w F (hc_up V K (hc_w F V a)) a' p = hc_w F V a' p := by
    intro a' p
    rw [hc_w, hc_w]
    congr 1
    refine hc_s_ext (fun q _ => ?_)
    by_cases e : q = K
    · subst e
      rw [hFK, hc_0m, hc_0m]
    · rw [hc_un e]
  have hRa : ∀ q', q' < K → R q' ≠ a := by
    intro q' hq' c
    have h3 := (i1 q' hq').2.2.2.2.2.1
    rw [c, hr] at h3
    exact nomatch h3
  have hCb : ∀ q', q' < K → C q' ≠ b := by
    intro q' hq' c
    have h3 := (i1 q' hq').2.2.2.2.2.2
    rw [c, hc] at h3
    exact nomatch h3
  refine ⟨fun q hq => ?_, fun a' q h => ?_, fun b' q h => ?_, fun a' q hf => ?_, fun q hq p => ?_, fun q b' hq hb' hP => ?_, fun q b' hq => ?_, fun q hq => ?_, fun q b' hq hb' hlt => ?_, fun a' b' ha' hb' hr' hP => ?_, ?_, ?_⟩
  · by_cases e : q = K
    · subst e
      rw [hc_us, hc_us]
      exact ⟨h76, hb76, ha, hb, by unfold hc_P; omega, hc_us, hc_us⟩
    · have hq2 : q < K := by omega
      obtain ⟨j1, j2, j3, j4, j5, j6, j7⟩ := i1 q hq2
      rw [hc_un e, hc_un e]
      exact ⟨j1, j2, j3, j4, hc_P1 j5, by rw [hc_un (hRa q hq2)]; exact j6, by rw [hc_un (hCb q hq2)]; exact j7⟩
  · by_cases e : a' = a
    · subst e
      rw [hc_us] at h
      have e2 := Option.some.inj h
      subst e2
      exact ⟨by omega, hc_us⟩
    · rw [hc_un e] at h
      obtain ⟨j1, j2⟩ := i2 a' q h
      exact ⟨by omega, by rw [hc_un (by omega)]; exact j2⟩
  · by_cases e : b' = b
    · subst e
      rw [hc_us] at h
      have e2 := Option.some.inj h
      subst e2
      exact ⟨by omega, hc_us⟩
    · rw [hc_un e] at h
      obtain ⟨j1, j2⟩ := i3 b' q h
      exact ⟨by omega, by rw [hc_un (by omega)]; exact j2⟩
  · obtain ⟨j1, j2, j3⟩ := i4 a' q hf
    rw [hc_un (by omega), hc_un (by omega)]
    exact ⟨by omega, j2, hc_P1 j3⟩
  · rw [hw]
    by_cases e : q = K
    · subst e
      rw [hc_us, hc_us]
    · rw [hc_un e, hc_un e]
      exact i5 q (by omega) p
  · by_cases e : q = K
    · subst e
      rw [hc_us] at hP
      rw [hc_us, hc_us]
      by_cases e2 : b' = b
      · subst e2
        rw [hc_us]
      · rw [hc_un e2, i7 q b' (Nat.le_refl _)]
        exact (i10 a b' ha hb' hr (by unfold hc_P at *; omega)).symm
    · have hq2 : q < K := by omega
      rw [hc_un e] at hP
      rw [hc_un e, hc_un e]
      have h1 := hRa q hq2
      exact i6 q b' hq2 hb' (by unfold hc_P at *; omega)
  · rw [hc_un (by omega)]
    exact i7 q b' (by omega)
  · by_cases e : q = K
    · subst e
      rw [hc_us, hc_us]
      exact he
    · rw [hc_un e, hc_un e]
      exact i8 q (by omega)
  · by_cases e : q = K
    · subst e
      rw [hc_us] at hlt
      rw [hc_us]
      exact i10 a b' ha hb' hr (by unfold hc_P; omega)
    · rw [hc_un e] at hlt
      rw [hc_un e]
      exact i9 q b' (by omega) hb' hlt
  · rw [hc_b_ext (hw a')]
    have e : a' ≠ a := by
      intro e
      subst e
      rw [hc_us] at hr'
      exact nomatch hr'
    rw [hc_un e] at hr'
    exact i10 a' b' ha' hb' hr' (by unfold hc_P at *; omega)
  · have e1 : hc_c (fun i => (hc_up rp a (some K) i).isSome) 76 = hc_c (fun i => if i = a then true else (rp i).isSome) 76 := by
      refine hc_c_ext (fun i _ => ?_)
      by_cases e : i = a
      · subst e
        rw [hc_us, if_pos rfl]
        rfl
      · rw [hc_un e, if_neg e]
    rw [e1, hc_c_upd (f := fun i => (rp i).isSome) h76 (by rw [hr]; rfl), i11]
  · have e1 : hc_c (fun i => (hc_up cp b (some K) i).isSome) 76 = hc_c (fun i => if i = b then true else (cp i).isSome) 76 := by
      refine hc_c_ext (fun i _ => ?_)
      by_cases e : i = b
      · subst e
        rw [hc_us, if_pos rfl]
        rfl
      · rw [hc_un e, if_neg e]
    rw [e1, hc_c_upd (f := fun i => (cp i).isSome) hb76 (by rw [hc]; rfl), i12]
/-- the antidiagonal is done -/
theorem hc_done (I : hc_V E o (o + 1) K R C rp cp F D V) : hc_V E (o + 1) 0 K R C rp cp F D V := by
  obtain ⟨i1, i2, i3, i4, i5, i6, i7, i8, i9, i10, i11, i12⟩ := I
  have hp : ∀ a b, hc_P o (o + 1) a b → hc_P (o + 1) 0 a b := fun a b h => by unfold hc_P at *; omega
  have hp' : ∀ a b, hc_P (o + 1) 0 a b → hc_P o (o + 1) a b := fun a b h => by unfold hc_P at *; omega
  refine ⟨fun q hq => ?_, i2, i3, fun a' q hf => ?_, i5, fun q b hq hb hP => i6 q b hq hb (hp' _ _ hP), i7, i8, i9, fun a' b ha hb hr hP => i10 a' b ha hb hr (hp' _ _ hP), i11, i12⟩
  · obtain ⟨j1, j2, j3, j4, j5, j6, j7⟩ := i1 q hq
    exact ⟨j1, j2, j3, j4, hp _ _ j5, j6, j7⟩
  · obtain ⟨j1, j2, j3⟩ := i4 a' q hf
    exact ⟨j1, j2, hp _ _ j3⟩
/-- a gap's antidiagonal holds no pair -/
theorem hc_gapd (I : hc_V E o 0 K R C rp cp F D V) (h : ¬ hc_n o = true) : hc_V E (o + 1) 0 K R C rp cp F D V := by
  have h2 : ∀ a, hc_V E o a K R C rp cp F D V := by
    intro a
    induction a with
    | zero => exact I
    | succ a ih =>
      by_cases e : a ≤ o
      · refine hc_skip ih (fun c => h ?_)
        have := hc_n_add c.1 c.2
        rwa [show a + (o - a) = o from by omega] at this
      · obtain ⟨i1, i2, i3, i4, i5, i6, i7, i8, i9, i10, i11, i12⟩ := ih
        have hp : ∀ x b, hc_P o a x b → hc_P o (a + 1) x b := fun x b h => by unfold hc_P at *; omega
        have hp' : ∀ x b, hc_P o (a + 1) x b → hc_P o a x b := fun x b h => by unfold hc_P at *; omega
        refine ⟨fun q hq => ?_, i2, i3, fun a' q hf => ?_, i5, fun q b hq hb hP => i6 q b hq hb (hp' _ _ hP), i7, i8, i9, fun a' b ha hb hr hP => i10 a' b ha hb hr (hp' _ _ hP), i11, i12⟩
        · obtain ⟨j1, j2, j3, j4, j5, j6, j7⟩ := i1 q hq
          exact ⟨j1, j2, j3, j4, hp _ _ j5, j6, j7⟩
        · obtain ⟨j1, j2, j3⟩ := i4 a' q hf
          exact ⟨j1, j2, hp _ _ j3⟩
  exact hc_done (h2 (o + 1))
end
end
section
/-! ===== the majority ===== -/
/-- may the pair (a, o - a) become a pivot? -/
def hc_cd (rp cp : Nat → Option Nat) (o a : Nat) : Bool := hc_n a && hc_n (o - a) && (rp a).isNone && (cp (o - a)).isNone
theorem hc_cd_iff {rp cp : Nat → Option Nat} {o a : Nat} : hc_cd rp cp o a = true ↔ hc_n a = true ∧ hc_n (o - a) = true ∧ rp a = none ∧ cp (o - a) = none := by
  unfold hc_cd
  rw [Bool.and_eq_true, Bool.and_eq_true, Bool.and_eq_true, Option.isNone_iff_eq_none, Option.isNone_iff_eq_none, and_assoc, and_assoc]
theorem hc_gd0 : ∀ o : Fin 76, 24 ≤ o.val → 13 ≤ hc_c (fun a => hc_n a && hc_n (o.val - a)) (o.val + 1) := by decide +kernel
theorem hc_gd {o : Nat} (h : 24 ≤ o) (h2 : o ≤ 75) : 13 ≤ hc_c (fun a => hc_n a && hc_n (o - a)) (o + 1) := hc_gd0 ⟨o, by omega⟩ h
section
variable {E : Nat → BitVec 4} {o K : Nat} {R C : Nat → Nat} {rp cp : Nat → Option Nat} {F D V : Nat → Nat → BitVec 4}
theorem hc_false (h6 : hc_6 E) (I : hc_V E o 0 K R C rp cp F D V) (ho : o ≤ 75) :
    K + hc_c (fun a => hc_cd rp cp o a && !decide (hc_b E (hc_w F V a) (o - a) = 0)) (o + 1) ≤ 6 := by
  obtain ⟨P, hl, hP⟩ := h6
  obtain ⟨i1, i2, i3, i4, i5, i6, i7, i8, i9, i10, i11, i12⟩ := I
  have hQ : ∀ b, b ∈ (List.range 76).filter (fun b => (cp b).isSome || (decide (b ≤ o) && (hc_cd rp cp o (o - b) && !decide (hc_b E (hc_w F V (o - b)) (o - (o - b)) = 0)))) →
      (∃ q, cp b = some q) ∨ (cp b = none ∧ b ≤ o ∧ hc_n (o - b) = true ∧ hc_n b = true ∧ rp (o - b) = none ∧ hc_b E (hc_w F V (o - b)) b ≠ 0) := by
    intro b hb
    have hs := (List.mem_filter.mp hb).2
    rw [Bool.or_eq_true, Option.isSome_iff_exists, Bool.and_eq_true, Bool.and_eq_true, decide_eq_true_iff, hc_cd_iff, Bool.not_eq_true', decide_eq_false_iff_not] at hs
    rcases hs with h | ⟨h1, ⟨h2, h3, h4, h5⟩, h6⟩
    · exact Or.inl h
    · rw [show o - (o - b) = b from by omega] at h3 h5 h6
      exact Or.inr ⟨h5, h1, h2, h3, h4, h6⟩
  have h := hc_rank (P := P) (Q := (List.range 76).filter (fun b => (cp b).isSome || (decide (b ≤ o) && (hc_cd rp cp o (o - b) && !decide (hc_b E (hc_w F V (o - b)) (o - (o - b)) = 0))))) (E := E)
    (vec := fun b => if (cp b).isSome = true then V ((cp b).getD 0) else hc_w F V (o - b)) (u := hc_f) (N := 64)
    (List.Pairwise.filter _ List.nodup_range) hP
    (by
      intro b hb
      try dsimp only
      rcases hQ b hb with ⟨q, hq⟩ | ⟨h1, h2, h3, h4, h5, h6⟩
      · have h3 := i3 b q hq
        have h8 := i8 q h3.1
        rw [h3.2] at h8
        rw [hq]
        exact h8
      · rw [h1]
        exact h6)
    (by
      intro b c hb hc hlt
      have hn : hc_n c = true := by
        rcases hQ c hc with ⟨q2, hq2⟩ | ⟨h1, h2, h3, h4, h5, h6⟩
        · have h4 := i3 c q2 hq2
          have hn := (i1 q2 h4.1).2.2.2.1
          rwa [h4.2] at hn
        · exact h4
      try dsimp only
      rcases hQ b hb with ⟨q, hq⟩ | ⟨h1, h2, h3, h4, h5, h6⟩
      · have h3 := i3 b q hq
        have h9 := i9 q c h3.1 hn (by rw [h3.2]; exact hlt)
        rw [hq]
        exact h9
      · rw [h1]
        exact i10 (o - b) c h3 hn h5 (by unfold hc_P; omega))
  rw [hc_c_len] at h
  have e1 : hc_c (fun b => (cp b).isSome || (decide (b ≤ o) && (hc_cd rp cp o (o - b) && !decide (hc_b E (hc_w F V (o - b)) (o - (o - b)) = 0)))) 76
      = hc_c (fun b => (cp b).isSome) 76 + hc_c (fun b => decide (b ≤ o) && (hc_cd rp cp o (o - b) && !decide (hc_b E (hc_w F V (o - b)) (o - (o - b)) = 0))) 76 := by
    refine hc_c_add (fun b _ => ?_)
    cases hcb : cp b with
    | none => simp
    | some q =>
      have e2 : (decide (b ≤ o) && (hc_cd rp cp o (o - b) && !decide (hc_b E (hc_w F V (o - b)) (o - (o - b)) = 0))) = false := by
        cases hx : (decide (b ≤ o) && (hc_cd rp cp o (o - b) && !decide (hc_b E (hc_w F V (o - b)) (o - (o - b)) = 0))) with
        | false => rfl
        | true =>
          rw [Bool.and_eq_true, Bool.and_eq_true, decide_eq_true_iff, hc_cd_iff] at hx
          have h5 := hx.2.1.2.2.2
          rw [show o - (o - b) = b from by omega, hcb] at h5
          exact nomatch h5
      rw [e2]
      simp
  have e3 : hc_c (fun a => hc_cd rp cp o a && !decide (hc_b E (hc_w F V a) (o - a) = 0)) (o + 1)
      ≤ hc_c (fun b => decide (b ≤ o) && (hc_cd rp cp o (o - b) && !decide (hc_b E (hc_w F V (o - b)) (o - (o - b)) = 0))) 76 := by
    rw [← hc_c_rev]
    refine Nat.le_trans (Nat.le_of_eq (hc_c_ext (fun b hb => ?_))) (hc_c_mono _ (by omega : o + 1 ≤ 76))
    try dsimp only
    rw [decide_eq_true (by omega : b ≤ o), Bool.true_and]
  rw [e1, i12] at h
  omega
theorem hc_vote (h6 : hc_6 E) (I : hc_V E o 0 K R C rp cp F D V) (ho : 24 ≤ o) (ho2 : o ≤ 75) :
    hc_c (fun a => hc_cd rp cp o a && !decide (hc_b E (hc_w F V a) (o - a) = 0)) (o + 1) < hc_c (fun a => hc_cd rp cp o a && decide (hc_b E (hc_w F V a) (o - a) = 0)) (o + 1) := by
  have h1 := hc_false h6 I ho2
  obtain ⟨i1, i2, i3, i4, i5, i6, i7, i8, i9, i10, i11, i12⟩ := I
  have h2 : hc_c (hc_cd rp cp o) (o + 1) = hc_c (fun a => hc_cd rp cp o a && !decide (hc_b E (hc_w F V a) (o - a) = 0)) (o + 1) + hc_c (fun a => hc_cd rp cp o a && decide (hc_b E (hc_w F V a) (o - a) = 0)) (o + 1) := by
    refine hc_c_add (fun a _ => ?_)
    cases hc_cd rp cp o a <;> cases decide (hc_b E (hc_w F V a) (o - a) = 0) <;> rfl
  have h3 : hc_c (fun a => hc_n a && hc_n (o - a)) (o + 1) ≤ hc_c (hc_cd rp cp o) (o + 1) + hc_c (fun a => (rp a).isSome) (o + 1) + hc_c (fun a => (cp (o - a)).isSome) (o + 1) := by
    refine hc_c_le3 (fun a _ hg => ?_)
    rw [Bool.and_eq_true] at hg
    cases hr : rp a with
    | some q => exact Or.inr (Or.inl rfl)
    | none =>
      cases hc : cp (o - a) with
      | some q => exact Or.inr (Or.inr rfl)
      | none => exact Or.inl (hc_cd_iff.mpr ⟨hg.1, hg.2, hr, hc⟩)
  have h4 : hc_c (fun a => (rp a).isSome) (o + 1) ≤ K := by rw [← i11]; exact hc_c_mono _ (by omega)
  have h5 : hc_c (fun a => (cp (o - a)).isSome) (o + 1) ≤ K := by
    rw [hc_c_rev (fun a => (cp a).isSome) o]
    rw [← i12]; exact hc_c_mono _ (by omega)
  have h7 := hc_gd ho ho2
  omega
/-- the true value has more votes than any other -/
theorem hc_major (h6 : hc_6 E) (I : hc_V E o 0 K R C rp cp F D V) (ho : 24 ≤ o) (ho2 : o ≤ 75) {pv : Nat → BitVec 4}
    (hpv : ∀ a, a ≤ o → hc_cd rp cp o a = true → hc_S E o ^^^ pv a = hc_b E (hc_w F V a) (o - a)) {v : BitVec 4} (hv : v ≠ hc_S E o) :
    hc_c (fun a => hc_cd rp cp o a && decide (pv a = v)) (o + 1) < hc_c (fun a => hc_cd rp cp o a && decide (pv a = hc_S E o)) (o + 1) := by
  have h1 := hc_vote h6 I ho ho2
  have h2 : hc_c (fun a => hc_cd rp cp o a && decide (pv a = v)) (o + 1) ≤ hc_c (fun a => hc_cd rp cp o a && !decide (hc_b E (hc_w F V a) (o - a) = 0)) (o + 1) := by
    refine hc_c_le (fun a ha hx => ?_)
    rw [Bool.and_eq_true, decide_eq_true_iff] at hx
    rw [Bool.and_eq_true, Bool.not_eq_true', decide_eq_false_iff_not]
    refine ⟨hx.1, fun hz => hv ?_⟩
    rw [← hpv a (by omega) hx.1] at hz
    rw [hc_xz hz, hx.2]
  have h3 : hc_c (fun a => hc_cd rp cp o a && decide (hc_b E (hc_w F V a) (o - a) = 0)) (o + 1) ≤ hc_c (fun a => hc_cd rp cp o a && decide (pv a = hc_S E o)) (o + 1) := by
    refine hc_c_le (fun a ha hx => ?_)
    rw [Bool.and_eq_true, decide_eq_true_iff] at hx
    rw [Bool.and_eq_true, decide_eq_true_iff]
    refine ⟨hx.1, ?_⟩
    have hz := hx.2
    rw [← hpv a (by omega) hx.1] at hz
    exact (hc_xz hz).symm
  omega
end
end
section
/-! ===== the component's arithmetic ===== -/
theorem hc_lp {W : Nat → Nat → Prop} (e : Nat) (hx : ∀ n, W (n + 1) e) (hs : ∀ n i, i < e → W n (i + 1) → W (n + 1) i) : ∃ n, W n 0 := by
  have h : ∀ d i, i + d = e → W (d + 1) i := by
    intro d
    induction d with
    | zero => intro i hi; rw [show i = e from by omega]; exact hx 0
    | succ d ih => intro i hi; exact hs _ i (by omega) (ih (i + 1) (by omega))
  exact ⟨e + 1, h e 0 (by omega)⟩
theorem hc_lpc {W : Nat → Nat → Prop} {Q : Nat → Prop} (e : Nat) (hq : ∀ n, W n 0 → Q n) (hx : ∀ n, W (n + 1) e) (hs : ∀ n i, i < e → W n (i + 1) → W (n + 1) i) : ∃ n, Q n := by
  obtain ⟨n, h⟩ := hc_lp e hx hs
  exact ⟨n, hq n h⟩
theorem hc_sS (f : Nat → BitVec 4) (n : Nat) : hc_s f (n + 1) = hc_s f n ^^^ f n := rfl
theorem hc_ge : ∀ a b : BitVec 4, a ≠ 0 → b ≠ 0 → hc_g a + hc_g b < 30 ∧ hc_e (hc_g a + hc_g b) = hc_m a b := by decide +kernel
theorem hc_gdv : ∀ a b : BitVec 4, a ≠ 0 → b ≠ 0 → hc_g b ≤ hc_g a + 15 ∧ hc_g a + 15 - hc_g b < 30 ∧ hc_e (hc_g a + 15 - hc_g b) = hc_m a (hc_v b) := by decide +kernel
theorem hc_g15 : ∀ a : BitVec 4, hc_g a < 15 := by decide +kernel
theorem hc_gst : ∀ (i : Fin 15) (a : BitVec 4), a ≠ 0 → hc_e ((i.val + hc_g a) % 15) = hc_m (hc_e i.val) a := by decide +kernel
theorem hc_gp (a : BitVec 4) (ha : a ≠ 0) (n : Nat) : hc_e ((hc_g a * n) % 15) = hc_p a n := by
  induction n with
  | zero => exact (show hc_e 0 = 1 by decide)
  | succ n ih =>
    have h := hc_gst ⟨(hc_g a * n) % 15, Nat.mod_lt _ (by decide)⟩ a ha
    dsimp only at h
    rw [ih] at h
    rw [hc_p, ← h, Nat.mul_succ, Nat.mod_add_mod]
theorem hc_p0 {n : Nat} (h : 0 < n) : hc_p 0 n = 0 := by
  obtain ⟨k, rfl⟩ : ∃ k, n = k + 1 := ⟨n - 1, by omega⟩
  exact hc_m0 _
theorem hc_rem4 {o : Nat} (h : o < 1000) : nI o - nI o / 4 * 4 = nI (o % 4) := pk_rem (a := o) (d := 4) (by omega) (by decide) (by decide)
theorem hc_5 (j : Nat) : (5 : Int32) * nI j = nI (5 * j) := pk_mul 5 j
theorem hc_div4 {o : Nat} (h : o < 1000) : nI o / 4 = nI (o / 4) := pk_div (a := o) (d := 4) (by omega) (by decide) (by decide)
theorem hc_ii {o : Nat} (h : o < 1000) (hn : hc_n o = true) : (nI o - 5 * nI (o % 4)) / 4 = nI ((o - 5 * (o % 4)) / 4) := by
  rw [hc_n_iff] at hn
  rw [hc_5, pk_sub hn, hc_div4 (by omega)]
theorem hc_gap0 {post : Int32 → Prop} {o : Nat} (h : o < 1000) (hn : hc_n o = true) (hp : post 0) :
    ¬ (4 : Int32) = 0 ∧ ((0 ≤ (nI o - (5 * (nI o - nI o / 4 * 4))) → post 0) ∧ (¬ 0 ≤ (nI o - (5 * (nI o - nI o / 4 * 4))) → post 1)) := by
  rw [hc_n_iff] at hn
  refine ⟨by decide, br_t ?_ hp⟩
  rw [hc_rem4 h, hc_5, pk_sub hn]
  exact nI_pos' (by omega)
theorem hc_gap1 {post : Int32 → Prop} {o : Nat} (h : o < 1000) (hn : ¬ hc_n o = true) (hp : post 1) :
    ¬ (4 : Int32) = 0 ∧ ((0 ≤ (nI o - (5 * (nI o - nI o / 4 * 4))) → post 0) ∧ (¬ 0 ≤ (nI o - (5 * (nI o - nI o / 4 * 4))) → post 1)) := by
  rw [hc_n_iff] at hn
  refine ⟨by decide, br_f ?_ hp⟩
  rw [hc_rem4 h, hc_5]
  exact Int32.not_le.mpr (pk_sneg (by omega) (by omega))
/-- the component's tables -/
def hc_tb (a_exp a_log a_pointY a_messageOrder : Nat → Int32) : Prop :=
  (∀ i, i < 30 → a_exp i = hc_I (hc_e i)) ∧ (∀ x : BitVec 4, x ≠ 0 → a_log x.toNat = nI (hc_g x)) ∧ (∀ p, p < 64 → a_pointY p = hc_I (hc_y p)) ∧ (∀ k, k < 46 → a_messageOrder k = nI (hc_o k))
section
variable {f_hits f_limit f_phase f_known f_pivots : Int32} {a_exp a_log a_pointY a_messageOrder a_buffer a_word a_hitSet a_syndromes a_rowPivot a_colPivot a_factors a_reduced a_votes a_errors a_decoded : Nat → Int32}
theorem hx_gap0 {post : Int32 → Prop} {o : Nat} (h : o < 1000) (hn : hc_n o = true) (hp : post 0) : wpX_isGap post (f_hits, f_limit, f_phase, f_known, f_pivots, a_exp, a_log, a_pointY, a_messageOrder, a_buffer, a_word, a_hitSet, a_syndromes, a_rowPivot, a_colPivot, a_factors, a_reduced, a_votes, a_errors, a_decoded) (nI o) := hc_gap0 h hn hp
theorem hx_gap1 {post : Int32 → Prop} {o : Nat} (h : o < 1000) (hn : ¬ hc_n o = true) (hp : post 1) : wpX_isGap post (f_hits, f_limit, f_phase, f_known, f_pivots, a_exp, a_log, a_pointY, a_messageOrder, a_buffer, a_word, a_hitSet, a_syndromes, a_rowPivot, a_colPivot, a_factors, a_reduced, a_votes, a_errors, a_decoded) (nI o) := hc_gap1 h hn hp
/-- the tables that mul, divide and power read -/
def hc_el (a_exp a_log : Nat → Int32) : Prop := (∀ i, i < 30 → a_exp i = hc_I (hc_e i)) ∧ (∀ x : BitVec 4, x ≠ 0 → a_log x.toNat = nI (hc_g x))
theorem hx_mul (T : hc_el a_exp a_log) {post : Int32 → Prop} (a b : BitVec 4) (h : post (hc_I (hc_m a b))) : wpX_mul post (f_hits, f_limit, f_phase, f_known, f_pivots, a_exp, a_log, a_pointY, a_messageOrder, a_buffer, a_word, a_hitSet, a_syndromes, a_rowPivot, a_colPivot, a_factors, a_reduced, a_votes, a_errors, a_decoded) (hc_I a) (hc_I b) := by
  by_cases ha : a = 0
  · refine br_t (hc_Iz.mpr ha) ?_
    rw [ha, hc_0m] at h
    exact h
  · by_cases hb : b = 0
    · refine br_f (hc_Inz ha) (br_t (hc_Iz.mpr hb) ?_)
      rw [hb, hc_m0] at h
      exact h
    · refine br_f (hc_Inz ha) (br_f (hc_Inz hb) ⟨hc_Iin a, hc_Iin b, ?_⟩)
      obtain ⟨h1, h2⟩ := hc_ge a b ha hb
      rw [hc_Icl, hc_Icl, T.2 a ha, T.2 b hb, nI_add, nI_clamp (by omega), T.1 _ h1, h2]
      exact ⟨vp_in_nI h1 (by decide), h⟩
theorem hx_div (T : hc_el a_exp a_log) {post : Int32 → Prop} (a b : BitVec 4) (hb : b ≠ 0) (h : post (hc_I (hc_m a (hc_v b)))) : wpX_divide post (f_hits, f_limit, f_phase, f_known, f_pivots, a_exp, a_log, a_pointY, a_messageOrder, a_buffer, a_word, a_hitSet, a_syndromes, a_rowPivot, a_colPivot, a_factors, a_reduced, a_votes, a_errors, a_decoded) (hc_I a) (hc_I b) := by
  by_cases ha : a = 0
  · refine br_t (hc_Iz.mpr ha) ?_
    rw [ha, hc_0m] at h
    exact h
  · refine br_f (hc_Inz ha) (br_f (hc_Inz hb) ⟨hc_Iin a, hc_Iin b, ?_⟩)
    obtain ⟨h0, h1, h2⟩ := hc_gdv a b ha hb
    have e : nI (hc_g a) + 15 - nI (hc_g b) = nI (hc_g a + 15 - hc_g b) := by
      rw [show nI (hc_g a) + 15 = nI (hc_g a + 15) from nI_add _ 15, pk_sub h0]
    rw [hc_Icl, hc_Icl, T.2 a ha, T.2 b hb, e, nI_clamp (by omega), T.1 _ h1, h2]
    exact ⟨vp_in_nI h1 (by decide), h⟩
theorem hx_pow (T : hc_el a_exp a_log) {post : Int32 → Prop} (v : BitVec 4) (n : Nat) (hn : n < 1000) (h : post (hc_I (hc_p v n))) : wpX_power post (f_hits, f_limit, f_phase, f_known, f_pivots, a_exp, a_log, a_pointY, a_messageOrder, a_buffer, a_word, a_hitSet, a_syndromes, a_rowPivot, a_colPivot, a_factors, a_reduced, a_votes, a_errors, a_decoded) (hc_I v) (nI n) := by
  by_cases h0 : n = 0
  · subst h0
    exact br_t rfl h
  · have hz : ¬ nI n = 0 := nI_ne0 (by omega) (by omega)
    by_cases hv : v = 0
    · refine br_f hz (br_t (hc_Iz.mpr hv) ?_)
      rw [hv, hc_p0 (by omega)] at h
      exact h
    · refine br_f hz (br_f (hc_Inz hv) ⟨hc_Iin v, by decide, ?_⟩)
      have h15 := hc_g15 v
      have hb : hc_g v * n < 15000 := by
        have : hc_g v * n ≤ 15 * n := Nat.mul_le_mul_right n (by omega)
        omega
      have e : nI (hc_g v * n) - nI (hc_g v * n) / 15 * 15 = nI ((hc_g v * n) % 15) := pk_rem (a := hc_g v * n) (d := 15) (by omega) (by decide) (by decide)
      have hm : (hc_g v * n) % 15 < 15 := Nat.mod_lt _ (by decide)
      rw [hc_Icl, T.2 v hv, pk_mul, e, nI_clamp (by omega), T.1 _ (by omega), hc_gp v hv]
      exact ⟨vp_in_nI (by omega) (by decide), h⟩
theorem hc_tb_el (T : hc_tb a_exp a_log a_pointY a_messageOrder) : hc_el a_exp a_log := ⟨T.1, T.2.1⟩
theorem hc_xI {p : Nat} (hp : p < 64) : nI p / 4 = hc_I (hc_x p) := by
  rw [hc_div4 (by omega), hc_Iof (by omega)]
  rfl
theorem hx_mon (T : hc_tb a_exp a_log a_pointY a_messageOrder) {post : Int32 → Prop} {o p : Nat} (ho : o < 1000) (hn : hc_n o = true) (hp : p < 64) (h : post (hc_I (hc_f o p))) :
    wpX_monomial post (f_hits, f_limit, f_phase, f_known, f_pivots, a_exp, a_log, a_pointY, a_messageOrder, a_buffer, a_word, a_hitSet, a_syndromes, a_rowPivot, a_colPivot, a_factors, a_reduced, a_votes, a_errors, a_decoded) (nI o) (nI p) := by
  refine ⟨by decide, nm_r (hc_rem4 ho) ⟨by decide, nm_r (hc_ii ho hn) ⟨by decide, ?_⟩⟩⟩
  rw [hc_xI hp]
  refine hx_pow (hc_tb_el T) _ _ (by omega) ⟨vp_in_nI hp (by decide), ?_⟩
  rw [nI_clamp (by omega), T.2.2.1 p hp]
  exact hx_pow (hc_tb_el T) _ _ (by omega) (hx_mul (hc_tb_el T) _ _ h)
theorem hx_dual (T : hc_tb a_exp a_log a_pointY a_messageOrder) {post : Int32 → Prop} {i j p : Nat} (hi : i < 16) (hj : j < 4) (hp : p < 64) (h : post (hc_I (hc_d i j p))) :
    wpX_dual post (f_hits, f_limit, f_phase, f_known, f_pivots, a_exp, a_log, a_pointY, a_messageOrder, a_buffer, a_word, a_hitSet, a_syndromes, a_rowPivot, a_colPivot, a_factors, a_reduced, a_votes, a_errors, a_decoded) (nI i) (nI j) (nI p) := by
  have e15 : (15 : Int32) - nI i = nI (15 - i) := pk_sub (a := 15) (by omega)
  have e3 : (3 : Int32) - nI j = nI (3 - j) := pk_sub (a := 3) (by omega)
  have key : ∀ a : BitVec 4, a = hc_dx i (hc_x p) → wX_dual_23 post (nI j) (nI p) (hc_I a) f_hits f_limit f_phase f_known f_pivots a_exp a_log a_pointY a_messageOrder a_buffer a_word a_hitSet a_syndromes a_rowPivot a_colPivot a_factors a_reduced a_votes a_errors a_decoded := by
    intro a ea
    refine ⟨vp_in_nI hp (by decide), ?_⟩
    rw [nI_clamp (by omega), T.2.2.1 p hp, e3]
    refine hx_pow (hc_tb_el T) _ _ (by omega) ?_
    by_cases h0 : j = 0
    · refine br_t (by rw [h0]; rfl) (nm_r (e' := hc_I (hc_p (hc_y p) (3 - j) ^^^ 1)) (hc_Ix _ 1) ?_)
      refine hx_mul (hc_tb_el T) _ _ ?_
      rw [hc_d, ← ea, hc_dy, if_pos h0] at h
      exact h
    · refine br_f (nI_ne0 (by omega) (by omega)) ?_
      refine hx_mul (hc_tb_el T) _ _ ?_
      rw [hc_d, ← ea, hc_dy, if_neg h0] at h
      exact h
  refine ⟨by decide, ?_⟩
  rw [hc_xI hp, e15]
  refine hx_pow (hc_tb_el T) _ _ (by omega) ?_
  by_cases h0 : i = 0
  · refine br_t (by rw [h0]; rfl) (nm_r (e' := hc_I (hc_p (hc_x p) (15 - i) ^^^ 1)) (hc_Ix _ 1) ?_)
    exact key _ (by rw [hc_dx, if_pos h0])
  · refine br_f (nI_ne0 (by omega) (by omega)) ?_
    exact key _ (by rw [hc_dx, if_neg h0])
/-! sums over the arrays -/
theorem hx_code (T : hc_tb a_exp a_log a_pointY a_messageOrder) {B : Nat → BitVec 4} (hB : ∀ k, k < 46 → a_buffer k = hc_I (B k)) {post : Int32 → Prop} {p : Nat} (hp : p < 64)
    (h : post (hc_I (hc_W B p))) : wpX_codeSymbol post (f_hits, f_limit, f_phase, f_known, f_pivots, a_exp, a_log, a_pointY, a_messageOrder, a_buffer, a_word, a_hitSet, a_syndromes, a_rowPivot, a_colPivot, a_factors, a_reduced, a_votes, a_errors, a_decoded) (nI p) := by
  refine hc_lp (W := fun n k => wX_codeSymbol_4 post (nI p) f_hits f_limit f_phase f_known f_pivots a_exp a_log a_pointY a_messageOrder a_buffer a_word a_hitSet a_syndromes a_rowPivot a_colPivot a_factors a_reduced a_votes a_errors a_decoded n (hc_I (hc_s (fun k => hc_m (B k) (hc_f (hc_o k) p)) k)) (nI k)) 46 (fun n => ?_) (fun n k hk ih => ?_)
  · exact br_t (nI_le (a := 46) (by omega) (by decide)) h
  · have hn := hc_o_n hk
    have hl := hc_o_le hk
    refine br_f (nI_ge (b := 46) hk (by decide)) ⟨vp_in_nI hk (by decide), ?_⟩
    rw [nI_clamp (by omega), hB k hk]
    by_cases h0 : B k = 0
    · refine br_t (hc_Iz.mpr h0) (nm_r (nI_1 k) ?_)
      have e : hc_s (fun k => hc_m (B k) (hc_f (hc_o k) p)) (k + 1) = hc_s (fun k => hc_m (B k) (hc_f (hc_o k) p)) k := by
        rw [hc_s, h0, hc_0m, hc_x0]
      try dsimp only at ih
      rw [e] at ih
      exact ih
    · refine br_f (hc_Inz h0) ⟨vp_in_nI hk (by decide), ?_⟩
      rw [T.2.2.2 k hk]
      refine hx_mon T (by omega) hn hp ⟨vp_in_nI hk (by decide), ?_⟩
      exact hx_mul (hc_tb_el T) _ _ (nm_r (hc_Ix _ _) (nm_r (nI_1 k) ih))
theorem hx_meas (T : hc_tb a_exp a_log a_pointY a_messageOrder) {L : Nat → BitVec 4} (hL : ∀ p, p < 64 → a_word p = hc_I (L p)) {post : Int32 → Prop} {o : Nat} (ho : o < 76) (hn : hc_n o = true)
    (h : post (hc_I (hc_s (fun p => hc_m (L p) (hc_f o p)) 64))) : wpX_measure post (f_hits, f_limit, f_phase, f_known, f_pivots, a_exp, a_log, a_pointY, a_messageOrder, a_buffer, a_word, a_hitSet, a_syndromes, a_rowPivot, a_colPivot, a_factors, a_reduced, a_votes, a_errors, a_decoded) (nI o) := by
  refine hc_lp (W := fun n k => wX_measure_4 post (nI o) f_hits f_limit f_phase f_known f_pivots a_exp a_log a_pointY a_messageOrder a_buffer a_word a_hitSet a_syndromes a_rowPivot a_colPivot a_factors a_reduced a_votes a_errors a_decoded n (hc_I (hc_s (fun p => hc_m (L p) (hc_f o p)) k)) (nI k)) 64 (fun n => ?_) (fun n k hk ih => ?_)
  · exact br_t (nI_le (a := 64) (by omega) (by decide)) h
  · refine br_f (nI_ge (b := 64) hk (by decide)) ⟨vp_in_nI hk (by decide), ?_⟩
    rw [nI_clamp (by omega), hL k hk]
    by_cases h0 : L k = 0
    · refine br_t (hc_Iz.mpr h0) (nm_r (nI_1 k) ?_)
      have e : hc_s (fun p => hc_m (L p) (hc_f o p)) (k + 1) = hc_s (fun p => hc_m (L p) (hc_f o p)) k := by
        rw [hc_s, h0, hc_0m, hc_x0]
      try dsimp only at ih
      rw [e] at ih
      exact ih
    · refine br_f (hc_Inz h0) ?_
      refine hx_mon T (by omega) hn hk ⟨vp_in_nI hk (by decide), ?_⟩
      exact hx_mul (hc_tb_el T) _ _ (nm_r (hc_Ix _ _) (nm_r (nI_1 k) ih))
theorem hx_err (T : hc_tb a_exp a_log a_pointY a_messageOrder) {E : Nat → BitVec 4} (hS : ∀ o, o < 76 → hc_n o = true → a_syndromes o = hc_I (hc_S E o)) {post : Int32 → Prop} {p : Nat} (hp : p < 64)
    (h : post (hc_I (E p))) : wpX_errorAt post (f_hits, f_limit, f_phase, f_known, f_pivots, a_exp, a_log, a_pointY, a_messageOrder, a_buffer, a_word, a_hitSet, a_syndromes, a_rowPivot, a_colPivot, a_factors, a_reduced, a_votes, a_errors, a_decoded) (nI p) := by
  rw [← hc_err (E := E) hp] at h
  refine hc_lp (W := fun n j => wX_errorAt_4 post (nI p) f_hits f_limit f_phase f_known f_pivots a_exp a_log a_pointY a_messageOrder a_buffer a_word a_hitSet a_syndromes a_rowPivot a_colPivot a_factors a_reduced a_votes a_errors a_decoded n (hc_I (hc_s (fun j => hc_s (fun i => hc_m (hc_S E (4 * i + 5 * j)) (hc_d i j p)) 16) j)) (nI j)) 4 (fun n => ?_) (fun n j hj ih => ?_)
  · exact br_t (nI_le (a := 4) (by omega) (by decide)) h
  · refine br_f (nI_ge (b := 4) hj (by decide)) ?_
    refine hc_lpc (W := fun m i => wX_errorAt_12 post (wX_errorAt_4 post (nI p) f_hits f_limit f_phase f_known f_pivots a_exp a_log a_pointY a_messageOrder a_buffer a_word a_hitSet a_syndromes a_rowPivot a_colPivot a_factors a_reduced a_votes a_errors a_decoded n) (nI p) (nI j) f_hits f_limit f_phase f_known f_pivots a_exp a_log a_pointY a_messageOrder a_buffer a_word a_hitSet a_syndromes a_rowPivot a_colPivot a_factors a_reduced a_votes a_errors a_decoded m
      (hc_I (hc_s (fun j => hc_s (fun i => hc_m (hc_S E (4 * i + 5 * j)) (hc_d i j p)) 16) j ^^^ hc_s (fun i => hc_m (hc_S E (4 * i + 5 * j)) (hc_d i j p)) i)) (nI i)) 16 (fun m h2 => ?_) (fun m => ?_) (fun m i hi ih2 => ?_)
    · rw [hc_s.eq_1 (fun i => hc_m (hc_S E (4 * i + 5 * j)) (hc_d i j p)), hc_x0] at h2
      exact h2
    · exact br_t (nI_le (a := 16) (by omega) (by decide)) (nm_r (nI_1 j) ih)
    · have e4 : (4 : Int32) * nI i + 5 * nI j = nI (4 * i + 5 * j) := by
        rw [hc_5, show (4 : Int32) * nI i = nI (4 * i) from pk_mul 4 i, nI_add]
      refine br_f (nI_ge (b := 16) hi (by decide)) ?_
      rw [e4]
      refine ⟨vp_in_nI (by omega) (by decide), ?_⟩
      rw [nI_clamp (by omega), hS _ (by omega) (hc_ij_n i j hj)]
      refine nm_e ?_
      by_cases h0 : hc_S E (4 * i + 5 * j) = 0
      · refine br_t (hc_Iz.mpr h0) (nm_r (nI_1 i) ?_)
        try dsimp only at ih2
        rw [hc_sS _ i, h0, hc_0m, hc_x0] at ih2
        exact ih2
      · refine br_f (hc_Inz h0) ?_
        refine hx_dual T hi hj hp ?_
        refine hx_mul (hc_tb_el T) _ _ (nm_r (hc_Ix _ _) (nm_r (nI_1 i) ?_))
        try dsimp only at ih2
        rw [hc_sS _ i, ← BitVec.xor_assoc] at ih2
        exact ih2
theorem hx_coef (T : hc_tb a_exp a_log a_pointY a_messageOrder) {M : Nat → BitVec 4} (hL : ∀ p, p < 64 → a_word p ^^^ a_errors p = hc_I (hc_W M p)) {post : Int32 → Prop} {k : Nat} (hk : k < 46)
    (h : post (hc_I (M k))) : wpX_coefficient post (f_hits, f_limit, f_phase, f_known, f_pivots, a_exp, a_log, a_pointY, a_messageOrder, a_buffer, a_word, a_hitSet, a_syndromes, a_rowPivot, a_colPivot, a_factors, a_reduced, a_votes, a_errors, a_decoded) (nI (hc_o k)) := by
  rw [← hc_dec (M := M) hk] at h
  have hn := hc_o_n hk
  have hl := hc_o_le hk
  refine ⟨by decide, nm_r (hc_rem4 (by omega)) ⟨by decide, nm_r (hc_ii (by omega) hn) ?_⟩⟩
  rw [hc_n_iff] at hn
  refine hc_lp (W := fun n p => wX_coefficient_18 post (nI (hc_o k % 4)) (nI ((hc_o k - 5 * (hc_o k % 4)) / 4)) f_hits f_limit f_phase f_known f_pivots a_exp a_log a_pointY a_messageOrder a_buffer a_word a_hitSet a_syndromes a_rowPivot a_colPivot a_factors a_reduced a_votes a_errors a_decoded n (hc_I (hc_s (fun p => hc_m (hc_W M p) (hc_d ((hc_o k - 5 * (hc_o k % 4)) / 4) (hc_o k % 4) p)) p)) (nI p)) 64 (fun n => ?_) (fun n p hp ih => ?_)
  · exact br_t (nI_le (a := 64) (by omega) (by decide)) h
  · refine br_f (nI_ge (b := 64) hp (by decide)) ⟨vp_in_nI hp (by decide), vp_in_nI hp (by decide), ?_⟩
    rw [nI_clamp (by omega), hL p hp]
    refine nm_e ?_
    refine hx_dual T (by omega) (by omega) hp ?_
    exact hx_mul (hc_tb_el T) _ _ (nm_r (hc_Ix _ _) (nm_r (nI_1 p) ih))
end
end
section
/-! ===== the component's elimination ===== -/
def hc_q (x : Option Nat) : Int32 := match x with
  | none => -1
  | some q => nI q
def hc_Rp (rowp colp fac red : Nat → Int32) (rp cp : Nat → Option Nat) (F D : Nat → Nat → BitVec 4) : Prop :=
  (∀ a, a < 76 → rowp a = hc_q (rp a)) ∧ (∀ b, b < 76 → colp b = hc_q (cp b)) ∧ (∀ a q, a < 76 → q < 6 → fac (a * 6 + q) = hc_I (F a q)) ∧ (∀ q b, q < 6 → b < 76 → red (q * 76 + b) = hc_I (D q b))
/-- the syndromes below n are known -/
def hc_Sy (E : Nat → BitVec 4) (syn : Nat → Int32) (n : Nat) : Prop := ∀ o, o < n → hc_n o = true → syn o = hc_I (hc_S E o)
def hc_El (E : Nat → BitVec 4) (o a0 : Nat) (fp : Int32) (rowp colp fac red : Nat → Int32) : Prop :=
  ∃ (K : Nat) (R C : Nat → Nat) (rp cp : Nat → Option Nat) (F D V : Nat → Nat → BitVec 4), fp = nI K ∧ hc_V E o a0 K R C rp cp F D V ∧ hc_Rp rowp colp fac red rp cp F D
theorem hc_Rp_red {rowp colp fac red : Nat → Int32} {rp cp : Nat → Option Nat} {F D : Nat → Nat → BitVec 4} (h : hc_Rp rowp colp fac red rp cp F D) {q b : Nat} (hq : q < 6) (hb : b < 76) (e : BitVec 4) :
    hc_Rp rowp colp fac (upd red (q * 76 + b) (hc_I e)) rp cp F (hc_up D q (hc_up (D q) b e)) := by
  refine ⟨h.1, h.2.1, h.2.2.1, fun q' b' hq' hb' => ?_⟩
  by_cases e1 : q' = q
  · subst e1
    rw [hc_us]
    by_cases e2 : b' = b
    · subst e2
      rw [hc_us, pk_us]
    · rw [hc_un e2, pk_un (by omega)]
      exact h.2.2.2 q' b' hq' hb'
  · rw [hc_un e1, pk_un (by omega)]
    exact h.2.2.2 q' b' hq' hb'
theorem hc_Rp_fac {rowp colp fac red : Nat → Int32} {rp cp : Nat → Option Nat} {F D : Nat → Nat → BitVec 4} (h : hc_Rp rowp colp fac red rp cp F D) {a q : Nat} (ha : a < 76) (hq : q < 6) (e : BitVec 4) :
    hc_Rp rowp colp (upd fac (a * 6 + q) (hc_I e)) red rp cp (hc_up F a (hc_up (F a) q e)) D := by
  refine ⟨h.1, h.2.1, fun a' q' ha' hq' => ?_, h.2.2.2⟩
  by_cases e1 : a' = a
  · subst e1
    rw [hc_us]
    by_cases e2 : q' = q
    · subst e2
      rw [hc_us, pk_us]
    · rw [hc_un e2, pk_un (by omega)]
      exact h.2.2.1 a' q' ha' hq'
  · rw [hc_un e1, pk_un (by omega)]
    exact h.2.2.1 a' q' ha' hq'
theorem hc_Rp_piv {rowp colp fac red : Nat → Int32} {rp cp : Nat → Option Nat} {F D : Nat → Nat → BitVec 4} (h : hc_Rp rowp colp fac red rp cp F D) (a b K : Nat) :
    hc_Rp (upd rowp a (nI K)) (upd colp b (nI K)) fac red (hc_up rp a (some K)) (hc_up cp b (some K)) F D := by
  refine ⟨fun a' ha' => ?_, fun b' hb' => ?_, h.2.2⟩
  · by_cases e : a' = a
    · subst e
      rw [pk_us, hc_us]
      rfl
    · rw [pk_un e, hc_un e]
      exact h.1 a' ha'
  · by_cases e : b' = b
    · subst e
      rw [pk_us, hc_us]
      rfl
    · rw [pk_un e, hc_un e]
      exact h.2.1 b' hb'
theorem hc_El_done {E : Nat → BitVec 4} {o : Nat} {fp : Int32} {rowp colp fac red : Nat → Int32} (h : hc_El E o (o + 1) fp rowp colp fac red) : hc_El E (o + 1) 0 fp rowp colp fac red := by
  obtain ⟨K, R, C, rp, cp, F, D, V, e, I, Rp⟩ := h
  exact ⟨K, R, C, rp, cp, F, D, V, e, hc_done I, Rp⟩
theorem hc_El_gap {E : Nat → BitVec 4} {o : Nat} {fp : Int32} {rowp colp fac red : Nat → Int32} (h : hc_El E o 0 fp rowp colp fac red) (hn : ¬ hc_n o = true) : hc_El E (o + 1) 0 fp rowp colp fac red := by
  obtain ⟨K, R, C, rp, cp, F, D, V, e, I, Rp⟩ := h
  exact ⟨K, R, C, rp, cp, F, D, V, e, hc_gapd I hn, Rp⟩
theorem hc_El_skip {E : Nat → BitVec 4} {o a : Nat} {fp : Int32} {rowp colp fac red : Nat → Int32} (h : hc_El E o a fp rowp colp fac red) (hn : ¬ (hc_n a = true ∧ hc_n (o - a) = true)) : hc_El E o (a + 1) fp rowp colp fac red := by
  obtain ⟨K, R, C, rp, cp, F, D, V, e, I, Rp⟩ := h
  exact ⟨K, R, C, rp, cp, F, D, V, e, hc_skip I hn, Rp⟩
theorem hc_lt0 {n : Nat} (h : n < 1000) : ¬ nI n < 0 := nI_pos (by omega)
theorem hc_6i {a q : Nat} : nI a * 6 + nI q = nI (a * 6 + q) := by rw [show nI a * 6 = nI (a * 6) from pk_mul a 6, nI_add]
theorem hc_76i {q b : Nat} : nI q * 76 + nI b = nI (q * 76 + b) := by rw [show nI q * 76 = nI (q * 76) from pk_mul q 76, nI_add]
section
variable {f_hits f_limit f_phase f_known f_pivots : Int32} {a_exp a_log a_pointY a_messageOrder a_buffer a_word a_hitSet a_syndromes a_rowPivot a_colPivot a_factors a_reduced a_votes a_errors a_decoded : Nat → Int32}
/-- the predicted value -/
def hc_pv (E : Nat → BitVec 4) (K : Nat) (F D : Nat → Nat → BitVec 4) (a b : Nat) : BitVec 4 :=
  (if 4 ≤ a % 4 + b % 4 then hc_S E (a + b - 15) else 0) ^^^ hc_s (fun q => hc_m (F a q) (D q b)) K
theorem hx_predl (T : hc_el a_exp a_log) {K : Nat} {rp cp : Nat → Option Nat} {F D : Nat → Nat → BitVec 4} (hK : K ≤ 6) (Rp : hc_Rp a_rowPivot a_colPivot a_factors a_reduced rp cp F D)
    {a b : Nat} (ha : a < 76) (hb : b < 76) (c : BitVec 4) {post : Int32 → Prop} (h : post (hc_I (c ^^^ hc_s (fun q => hc_m (F a q) (D q b)) K))) :
    ∃ n, wX_predict_36 post (nI a) (nI b) f_hits f_limit f_phase f_known (nI K) a_exp a_log a_pointY a_messageOrder a_buffer a_word a_hitSet a_syndromes a_rowPivot a_colPivot a_factors a_reduced a_votes a_errors a_decoded n (hc_I c) 0 := by
  refine hc_lpc (W := fun n q => wX_predict_36 post (nI a) (nI b) f_hits f_limit f_phase f_known (nI K) a_exp a_log a_pointY a_messageOrder a_buffer a_word a_hitSet a_syndromes a_rowPivot a_colPivot a_factors a_reduced a_votes a_errors a_decoded n (hc_I (c ^^^ hc_s (fun q => hc_m (F a q) (D q b)) q)) (nI q)) K (fun n h2 => ?_) (fun n => ?_) (fun n q hq ih => ?_)
  · rw [hc_s, hc_x0] at h2
    exact h2
  · exact br_t (nI_le (by omega) (by omega)) h
  · refine br_f (nI_ge hq (by omega)) ?_
    rw [hc_6i, hc_76i]
    refine ⟨vp_in_nI (by omega) (by decide), vp_in_nI (by omega) (by decide), ?_⟩
    rw [nI_clamp (by omega), nI_clamp (by omega), Rp.2.2.1 a q ha (by omega), Rp.2.2.2 q b (by omega) hb]
    refine hx_mul T _ _ (nm_r (hc_Ix _ _) (nm_r (nI_1 q) ?_))
    try dsimp only at ih
    rw [hc_s, ← BitVec.xor_assoc] at ih
    exact ih
theorem hx_pred (T : hc_el a_exp a_log) {E : Nat → BitVec 4} {K : Nat} {rp cp : Nat → Option Nat} {F D : Nat → Nat → BitVec 4} (hK : K ≤ 6) (Rp : hc_Rp a_rowPivot a_colPivot a_factors a_reduced rp cp F D)
    {o : Nat} (Sy : hc_Sy E a_syndromes o) {a b : Nat} (hab : a + b = o) (ho : o < 76) (ha : hc_n a = true) (hb : hc_n b = true) {post : Int32 → Prop} (h : post (hc_I (hc_pv E K F D a b))) :
    wpX_predict post (f_hits, f_limit, f_phase, f_known, nI K, a_exp, a_log, a_pointY, a_messageOrder, a_buffer, a_word, a_hitSet, a_syndromes, a_rowPivot, a_colPivot, a_factors, a_reduced, a_votes, a_errors, a_decoded) (nI a) (nI b) := by
  refine ⟨by decide, by decide, ?_⟩
  rw [hc_rem4 (by omega), hc_rem4 (by omega), nI_add, nI_add]
  unfold hc_pv at h
  by_cases h4 : 4 ≤ a % 4 + b % 4
  · refine br_f (nI_nlt (b := 4) h4 (by omega)) ?_
    rw [hc_n_iff] at ha hb
    have hn : hc_n (a + b - 15) = true := by rw [hc_n_iff]; omega
    refine br_f (nI_nlt (b := 15) (by omega) (by omega)) ?_
    rw [show nI (a + b) - 15 = nI (a + b - 15) from pk_sub (b := 15) (by omega)]
    refine ⟨vp_in_nI (by omega) (by decide), nm_r (e' := hc_I (hc_S E (a + b - 15))) (by rw [nI_clamp (by omega)]; exact Sy _ (by omega) hn) ?_⟩
    refine hx_predl T hK Rp (by omega) (by omega) _ ?_
    rw [if_pos h4] at h
    exact h
  · refine br_t (nI_lt (b := 4) (by omega) (by decide)) ?_
    refine hx_predl T hK Rp (by omega) (by omega) 0 ?_
    rw [if_neg h4] at h
    exact h
theorem hx_settle (T : hc_el a_exp a_log) {E : Nat → BitVec 4} (h6 : hc_6 E) {o a b : Nat} (I : hc_El E o a f_pivots a_rowPivot a_colPivot a_factors a_reduced) (Sy : hc_Sy E a_syndromes (o + 1))
    (hab : a + b = o) (ho : o < 76) (ha : hc_n a = true) (hb : hc_n b = true) {post : SX → Prop}
    (h : ∀ fp ro cl fc rd, hc_El E o (a + 1) fp ro cl fc rd → post (f_hits, f_limit, f_phase, f_known, fp, a_exp, a_log, a_pointY, a_messageOrder, a_buffer, a_word, a_hitSet, a_syndromes, ro, cl, fc, rd, a_votes, a_errors, a_decoded)) : wpX_settle post (f_hits, f_limit, f_phase, f_known, f_pivots, a_exp, a_log, a_pointY, a_messageOrder, a_buffer, a_word, a_hitSet, a_syndromes, a_rowPivot, a_colPivot, a_factors, a_reduced, a_votes, a_errors, a_decoded) (nI a) (nI b) := by
  obtain ⟨K, R, C, rp, cp, F, D, V, rfl, I, Rp⟩ := I
  have hK := hc_K6 h6 I
  refine ⟨by rw [nI_add]; exact vp_in_nI (by omega) (by decide), ?_⟩
  refine hx_pred T hK Rp (fun o' ho' hn' => Sy o' (by omega) hn') hab ho ha hb ?_
  have he := hc_ent I hK hab ha hb
  refine nm_r (e' := hc_I (hc_b E (hc_w F V a) b)) (by rw [nI_add, nI_clamp (by omega), Sy (a + b) (by omega) (hc_n_add ha hb), hc_Ix, ← he]; rfl) ?_
  refine ⟨vp_in_nI (by omega) (by decide), nm_r (e' := hc_q (rp a)) (by rw [nI_clamp (by omega)]; exact Rp.1 a (by omega)) ?_⟩
  cases hr : rp a with
  | some q =>
    have hq := I.2.1 a q hr
    refine br_f (hc_lt0 (n := q) (by omega)) ?_
    show vp_in (nI q * 76 + nI b) 456 ∧ _
    rw [show hc_q (some q) = nI q from rfl, hc_76i]
    refine ⟨vp_in_nI (by omega) (by decide), ?_⟩
    rw [nI_clamp (by omega)]
    exact nm_e (h _ _ _ _ _ ⟨K, R, C, rp, cp, F, _, V, rfl, hc_ext I hab hr, hc_Rp_red Rp (by omega) (by omega) _⟩)
  | none =>
    refine br_t (show (-1 : Int32) < 0 by decide) ?_
    by_cases hz : hc_b E (hc_w F V a) b = 0
    · exact br_t (hc_Iz.mpr hz) (h _ _ _ _ _ ⟨K, R, C, rp, cp, F, D, V, rfl, hc_nil I hab hr hz, Rp⟩)
    · refine br_f (hc_Inz hz) ⟨vp_in_nI (by omega) (by decide), nm_r (e' := hc_q (cp b)) (by rw [nI_clamp (by omega)]; exact Rp.2.1 b (by omega)) ?_⟩
      cases hc : cp b with
      | some q =>
        have hq := I.2.2.1 b q hc
        obtain ⟨hD0, I2⟩ := hc_clr I hK hab hr hb hc
        refine br_f (hc_lt0 (n := q) (by omega)) ?_
        show vp_in (nI q * 76 + nI b) 456 ∧ _
        rw [show hc_q (some q) = nI q from rfl, hc_76i]
        refine ⟨vp_in_nI (by omega) (by decide), ?_⟩
        rw [nI_clamp (by omega), Rp.2.2.2 q b (by omega) (by omega)]
        refine hx_div T _ _ hD0 ?_
        rw [hc_6i]
        refine ⟨vp_in_nI (by omega) (by decide), ?_⟩
        rw [nI_clamp (by omega)]
        exact nm_e (h _ _ _ _ _ ⟨K, R, C, rp, cp, _, D, V, rfl, I2, hc_Rp_fac Rp (by omega) (by omega) _⟩)
      | none =>
        have I2 := hc_new I hab (by omega) (by omega) ha hb hr hc hz
        have hK2 := hc_K6 h6 I2
        refine br_t (show (-1 : Int32) < 0 by decide) ?_
        refine br_f (nI_ge (b := 6) (by omega) (by decide)) ⟨vp_in_nI (by omega) (by decide), ?_⟩
        rw [nI_clamp (by omega)]
        refine nm_e ⟨vp_in_nI (by omega) (by decide), ?_⟩
        rw [nI_clamp (by omega)]
        refine nm_e ?_
        rw [hc_76i]
        refine ⟨vp_in_nI (by omega) (by decide), ?_⟩
        rw [nI_clamp (by omega)]
        refine nm_e (nm_r (nI_1 K) ?_)
        exact h _ _ _ _ _ ⟨K + 1, _, _, _, _, F, _, _, rfl, I2, hc_Rp_red (hc_Rp_piv Rp a b K) (by omega) (by omega) _⟩
theorem hx_absorb (T : hc_el a_exp a_log) {E : Nat → BitVec 4} (h6 : hc_6 E) {o : Nat} (I : hc_El E o 0 f_pivots a_rowPivot a_colPivot a_factors a_reduced) (Sy : hc_Sy E a_syndromes (o + 1))
    (ho : o < 76) {post : SX → Prop}
    (h : ∀ fp ro cl fc rd, hc_El E (o + 1) 0 fp ro cl fc rd → post (f_hits, f_limit, f_phase, f_known, fp, a_exp, a_log, a_pointY, a_messageOrder, a_buffer, a_word, a_hitSet, a_syndromes, ro, cl, fc, rd, a_votes, a_errors, a_decoded)) : wpX_absorb post (f_hits, f_limit, f_phase, f_known, f_pivots, a_exp, a_log, a_pointY, a_messageOrder, a_buffer, a_word, a_hitSet, a_syndromes, a_rowPivot, a_colPivot, a_factors, a_reduced, a_votes, a_errors, a_decoded) (nI o) := by
  have key : ∀ (d a : Nat) (fp : Int32) (ro cl fc rd : Nat → Int32), a + d = o + 1 → hc_El E o a fp ro cl fc rd →
      wX_absorb_2 post (nI o) (d + 1) (nI a) f_hits f_limit f_phase f_known fp a_exp a_log a_pointY a_messageOrder a_buffer a_word a_hitSet a_syndromes ro cl fc rd a_votes a_errors a_decoded := by
    intro d
    induction d with
    | zero =>
      intro a fp ro cl fc rd had I
      have e : a = o + 1 := by omega
      subst e
      exact br_t (nI_lt (by omega) (by omega)) (h _ _ _ _ _ (hc_El_done I))
    | succ d ih =>
      intro a fp ro cl fc rd had I
      refine br_f (nI_nlt (by omega) (by omega)) (nm_r (e' := nI (o - a)) (pk_sub (by omega)) ?_)
      by_cases ha : hc_n a = true
      · refine hx_gap0 (by omega) ha (br_t rfl ?_)
        by_cases hb : hc_n (o - a) = true
        · refine hx_gap0 (by omega) hb (br_t rfl ?_)
          exact hx_settle T h6 I Sy (by omega) ho ha hb (fun fp ro cl fc rd I2 => nm_r (nI_1 a) (ih (a + 1) fp ro cl fc rd (by omega) I2))
        · refine hx_gap1 (by omega) hb (br_f (by decide) ?_)
          exact nm_r (nI_1 a) (ih (a + 1) fp ro cl fc rd (by omega) (hc_El_skip I (fun c => hb c.2)))
      · refine hx_gap1 (by omega) ha (br_f (by decide) ?_)
        exact nm_r (nI_1 a) (ih (a + 1) fp ro cl fc rd (by omega) (hc_El_skip I (fun c => ha c.1)))
  exact ⟨_, key (o + 1) 0 _ _ _ _ _ (by omega) I⟩
/-! the election -/
theorem hx_cand {rp cp : Nat → Option Nat} {F D : Nat → Nat → BitVec 4} (Rp : hc_Rp a_rowPivot a_colPivot a_factors a_reduced rp cp F D) {o a : Nat} (ha : a ≤ o) (ho : o < 76)
    (hq : ∀ x q, rp x = some q → q < 6) (hq2 : ∀ x q, cp x = some q → q < 6)
    {post : Int32 → Prop} (h1 : hc_cd rp cp o a = true → post 1) (h0 : ¬ hc_cd rp cp o a = true → post 0) : wpX_isCandidate post (f_hits, f_limit, f_phase, f_known, f_pivots, a_exp, a_log, a_pointY, a_messageOrder, a_buffer, a_word, a_hitSet, a_syndromes, a_rowPivot, a_colPivot, a_factors, a_reduced, a_votes, a_errors, a_decoded) (nI a) (nI (o - a)) := by
  unfold wpX_isCandidate
  dsimp only
  by_cases hna : hc_n a = true
  · refine hx_gap0 (by omega) hna (br_t rfl ?_)
    by_cases hnb : hc_n (o - a) = true
    · refine hx_gap0 (by omega) hnb (br_t rfl ⟨vp_in_nI (by omega) (by decide), ?_⟩)
      rw [nI_clamp (by omega), Rp.1 a (by omega)]
      cases hr : rp a with
      | some q => exact br_t (show 0 ≤ nI q from nI_pos' (by have := hq a q hr; omega)) (h0 (fun c => by have := (hc_cd_iff.mp c).2.2.1; rw [hr] at this; exact nomatch this))
      | none =>
        refine br_f (show ¬ (0 : Int32) ≤ -1 by decide) ⟨vp_in_nI (by omega) (by decide), ?_⟩
        rw [nI_clamp (by omega), Rp.2.1 (o - a) (by omega)]
        cases hc : cp (o - a) with
        | some q => exact br_t (show 0 ≤ nI q from nI_pos' (by have := hq2 _ q hc; omega)) (h0 (fun c => by have := (hc_cd_iff.mp c).2.2.2; rw [hc] at this; exact nomatch this))
        | none => exact br_f (show ¬ (0 : Int32) ≤ -1 by decide) (h1 (hc_cd_iff.mpr ⟨hna, hnb, hr, hc⟩))
    · exact hx_gap1 (by omega) hnb (br_f (by decide) (h0 (fun c => hnb (hc_cd_iff.mp c).2.1)))
  · exact hx_gap1 (by omega) hna (br_f (by decide) (h0 (fun c => hna (hc_cd_iff.mp c).1)))
/-- the search for the best -/
theorem hx_best {c : Nat → Nat} (hc : ∀ v, v < 16 → a_votes v = nI (c v)) (hb : ∀ v, v < 16 → c v < 1000) {s : Nat} (hs : s < 16) (hm : ∀ v, v < 16 → v ≠ s → c v < c s) {post : Int32 → SX → Prop}
    (h : post (nI s) (f_hits, f_limit, f_phase, f_known, f_pivots, a_exp, a_log, a_pointY, a_messageOrder, a_buffer, a_word, a_hitSet, a_syndromes, a_rowPivot, a_colPivot, a_factors, a_reduced, a_votes, a_errors, a_decoded)) : ∃ n, wX_elect_70 post f_hits f_limit f_phase f_known f_pivots a_exp a_log a_pointY a_messageOrder a_buffer a_word a_hitSet a_syndromes a_rowPivot a_colPivot a_factors a_reduced a_votes a_errors a_decoded n 0 1 := by
  have key : ∀ (d i b : Nat), i + d = 16 → 1 ≤ i → b < i → (∀ j, j < i → c j ≤ c b) → wX_elect_70 post f_hits f_limit f_phase f_known f_pivots a_exp a_log a_pointY a_messageOrder a_buffer a_word a_hitSet a_syndromes a_rowPivot a_colPivot a_factors a_reduced a_votes a_errors a_decoded (d + 1) (nI b) (nI i) := by
    intro d
    induction d with
    | zero =>
      intro i b hid h1 hbi hj
      have e : i = 16 := by omega
      subst e
      have e2 : b = s := Classical.byContradiction (fun n => by
        have h3 := hm b hbi n
        have h4 := hj s hs
        omega)
      subst e2
      exact br_t (nI_le (a := 16) (by omega) (by decide)) h
    | succ d ih =>
      intro i b hid h1 hbi hj
      refine br_f (nI_ge (b := 16) (by omega) (by decide)) ⟨vp_in_nI (by omega) (by decide), vp_in_nI (by omega) (by decide), ?_⟩
      have h3 := hb i (by omega)
      have h4 := hb b (by omega)
      rw [nI_clamp (by omega), nI_clamp (by omega), hc i (by omega), hc b (by omega)]
      refine pk_le (c i) (c b) (fun hle => ?_) (fun hlt => ?_)
      · exact nm_r (nI_1 i) (ih (i + 1) b (by omega) (by omega) (by omega) (fun j hji => by
          by_cases e : j = i
          · rw [e]; exact hle
          · exact hj j (by omega)))
      · exact nm_r (nI_1 i) (ih (i + 1) i (by omega) (by omega) (by omega) (fun j hji => by
          by_cases e : j = i
          · rw [e]; exact Nat.le_refl _
          · exact Nat.le_trans (hj j (by omega)) (Nat.le_of_lt hlt)))
  exact ⟨_, key 15 1 0 (by omega) (by omega) (by omega) (fun j hj => by rw [show j = 0 from by omega]; exact Nat.le_refl _)⟩
theorem hc_c_bd (f : Nat → Bool) (n : Nat) : hc_c f n ≤ n := by
  induction n with
  | zero => exact Nat.le_refl _
  | succ n ih =>
    rw [hc_c]
    by_cases h : f n = true
    · rw [if_pos h]; omega
    · rw [if_neg h]; omega
theorem hx_elect (T : hc_el a_exp a_log) {E : Nat → BitVec 4} (h6 : hc_6 E) {o : Nat} (I : hc_El E o 0 f_pivots a_rowPivot a_colPivot a_factors a_reduced) (Sy : hc_Sy E a_syndromes o)
    (ho1 : 24 ≤ o) (ho : o < 76) {post : Int32 → SX → Prop} (h : ∀ vt, post (hc_I (hc_S E o)) (f_hits, f_limit, f_phase, f_known, f_pivots, a_exp, a_log, a_pointY, a_messageOrder, a_buffer, a_word, a_hitSet, a_syndromes, a_rowPivot, a_colPivot, a_factors, a_reduced, vt, a_errors, a_decoded)) : wpX_elect post (f_hits, f_limit, f_phase, f_known, f_pivots, a_exp, a_log, a_pointY, a_messageOrder, a_buffer, a_word, a_hitSet, a_syndromes, a_rowPivot, a_colPivot, a_factors, a_reduced, a_votes, a_errors, a_decoded) (nI o) := by
  obtain ⟨K, R, C, rp, cp, F, D, V, rfl, I, Rp⟩ := I
  have hK := hc_K6 h6 I
  have hpv : ∀ a, a ≤ o → hc_cd rp cp o a = true → hc_S E o ^^^ hc_pv E K F D a (o - a) = hc_b E (hc_w F V a) (o - a) := by
    intro a ha hcd
    rw [hc_cd_iff] at hcd
    have := hc_ent I hK (show a + (o - a) = o by omega) hcd.1 hcd.2.1
    rw [← this]
    unfold hc_pv
    rw [show a + (o - a) = o by omega]
  have key : ∀ (d a : Nat) (vt : Nat → Int32), a + d = o + 1 → (∀ v : BitVec 4, vt v.toNat = nI (hc_c (fun a => hc_cd rp cp o a && decide (hc_pv E K F D a (o - a) = v)) a)) →
      wX_elect_23 post (nI o) f_hits f_limit f_phase f_known (nI K) (d + 1) (nI a) a_exp a_log a_pointY a_messageOrder a_buffer a_word a_hitSet a_syndromes a_rowPivot a_colPivot a_factors a_reduced vt a_errors a_decoded := by
    intro d
    induction d with
    | zero =>
      intro a vt had hv
      have e : a = o + 1 := by omega
      subst e
      refine br_t (nI_lt (by omega) (by omega)) ?_
      refine hx_best (c := fun v => hc_c (fun a => hc_cd rp cp o a && decide (hc_pv E K F D a (o - a) = BitVec.ofNat 4 v)) (o + 1)) (s := (hc_S E o).toNat) (fun v hv16 => ?_) (fun v _ => ?_) (hc_lt _) (fun v hv16 hne => ?_) (h vt)
      · have h1 := hv (BitVec.ofNat 4 v)
        rw [BitVec.toNat_ofNat, Nat.mod_eq_of_lt (show v < 2 ^ 4 from hv16)] at h1
        exact h1
      · have := hc_c_bd (fun a => hc_cd rp cp o a && decide (hc_pv E K F D a (o - a) = BitVec.ofNat 4 v)) (o + 1)
        try dsimp only
        omega
      · have h1 := hc_major h6 I ho1 (by omega) hpv (v := BitVec.ofNat 4 v) (fun c => hne (by
          have := congrArg BitVec.toNat c
          rw [BitVec.toNat_ofNat, Nat.mod_eq_of_lt (show v < 2 ^ 4 from hv16)] at this
          exact this))
        try dsimp only
        rw [show BitVec.ofNat 4 (hc_S E o).toNat = hc_S E o from by rw [BitVec.ofNat_toNat, BitVec.setWidth_eq]]
        exact h1
    | succ d ih =>
      intro a vt had hv
      refine br_f (nI_nlt (by omega) (by omega)) (nm_r (e' := nI (o - a)) (pk_sub (by omega)) ?_)
      refine hx_cand Rp (by omega) ho (fun x q hx => by have := (I.2.1 x q hx).1; omega) (fun x q hx => by have := (I.2.2.1 x q hx).1; omega) (fun hcd => ?_) (fun hcd => ?_)
      · refine br_f (by decide) ?_
        have hcd2 := hc_cd_iff.mp hcd
        refine hx_pred T hK Rp Sy (show a + (o - a) = o by omega) ho hcd2.1 hcd2.2.1 ?_
        refine ⟨hc_Iin _, hc_Iin _, ?_⟩
        rw [hc_Icl, hv]
        have hbd := hc_c_bd (fun a' => hc_cd rp cp o a' && decide (hc_pv E K F D a' (o - a') = hc_pv E K F D a (o - a))) a
        refine nm_r (e' := upd vt (hc_pv E K F D a (o - a)).toNat (nI (hc_c (fun a' => hc_cd rp cp o a' && decide (hc_pv E K F D a' (o - a') = hc_pv E K F D a (o - a))) a + 1))) (by rw [nI_1]) ?_
        refine nm_r (nI_1 a) (ih (a + 1) _ (by omega) (fun v => ?_))
        rw [hc_c]
        try dsimp only
        rw [hcd, Bool.true_and]
        by_cases e : hc_pv E K F D a (o - a) = v
        · subst e
          rw [pk_us, decide_eq_true rfl, if_pos rfl]
        · rw [pk_un (fun c => e (BitVec.eq_of_toNat_eq c.symm)), hv v, decide_eq_false e]
          rfl
      · refine br_t rfl ?_
        refine nm_r (nI_1 a) (ih (a + 1) vt (by omega) (fun v => ?_))
        rw [hc_c, hv v]
        try dsimp only
        rw [Bool.eq_false_iff.mpr hcd, Bool.false_and]
        rfl
  have key0 : ∀ (d i : Nat) (vt : Nat → Int32), i + d = 16 → (∀ j, j < i → vt j = 0) → wX_elect_2 post (nI o) f_hits f_limit f_phase f_known (nI K) (d + 1) (nI i) a_exp a_log a_pointY a_messageOrder a_buffer a_word a_hitSet a_syndromes a_rowPivot a_colPivot a_factors a_reduced vt a_errors a_decoded := by
    intro d
    induction d with
    | zero =>
      intro i vt hid hz
      have e : i = 16 := by omega
      subst e
      exact br_t (nI_le (a := 16) (by omega) (by decide)) ⟨_, key (o + 1) 0 vt (by omega) (fun v => hz _ (hc_lt v))⟩
    | succ d ih =>
      intro i vt hid hz
      refine br_f (nI_ge (b := 16) (by omega) (by decide)) ⟨vp_in_nI (by omega) (by decide), ?_⟩
      rw [nI_clamp (by omega)]
      refine nm_e (nm_r (nI_1 i) (ih (i + 1) _ (by omega) (fun j hj => ?_)))
      by_cases e : j = i
      · subst e
        exact pk_us
      · rw [pk_un e]
        exact hz j (by omega)
  exact ⟨_, key0 16 0 a_votes (by omega) (fun j hj => absurd hj (Nat.not_lt_zero j))⟩
end
end
section
/-! ===== the reference's arithmetic ===== -/
def hy_t1 (a b t x : Int32) : Int32 := if (((b.toUInt32 >>> (t.toUInt32 &&& Int32.toUInt32 31)).toInt32) &&& 1) = 1 then x ^^^ (a <<< (t &&& 31)) else x
def hy_t2 (t x : Int32) : Int32 := if (((x.toUInt32 >>> (t.toUInt32 &&& Int32.toUInt32 31)).toInt32) &&& 1) = 1 then x ^^^ ((19 : Int32) <<< ((t - 4) &&& 31)) else x
def hy_ac (a b : Int32) : Nat → Int32
  | 0 => 0
  | t + 1 => hy_t1 a b (nI t) (hy_ac a b t)
theorem hy_tm : ∀ a b : BitVec 4, hy_t2 (nI 4) (hy_t2 (nI 5) (hy_t2 (nI 6) (hy_ac (hc_I a) (hc_I b) 4))) = hc_I (hc_m a b) := by decide +kernel
theorem hc_m1n {t : Nat} (h : 0 < t) : nI t + (-1) = nI (t - 1) := by
  obtain ⟨k, rfl⟩ : ∃ k, t = k + 1 := ⟨t - 1, by omega⟩
  exact pk_m1 k
def hc_ty (b_xs b_ys : Nat → Int32) : Prop := (∀ p, p < 64 → b_xs p = hc_I (hc_x p)) ∧ (∀ p, p < 64 → b_ys p = hc_I (hc_y p))
def hc_Bo (b : Bool) : Int32 := if b = true then 1 else 0
section
variable {g_limit g_known g_phaseNow : Int32} {b_xs b_ys b_buffer b_sent b_word b_onLine b_hitAt : Nat → Int32}
theorem hy_38 {post : Int32 → Prop} {n t : Nat} {x : Int32} (ht : 4 ≤ t) (ht2 : t < 32) (h : wY_times_38 post g_limit g_known g_phaseNow b_xs b_ys b_buffer b_sent b_word b_onLine b_hitAt n (hy_t2 (nI t) x) (nI (t - 1))) : wY_times_38 post g_limit g_known g_phaseNow b_xs b_ys b_buffer b_sent b_word b_onLine b_hitAt (n + 1) x (nI t) := by
  refine br_f (nI_nlt (b := 4) ht (by omega)) ?_
  by_cases hc : (((x.toUInt32 >>> ((nI t).toUInt32 &&& Int32.toUInt32 31)).toInt32) &&& 1) = 1
  · exact br_t hc (nm_r (e' := hy_t2 (nI t) x) (by rw [hy_t2, if_pos hc]) (nm_r (e' := nI (t - 1)) (hc_m1n (by omega)) h))
  · rw [hy_t2, if_neg hc] at h
    exact br_f hc (nm_r (e' := nI (t - 1)) (hc_m1n (by omega)) h)
theorem hy_times {post : Int32 → Prop} (a b : BitVec 4) (h : post (hc_I (hc_m a b))) : wpY_times post (g_limit, g_known, g_phaseNow, b_xs, b_ys, b_buffer, b_sent, b_word, b_onLine, b_hitAt) (hc_I a) (hc_I b) := by
  refine hc_lp (W := fun n t => wY_times_5 post (hc_I a) (hc_I b) g_limit g_known g_phaseNow b_xs b_ys b_buffer b_sent b_word b_onLine b_hitAt n (hy_ac (hc_I a) (hc_I b) t) (nI t)) 4 (fun n => ?_) (fun n t ht ih => ?_)
  · refine br_t (nI_le (a := 4) (by omega) (by decide)) ⟨4, ?_⟩
    refine hy_38 (t := 6) (by omega) (by omega) (hy_38 (t := 5) (by omega) (by omega) (hy_38 (t := 4) (by omega) (by omega) ?_))
    rw [hy_tm]
    exact br_t (nI_lt (a := 3) (b := 4) (by omega) (by decide)) h
  · refine br_f (nI_ge (b := 4) ht (by decide)) ?_
    try dsimp only at ih
    rw [hy_ac, hy_t1] at ih
    by_cases hc : ((((hc_I b).toUInt32 >>> ((nI t).toUInt32 &&& Int32.toUInt32 31)).toInt32) &&& 1) = 1
    · rw [if_pos hc] at ih
      exact br_t hc (nm_e (nm_r (nI_1 t) ih))
    · rw [if_neg hc] at ih
      exact br_f hc (nm_r (nI_1 t) ih)
theorem hy_pow {post : Int32 → Prop} (v : BitVec 4) (m : Nat) (hm : m < 1000) (h : post (hc_I (hc_p v m))) : wpY_power post (g_limit, g_known, g_phaseNow, b_xs, b_ys, b_buffer, b_sent, b_word, b_onLine, b_hitAt) (hc_I v) (nI m) := by
  refine hc_lp (W := fun n k => wY_power_5 post (hc_I v) (nI m) g_limit g_known g_phaseNow b_xs b_ys b_buffer b_sent b_word b_onLine b_hitAt n (hc_I (hc_p v k)) (nI k)) m (fun n => ?_) (fun n k hk ih => ?_)
  · exact br_t (nI_le (by omega) (by omega)) h
  · refine br_f (nI_ge hk (by omega)) ?_
    exact hy_times _ _ (nm_r (nI_1 k) ih)
theorem hy_gap0 {post : Int32 → Prop} {o : Nat} (h : o < 1000) (hn : hc_n o = true) (hp : post 0) : wpY_gap post (g_limit, g_known, g_phaseNow, b_xs, b_ys, b_buffer, b_sent, b_word, b_onLine, b_hitAt) (nI o) := hc_gap0 h hn hp
theorem hy_gap1 {post : Int32 → Prop} {o : Nat} (h : o < 1000) (hn : ¬ hc_n o = true) (hp : post 1) : wpY_gap post (g_limit, g_known, g_phaseNow, b_xs, b_ys, b_buffer, b_sent, b_word, b_onLine, b_hitAt) (nI o) := hc_gap1 h hn hp
theorem hy_f (T : hc_ty b_xs b_ys) {post : Int32 → Prop} {o p : Nat} (ho : o < 1000) (hn : hc_n o = true) (hp : p < 64) (h : post (hc_I (hc_f o p))) : wpY_f post (g_limit, g_known, g_phaseNow, b_xs, b_ys, b_buffer, b_sent, b_word, b_onLine, b_hitAt) (nI o) (nI p) := by
  refine ⟨by decide, nm_r (hc_rem4 ho) ⟨vp_in_nI hp (by decide), by decide, ?_⟩⟩
  rw [hc_ii ho hn, nI_clamp (by omega), T.1 p hp]
  refine hy_pow _ _ (by omega) ⟨vp_in_nI hp (by decide), ?_⟩
  rw [T.2 p hp]
  exact hy_pow _ _ (by omega) (hy_times _ _ h)
theorem hy_enc (T : hc_ty b_xs b_ys) {M : Nat → BitVec 4} (hM : ∀ k, k < 46 → b_sent k = hc_I (M k)) {post : Int32 → Prop} {p : Nat} (hp : p < 64) (h : post (hc_I (hc_W M p))) : wpY_encoded post (g_limit, g_known, g_phaseNow, b_xs, b_ys, b_buffer, b_sent, b_word, b_onLine, b_hitAt) (nI p) := by
  refine hc_lp (W := fun n o => wY_encoded_7 post (nI p) g_limit g_known g_phaseNow b_xs b_ys b_buffer b_sent b_word b_onLine b_hitAt n (hc_I (hc_s (fun k => hc_m (M k) (hc_f (hc_o k) p)) (hc_c hc_n o))) (nI (hc_c hc_n o)) (nI o)) 52 (fun n => ?_) (fun n o ho ih => ?_)
  · try dsimp only
    rw [hc_o2]
    exact br_t (nI_lt (a := 51) (by omega) (by decide)) h
  · refine br_f (nI_nlt (b := o) (a := 51) (by omega) (by decide)) ?_
    try dsimp only at ih
    rw [hc_c] at ih
    by_cases hn : hc_n o = true
    · have h1 := hc_o1 ⟨o, ho⟩ hn
      dsimp only at h1
      rw [if_pos hn, hc_s, h1.2] at ih
      refine hy_gap0 (by omega) hn (br_t rfl (br_f (nI_ge (b := 46) h1.1 (by decide)) ?_))
      refine hy_f T (by omega) hn hp ⟨vp_in_nI h1.1 (by decide), ?_⟩
      rw [nI_clamp (by omega), hM _ h1.1]
      exact hy_times _ _ (nm_r (hc_Ix _ _) (nm_r (nI_1 _) (nm_r (nI_1 o) ih)))
    · rw [if_neg hn] at ih
      exact hy_gap1 (by omega) hn (br_f (by decide) (nm_r (nI_1 o) ih))
theorem hy_sum (T : hc_ty b_xs b_ys) {E : Nat → BitVec 4} (hE : ∀ p, p < 64 → b_onLine p ^^^ b_word p = hc_I (E p)) {post : Int32 → Prop} {o : Nat} (ho : o < 76) (hn : hc_n o = true) (h : post (hc_I (hc_S E o))) : wpY_errorSum post (g_limit, g_known, g_phaseNow, b_xs, b_ys, b_buffer, b_sent, b_word, b_onLine, b_hitAt) (nI o) := by
  refine hc_lp (W := fun n p => wY_errorSum_4 post (nI o) g_limit g_known g_phaseNow b_xs b_ys b_buffer b_sent b_word b_onLine b_hitAt n (hc_I (hc_s (fun p => hc_m (E p) (hc_f o p)) p)) (nI p)) 64 (fun n => ?_) (fun n p hp ih => ?_)
  · exact br_t (nI_le (a := 64) (by omega) (by decide)) h
  · refine br_f (nI_ge (b := 64) hp (by decide)) ?_
    refine hy_f T (by omega) hn hp ⟨vp_in_nI hp (by decide), vp_in_nI hp (by decide), ?_⟩
    rw [nI_clamp (by omega), hE p hp]
    exact hy_times _ _ (nm_r (hc_Ix _ _) (nm_r (nI_1 p) ih))
theorem hy_left {H : Nat → Bool} {l : Nat} (hH : ∀ p, p < 64 → b_hitAt p = hc_Bo (H p)) (hl : hc_c H 64 ≤ l) {post : Int32 → Prop} (h : post (nI (l - hc_c H 64))) : wpY_left post (nI l, g_known, g_phaseNow, b_xs, b_ys, b_buffer, b_sent, b_word, b_onLine, b_hitAt) := by
  refine hc_lp (W := fun n p => wY_left_7 post (nI l) g_known g_phaseNow b_xs b_ys b_buffer b_sent b_word b_onLine b_hitAt n (nI (l - hc_c H p)) (nI p)) 64 (fun n => ?_) (fun n p hp ih => ?_)
  · exact br_t (nI_le (a := 64) (by omega) (by decide)) h
  · refine br_f (nI_ge (b := 64) hp (by decide)) ⟨vp_in_nI hp (by decide), ?_⟩
    rw [nI_clamp (by omega), hH p hp]
    have hm := hc_c_mono H (show p + 1 ≤ 64 from hp)
    try dsimp only at ih
    rw [hc_c] at ih hm
    by_cases hb : H p = true
    · rw [if_pos hb] at ih hm
      rw [hb]
      refine br_f (by decide) (nm_r (e' := nI (l - (hc_c H p + 1))) ?_ (nm_r (nI_1 p) ih))
      rw [hc_m1n (by omega)]
      rfl
    · rw [if_neg hb] at ih
      rw [Bool.eq_false_iff.mpr hb]
      exact br_t rfl (nm_r (nI_1 p) ih)
theorem hc_Ine {w e : BitVec 4} : hc_I (w ^^^ e) = hc_I w ↔ e = 0 := by
  rw [hc_Ieq]
  constructor
  · intro h
    have := congrArg (fun z => w ^^^ z) h
    try dsimp only at this
    rw [hc_xc', hc_xx] at this
    exact this
  · intro h
    rw [h, hc_x0]
theorem hy_errs {W E : Nat → BitVec 4} (h1 : ∀ p, p < 64 → b_onLine p = hc_I (W p ^^^ E p)) (h2 : ∀ p, p < 64 → b_word p = hc_I (W p)) {post : Int32 → Prop} (h : post (nI (hc_c (fun p => !decide (E p = 0)) 64))) : wpY_errors post (g_limit, g_known, g_phaseNow, b_xs, b_ys, b_buffer, b_sent, b_word, b_onLine, b_hitAt) := by
  refine hc_lp (W := fun n p => wY_errors_4 post g_limit g_known g_phaseNow b_xs b_ys b_buffer b_sent b_word b_onLine b_hitAt n (nI (hc_c (fun p => !decide (E p = 0)) p)) (nI p)) 64 (fun n => ?_) (fun n p hp ih => ?_)
  · exact br_t (nI_le (a := 64) (by omega) (by decide)) h
  · refine br_f (nI_ge (b := 64) hp (by decide)) ⟨vp_in_nI hp (by decide), vp_in_nI hp (by decide), ?_⟩
    rw [nI_clamp (by omega), h1 p hp, h2 p hp]
    try dsimp only at ih
    rw [hc_c] at ih
    by_cases hz : E p = 0
    · rw [decide_eq_true hz] at ih
      exact br_t (hc_Ine.mpr hz) (nm_r (nI_1 p) ih)
    · rw [decide_eq_false hz] at ih
      exact br_f (fun c => hz (hc_Ine.mp c)) (nm_r (nI_1 _) (nm_r (nI_1 p) ih))
/-- the count of non-zero syndromes up to 23 -/
def hc_cs (E : Nat → BitVec 4) (o : Nat) : Nat := hc_c (fun o => hc_n o && !decide (hc_S E o = 0)) o
theorem hy_lis (T : hc_ty b_xs b_ys) {E : Nat → BitVec 4} (hE : ∀ p, p < 64 → b_onLine p ^^^ b_word p = hc_I (E p)) {post : Int32 → SY → Prop} (h : post (nI (hc_cs E 24)) (g_limit, 23, 2, b_xs, b_ys, b_buffer, b_sent, b_word, b_onLine, b_hitAt)) : wpY_listen post (g_limit, g_known, 1, b_xs, b_ys, b_buffer, b_sent, b_word, b_onLine, b_hitAt) := by
  refine br_t rfl ?_
  refine hc_lp (W := fun n o => wY_listen_26 post g_limit 23 2 b_xs b_ys b_buffer b_sent b_word b_onLine b_hitAt n (nI (hc_cs E o)) (nI o)) 24 (fun n => ?_) (fun n o ho ih => ?_)
  · exact br_t (nI_lt (a := 23) (by omega) (by decide)) h
  · refine br_f (nI_nlt (b := o) (a := 23) (by omega) (by decide)) ?_
    try dsimp only at ih
    rw [hc_cs, hc_c] at ih
    by_cases hn : hc_n o = true
    · refine hy_gap0 (by omega) hn (br_t rfl ?_)
      refine hy_sum T hE (by omega) hn ?_
      rw [hn, Bool.true_and] at ih
      by_cases hz : hc_S E o = 0
      · rw [decide_eq_true hz] at ih
        exact br_t (hc_Iz.mpr hz) (nm_r (nI_1 o) ih)
      · rw [decide_eq_false hz] at ih
        exact br_f (hc_Inz hz) (nm_r (nI_1 _) (nm_r (nI_1 o) ih))
    · rw [Bool.eq_false_iff.mpr hn, Bool.false_and] at ih
      exact hy_gap1 (by omega) hn (br_f (by decide) (nm_r (nI_1 o) ih))
end
end
section
/-! ===== the reference's storing methods ===== -/
section
variable {g_limit g_known g_phaseNow : Int32} {b_xs b_ys b_buffer b_sent b_word b_onLine b_hitAt : Nat → Int32}
theorem hc_bo0 : vp_nar .boolean 0 = 0 := rfl
theorem hc_bo1 : vp_nar .boolean 1 = 1 := rfl
theorem hy_line {post : SY → Prop} (h : ∀ ol ht, (∀ p, p < 64 → ol p = b_word p) → (∀ p, p < 64 → ht p = 0) → post (g_limit, -1, 1, b_xs, b_ys, b_buffer, b_sent, b_word, ol, ht)) : wpY_putWordOnLine post (g_limit, g_known, g_phaseNow, b_xs, b_ys, b_buffer, b_sent, b_word, b_onLine, b_hitAt) := by
  have key2 : ∀ (ol : Nat → Int32), (∀ p, p < 64 → ol p = b_word p) → ∀ (d i : Nat) (ht : Nat → Int32), i + d = 64 → (∀ p, p < i → ht p = 0) → wY_putWordOnLine_28 post g_limit g_known g_phaseNow (d + 1) (nI i) b_xs b_ys b_buffer b_sent b_word ol ht := by
    intro ol hol d
    induction d with
    | zero =>
      intro i ht hid hz
      have e : i = 64 := by omega
      subst e
      exact br_t (nI_le (a := 64) (by omega) (by decide)) (h ol ht hol hz)
    | succ d ih =>
      intro i ht hid hz
      refine br_f (nI_ge (b := 64) (by omega) (by decide)) ⟨vp_in_nI (by omega) (by decide), ?_⟩
      rw [nI_clamp (by omega)]
      refine nm_e (nm_r (nI_1 i) (ih (i + 1) _ (by omega) (fun p hp => ?_)))
      by_cases e : p = i
      · subst e
        exact pk_us
      · rw [pk_un e]
        exact hz p (by omega)
  have key1 : ∀ (d i : Nat) (ol : Nat → Int32), i + d = 64 → (∀ p, p < i → ol p = b_word p) → wY_putWordOnLine_2 post g_limit g_known g_phaseNow (d + 1) (nI i) b_xs b_ys b_buffer b_sent b_word ol b_hitAt := by
    intro d
    induction d with
    | zero =>
      intro i ol hid hz
      have e : i = 64 := by omega
      subst e
      exact br_t (nI_le (a := 64) (by omega) (by decide)) ⟨_, key2 ol hz 64 0 b_hitAt (by omega) (fun p hp => absurd hp (Nat.not_lt_zero p))⟩
    | succ d ih =>
      intro i ol hid hz
      refine br_f (nI_ge (b := 64) (by omega) (by decide)) ⟨vp_in_nI (by omega) (by decide), vp_in_nI (by omega) (by decide), ?_⟩
      rw [nI_clamp (by omega)]
      refine nm_e (nm_r (nI_1 i) (ih (i + 1) _ (by omega) (fun p hp => ?_)))
      by_cases e : p = i
      · subst e
        exact pk_us
      · rw [pk_un e]
        exact hz p (by omega)
  exact ⟨_, key1 64 0 b_onLine (by omega) (fun p hp => absurd hp (Nat.not_lt_zero p))⟩
theorem hy_send (T : hc_ty b_xs b_ys) {B : Nat → BitVec 4} (hB : ∀ k, k < 46 → b_buffer k = hc_I (B k)) {post : Int32 → SY → Prop}
    (h : ∀ se wo ol ht, (∀ k, k < 46 → se k = hc_I (B k)) → (∀ p, p < 64 → wo p = hc_I (hc_W B p)) → (∀ p, p < 64 → ol p = hc_I (hc_W B p)) → (∀ p, p < 64 → ht p = 0) →
      post (nI (hc_c (fun p => !decide (hc_W B p = 0)) 64)) (g_limit, -1, 1, b_xs, b_ys, b_buffer, se, wo, ol, ht)) : wpY_send post (g_limit, g_known, g_phaseNow, b_xs, b_ys, b_buffer, b_sent, b_word, b_onLine, b_hitAt) := by
  have key2 : ∀ (se : Nat → Int32), (∀ k, k < 46 → se k = hc_I (B k)) → ∀ (d i : Nat) (wo : Nat → Int32), i + d = 64 → (∀ p, p < i → wo p = hc_I (hc_W B p)) →
      wY_send_30 post g_limit g_known g_phaseNow (d + 1) (nI (hc_c (fun p => !decide (hc_W B p = 0)) i)) (nI i) b_xs b_ys b_buffer se wo b_onLine b_hitAt := by
    intro se hse d
    induction d with
    | zero =>
      intro i wo hid hz
      have e : i = 64 := by omega
      subst e
      exact br_t (nI_le (a := 64) (by omega) (by decide)) (hy_line (fun ol ht h1 h2 => h se wo ol ht hse hz (fun p hp => (h1 p hp).trans (hz p hp)) h2))
    | succ d ih =>
      intro i wo hid hz
      have hi : i < 64 := by omega
      refine br_f (nI_ge (b := 64) hi (by decide)) ?_
      refine hy_enc T hse hi ⟨vp_in_nI hi (by decide), ?_⟩
      rw [nI_clamp (by omega)]
      refine nm_e ⟨vp_in_nI hi (by decide), ?_⟩
      rw [pk_us]
      have hz2 : ∀ p, p < i + 1 → upd wo i (hc_I (hc_W B i)) p = hc_I (hc_W B p) := by
        intro p hp
        by_cases e : p = i
        · subst e
          exact pk_us
        · rw [pk_un e]
          exact hz p (by omega)
      have ih2 := ih (i + 1) _ (by omega) hz2
      rw [hc_c] at ih2
      by_cases h0 : hc_W B i = 0
      · rw [decide_eq_true h0] at ih2
        exact br_t (hc_Iz.mpr h0) (nm_r (nI_1 i) ih2)
      · rw [decide_eq_false h0] at ih2
        exact br_f (hc_Inz h0) (nm_r (nI_1 _) (nm_r (nI_1 i) ih2))
  have key1 : ∀ (d i : Nat) (se : Nat → Int32), i + d = 46 → (∀ k, k < i → se k = hc_I (B k)) → wY_send_2 post g_limit g_known g_phaseNow (d + 1) (nI i) b_xs b_ys b_buffer se b_word b_onLine b_hitAt := by
    intro d
    induction d with
    | zero =>
      intro i se hid hz
      have e : i = 46 := by omega
      subst e
      exact br_t (nI_le (a := 46) (by omega) (by decide)) ⟨_, key2 se hz 64 0 b_word (by omega) (fun p hp => absurd hp (Nat.not_lt_zero p))⟩
    | succ d ih =>
      intro i se hid hz
      refine br_f (nI_ge (b := 46) (by omega) (by decide)) ⟨vp_in_nI (by omega) (by decide), vp_in_nI (by omega) (by decide), ?_⟩
      rw [nI_clamp (by omega)]
      refine nm_e (nm_r (nI_1 i) (ih (i + 1) _ (by omega) (fun p hp => ?_)))
      by_cases e : p = i
      · subst e
        rw [pk_us]
        exact hB p (by omega)
      · rw [pk_un e]
        exact hz p (by omega)
  exact ⟨_, key1 46 0 b_sent (by omega) (fun p hp => absurd hp (Nat.not_lt_zero p))⟩
end
/-! the points -/
def hc_k (x y : Nat) : Bool := decide (hc_p (BitVec.ofNat 4 y) 4 ^^^ BitVec.ofNat 4 y = hc_p (BitVec.ofNat 4 x) 5)
theorem hc_k1 : ∀ x : Fin 16, hc_c (hc_k x.val) 16 = 4 := by decide +kernel
theorem hc_k2 : ∀ x y : Fin 16, hc_k x.val y.val = true → hc_c (hc_k x.val) y.val < 4 ∧ hc_y (4 * x.val + hc_c (hc_k x.val) y.val) = BitVec.ofNat 4 y.val := by decide +kernel
theorem hc_k3 {x y : Nat} (hx : x < 16) (hy : y < 16) (h : hc_k x y = true) : hc_c (hc_k x) y < 4 ∧ hc_y (4 * x + hc_c (hc_k x) y) = BitVec.ofNat 4 y := hc_k2 ⟨x, hx⟩ ⟨y, hy⟩ h
section
variable {g_limit g_known g_phaseNow : Int32} {b_xs b_ys b_buffer b_sent b_word b_onLine b_hitAt : Nat → Int32}
theorem hy_init {post : SY → Prop} {l : Int32} (h : ∀ xs ys, hc_ty xs ys → post (l, -1, 0, xs, ys, b_buffer, b_sent, b_word, b_onLine, b_hitAt)) : wY_init_82 post l 0 0 0 b_xs b_ys b_buffer b_sent b_word b_onLine b_hitAt := by
  have key2 : ∀ (n x : Nat), x < 16 → (∀ xs ys : Nat → Int32, (∀ p, p < 4 * (x + 1) → xs p = hc_I (hc_x p) ∧ ys p = hc_I (hc_y p)) → wY_init_99 post l (-1) 0 n (nI (4 * (x + 1))) (nI (x + 1)) xs ys b_buffer b_sent b_word b_onLine b_hitAt) →
      ∀ (d y : Nat) (xs ys : Nat → Int32), y + d = 16 → (∀ p, p < 4 * x + hc_c (hc_k x) y → xs p = hc_I (hc_x p) ∧ ys p = hc_I (hc_y p)) →
      wY_init_108 post (wY_init_99 post l (-1) 0 n) (nI x) l (-1) 0 (d + 1) (nI (4 * x + hc_c (hc_k x) y)) (nI y) xs ys b_buffer b_sent b_word b_onLine b_hitAt := by
    intro n x hx H d
    induction d with
    | zero =>
      intro y xs ys hyd hz
      have e : y = 16 := by omega
      subst e
      have e4 : hc_c (hc_k x) 16 = 4 := hc_k1 ⟨x, hx⟩
      rw [e4] at hz
      rw [e4]
      exact br_t (nI_le (a := 16) (by omega) (by decide)) (nm_r (nI_1 x) (H xs ys hz))
    | succ d ih =>
      intro y xs ys hyd hz
      have hy : y < 16 := by omega
      refine br_f (nI_ge (b := 16) hy (by decide)) ?_
      rw [hc_Iof hy, hc_Iof hx]
      refine hy_pow _ 4 (by omega) ?_
      refine nm_r (hc_Ix _ _) ?_
      refine hy_pow _ 5 (by omega) ?_
      rw [← hc_Iof hy, ← hc_Iof hx]
      have hb := hc_c_bd (hc_k x) y
      by_cases hk : hc_k x y = true
      · obtain ⟨h1, h2⟩ := hc_k3 hx hy hk
        have ih2 := fun xs ys => ih (y + 1) xs ys (by omega)
        rw [hc_c, if_pos hk] at ih2
        refine br_t (hc_Ieq.mpr (of_decide_eq_true hk)) (br_f (nI_ge (b := 64) (by omega) (by decide)) ⟨vp_in_nI (by omega) (by decide), ?_⟩)
        rw [nI_clamp (by omega)]
        refine nm_e ⟨vp_in_nI (by omega) (by decide), nm_e (nm_r (nI_1 _) (nm_r (nI_1 y) (ih2 _ _ (fun p hp => ?_))))⟩
        by_cases e : p = 4 * x + hc_c (hc_k x) y
        · subst e
          rw [pk_us, pk_us, h2, hc_xb h1, ← hc_Iof hy, ← hc_Iof hx]
          exact ⟨rfl, rfl⟩
        · rw [pk_un e, pk_un e]
          exact hz p (by omega)
      · have ih2 := fun xs ys => ih (y + 1) xs ys (by omega)
        rw [hc_c, if_neg hk] at ih2
        exact br_f (fun c => hk (decide_eq_true (hc_Ieq.mp c))) (nm_r (nI_1 y) (ih2 _ _ hz))
  have key1 : ∀ (d x : Nat) (xs ys : Nat → Int32), x + d = 16 → (∀ p, p < 4 * x → xs p = hc_I (hc_x p) ∧ ys p = hc_I (hc_y p)) → wY_init_99 post l (-1) 0 (d + 1) (nI (4 * x)) (nI x) xs ys b_buffer b_sent b_word b_onLine b_hitAt := by
    intro d
    induction d with
    | zero =>
      intro x xs ys hxd hz
      have e : x = 16 := by omega
      subst e
      exact br_t (nI_le (a := 16) (by omega) (by decide)) (h xs ys ⟨fun p hp => (hz p (by omega)).1, fun p hp => (hz p (by omega)).2⟩)
    | succ d ih =>
      intro x xs ys hxd hz
      exact br_f (nI_ge (b := 16) (by omega) (by decide)) ⟨_, key2 (d + 1) x (by omega) (fun xs ys hz => ih (x + 1) xs ys (by omega) hz) 16 0 xs ys (by omega) hz⟩
  exact ⟨_, key1 16 0 b_xs b_ys (by omega) (fun p hp => absurd hp (Nat.not_lt_zero p))⟩
end
end
section
/-! ===== the component's storing methods ===== -/
/-- the fresh elimination -/
theorem hc_El0 (E : Nat → BitVec 4) {rowp colp fac red : Nat → Int32} (h1 : ∀ a, a < 76 → rowp a = -1) (h2 : ∀ a, a < 76 → colp a = -1) (h3 : ∀ n, n < 456 → fac n = 0) (h4 : ∀ n, n < 456 → red n = 0) : hc_El E 0 0 0 rowp colp fac red :=
  ⟨0, _, _, _, _, _, _, _, rfl, hc_V0 E, fun a ha => h1 a ha, fun b hb => h2 b hb, fun a q ha hq => h3 _ (by omega), fun q b hq hb => h4 _ (by omega)⟩
theorem hc_ups {f : Nat → Int32} {v : Int32} {i : Nat} (h : ∀ j, j < i → f j = v) : ∀ j, j < i + 1 → upd f i v j = v := by
  intro j hj
  by_cases e : j = i
  · subst e
    exact pk_us
  · rw [pk_un e]
    exact h j (by omega)
section
variable {f_hits f_limit f_phase f_known f_pivots : Int32} {a_exp a_log a_pointY a_messageOrder a_buffer a_word a_hitSet a_syndromes a_rowPivot a_colPivot a_factors a_reduced a_votes a_errors a_decoded : Nat → Int32}
theorem hx_forget {post : SX → Prop} (h : ∀ sy ro cl fc rd, (∀ E, hc_El E 0 0 0 ro cl fc rd) → post (f_hits, f_limit, f_phase, -1, 0, a_exp, a_log, a_pointY, a_messageOrder, a_buffer, a_word, a_hitSet, sy, ro, cl, fc, rd, a_votes, a_errors, a_decoded)) : wpX_forget post (f_hits, f_limit, f_phase, f_known, f_pivots, a_exp, a_log, a_pointY, a_messageOrder, a_buffer, a_word, a_hitSet, a_syndromes, a_rowPivot, a_colPivot, a_factors, a_reduced, a_votes, a_errors, a_decoded) := by
  have key2 : ∀ (sy ro cl : Nat → Int32), (∀ a, a < 76 → ro a = -1) → (∀ a, a < 76 → cl a = -1) → ∀ (d i : Nat) (fc rd : Nat → Int32), i + d = 456 → (∀ n, n < i → fc n = 0) → (∀ n, n < i → rd n = 0) →
      wX_forget_37 post f_hits f_limit f_phase f_known f_pivots (d + 1) (nI i) a_exp a_log a_pointY a_messageOrder a_buffer a_word a_hitSet sy ro cl fc rd a_votes a_errors a_decoded := by
    intro sy ro cl hro hcl d
    induction d with
    | zero =>
      intro i fc rd hid h3 h4
      have e : i = 456 := by omega
      subst e
      exact br_t (nI_le (a := 456) (by omega) (by decide)) (h sy ro cl fc rd (fun E => hc_El0 E hro hcl h3 h4))
    | succ d ih =>
      intro i fc rd hid h3 h4
      refine br_f (nI_ge (b := 456) (by omega) (by decide)) ⟨vp_in_nI (by omega) (by decide), ?_⟩
      rw [nI_clamp (by omega)]
      exact nm_e ⟨vp_in_nI (by omega) (by decide), nm_e (nm_r (nI_1 i) (ih (i + 1) _ _ (by omega) (hc_ups h3) (hc_ups h4)))⟩
  have key1 : ∀ (d i : Nat) (sy ro cl : Nat → Int32), i + d = 76 → (∀ a, a < i → ro a = -1) → (∀ a, a < i → cl a = -1) →
      wX_forget_2 post f_hits f_limit f_phase f_known f_pivots (d + 1) (nI i) a_exp a_log a_pointY a_messageOrder a_buffer a_word a_hitSet sy ro cl a_factors a_reduced a_votes a_errors a_decoded := by
    intro d
    induction d with
    | zero =>
      intro i sy ro cl hid h1 h2
      have e : i = 76 := by omega
      subst e
      exact br_t (nI_le (a := 76) (by omega) (by decide)) ⟨_, key2 sy ro cl h1 h2 456 0 a_factors a_reduced (by omega) (fun p hp => absurd hp (Nat.not_lt_zero p)) (fun p hp => absurd hp (Nat.not_lt_zero p))⟩
    | succ d ih =>
      intro i sy ro cl hid h1 h2
      refine br_f (nI_ge (b := 76) (by omega) (by decide)) ⟨vp_in_nI (by omega) (by decide), ?_⟩
      rw [nI_clamp (by omega)]
      exact nm_e ⟨vp_in_nI (by omega) (by decide), nm_e ⟨vp_in_nI (by omega) (by decide), nm_e (nm_r (nI_1 i) (ih (i + 1) _ _ _ (by omega) (hc_ups h1) (hc_ups h2)))⟩⟩
  exact ⟨_, key1 76 0 a_syndromes a_rowPivot a_colPivot (by omega) (fun p hp => absurd hp (Nat.not_lt_zero p)) (fun p hp => absurd hp (Nat.not_lt_zero p))⟩
theorem hx_line {post : SX → Prop} (h : ∀ ht sy ro cl fc rd, (∀ p, p < 64 → ht p = 0) → post (0, f_limit, 1, -1, 0, a_exp, a_log, a_pointY, a_messageOrder, a_buffer, a_word, ht, sy, ro, cl, fc, rd, a_votes, a_errors, a_decoded)) : wpX_startLine post (f_hits, f_limit, f_phase, f_known, f_pivots, a_exp, a_log, a_pointY, a_messageOrder, a_buffer, a_word, a_hitSet, a_syndromes, a_rowPivot, a_colPivot, a_factors, a_reduced, a_votes, a_errors, a_decoded) := by
  have key : ∀ (d i : Nat) (ht : Nat → Int32), i + d = 64 → (∀ p, p < i → ht p = 0) → wX_startLine_2 post f_hits f_limit f_phase f_known f_pivots (d + 1) (nI i) a_exp a_log a_pointY a_messageOrder a_buffer a_word ht a_syndromes a_rowPivot a_colPivot a_factors a_reduced a_votes a_errors a_decoded := by
    intro d
    induction d with
    | zero =>
      intro i ht hid hz
      have e : i = 64 := by omega
      subst e
      exact br_t (nI_le (a := 64) (by omega) (by decide)) (hx_forget (fun sy ro cl fc rd _ => h ht sy ro cl fc rd hz))
    | succ d ih =>
      intro i ht hid hz
      refine br_f (nI_ge (b := 64) (by omega) (by decide)) ⟨vp_in_nI (by omega) (by decide), ?_⟩
      rw [nI_clamp (by omega)]
      exact nm_e (nm_r (nI_1 i) (ih (i + 1) _ (by omega) (hc_ups hz)))
  exact ⟨_, key 64 0 a_hitSet (by omega) (fun p hp => absurd hp (Nat.not_lt_zero p))⟩
theorem hx_send (T : hc_tb a_exp a_log a_pointY a_messageOrder) {B : Nat → BitVec 4} (hB : ∀ k, k < 46 → a_buffer k = hc_I (B k)) {post : Int32 → SX → Prop}
    (h : ∀ wo ht sy ro cl fc rd, (∀ p, p < 64 → wo p = hc_I (hc_W B p)) → (∀ p, p < 64 → ht p = 0) →
      post (nI (hc_c (fun p => !decide (hc_W B p = 0)) 64)) (0, f_limit, 1, -1, 0, a_exp, a_log, a_pointY, a_messageOrder, a_buffer, wo, ht, sy, ro, cl, fc, rd, a_votes, a_errors, a_decoded)) : wpX_send post (f_hits, f_limit, f_phase, f_known, f_pivots, a_exp, a_log, a_pointY, a_messageOrder, a_buffer, a_word, a_hitSet, a_syndromes, a_rowPivot, a_colPivot, a_factors, a_reduced, a_votes, a_errors, a_decoded) := by
  have key : ∀ (d i : Nat) (wo : Nat → Int32), i + d = 64 → (∀ p, p < i → wo p = hc_I (hc_W B p)) → wX_send_4 post f_hits f_limit f_phase f_known f_pivots (d + 1) (nI (hc_c (fun p => !decide (hc_W B p = 0)) i)) (nI i) a_exp a_log a_pointY a_messageOrder a_buffer wo a_hitSet a_syndromes a_rowPivot a_colPivot a_factors a_reduced a_votes a_errors a_decoded := by
    intro d
    induction d with
    | zero =>
      intro i wo hid hz
      have e : i = 64 := by omega
      subst e
      exact br_t (nI_le (a := 64) (by omega) (by decide)) (hx_line (fun ht sy ro cl fc rd h2 => h wo ht sy ro cl fc rd hz h2))
    | succ d ih =>
      intro i wo hid hz
      have hi : i < 64 := by omega
      refine br_f (nI_ge (b := 64) hi (by decide)) ?_
      refine hx_code T hB hi ⟨vp_in_nI hi (by decide), ?_⟩
      rw [nI_clamp (by omega)]
      refine nm_e ⟨vp_in_nI hi (by decide), ?_⟩
      rw [pk_us]
      have hz2 : ∀ p, p < i + 1 → upd wo i (hc_I (hc_W B i)) p = hc_I (hc_W B p) := by
        intro p hp
        by_cases e : p = i
        · subst e
          exact pk_us
        · rw [pk_un e]
          exact hz p (by omega)
      have ih2 := ih (i + 1) _ (by omega) hz2
      rw [hc_c] at ih2
      by_cases h0 : hc_W B i = 0
      · rw [decide_eq_true h0] at ih2
        exact br_t (hc_Iz.mpr h0) (nm_r (nI_1 i) ih2)
      · rw [decide_eq_false h0] at ih2
        exact br_f (hc_Inz h0) (nm_r (nI_1 _) (nm_r (nI_1 i) ih2))
  exact ⟨_, key 64 0 a_word (by omega) (fun p hp => absurd hp (Nat.not_lt_zero p))⟩
theorem hx_lis (T : hc_tb a_exp a_log a_pointY a_messageOrder) {M E : Nat → BitVec 4} (h6 : hc_6 E) (hL : ∀ p, p < 64 → a_word p = hc_I (hc_W M p ^^^ E p)) {post : Int32 → SX → Prop}
    (h : ∀ fp sy ro cl fc rd, hc_El E 24 0 fp ro cl fc rd → hc_Sy E sy 24 → post (nI (hc_cs E 24)) (f_hits, f_limit, 2, 23, fp, a_exp, a_log, a_pointY, a_messageOrder, a_buffer, a_word, a_hitSet, sy, ro, cl, fc, rd, a_votes, a_errors, a_decoded)) :
    wpX_listen post (f_hits, f_limit, 1, f_known, f_pivots, a_exp, a_log, a_pointY, a_messageOrder, a_buffer, a_word, a_hitSet, a_syndromes, a_rowPivot, a_colPivot, a_factors, a_reduced, a_votes, a_errors, a_decoded) := by
  have key : ∀ (d o : Nat) (fp : Int32) (sy ro cl fc rd : Nat → Int32), o + d = 24 → hc_El E o 0 fp ro cl fc rd → hc_Sy E sy o →
      wX_listen_19 post (d + 1) (nI (hc_cs E o)) (nI o) f_hits f_limit 1 (-1) fp a_exp a_log a_pointY a_messageOrder a_buffer a_word a_hitSet sy ro cl fc rd a_votes a_errors a_decoded := by
    intro d
    induction d with
    | zero =>
      intro o fp sy ro cl fc rd hod hE hS
      have e : o = 24 := by omega
      subst e
      exact br_t (nI_lt (a := 23) (by omega) (by decide)) (h fp sy ro cl fc rd hE hS)
    | succ d ih =>
      intro o fp sy ro cl fc rd hod hE hS
      have ih2 := fun fp sy ro cl fc rd => ih (o + 1) fp sy ro cl fc rd (by omega)
      rw [hc_cs, hc_c] at ih2
      refine br_f (nI_nlt (b := o) (a := 23) (by omega) (by decide)) ?_
      by_cases hn : hc_n o = true
      · rw [hn, Bool.true_and] at ih2
        refine hx_gap0 (by omega) hn (br_t rfl ?_)
        refine hx_meas T hL (by omega) hn ?_
        rw [hc_meas (by omega) hn]
        refine ⟨vp_in_nI (by omega) (by decide), ?_⟩
        rw [nI_clamp (by omega)]
        have hS2 : hc_Sy E (upd sy o (hc_I (hc_S E o))) (o + 1) := by
          intro o' ho' hn'
          by_cases e : o' = o
          · subst e
            exact pk_us
          · rw [pk_un e]
            exact hS o' (by omega) hn'
        refine nm_e (hx_absorb (hc_tb_el T) h6 hE hS2 (by omega) (fun fp ro cl fc rd hE2 => ?_))
        refine ⟨vp_in_nI (by omega) (by decide), ?_⟩
        rw [pk_us]
        by_cases hz : hc_S E o = 0
        · rw [decide_eq_true hz] at ih2
          exact br_t (hc_Iz.mpr hz) (nm_r (nI_1 o) (ih2 _ _ _ _ _ _ hE2 hS2))
        · rw [decide_eq_false hz] at ih2
          exact br_f (hc_Inz hz) (nm_r (nI_1 _) (nm_r (nI_1 o) (ih2 _ _ _ _ _ _ hE2 hS2)))
      · rw [Bool.eq_false_iff.mpr hn, Bool.false_and] at ih2
        refine hx_gap1 (by omega) hn (br_f (by decide) (nm_r (nI_1 o) (ih2 _ _ _ _ _ _ (hc_El_gap hE hn) ?_)))
        intro o' ho' hn'
        by_cases e : o' = o
        · rw [e] at hn'
          exact absurd hn' hn
        · exact hS o' (by omega) hn'
  refine br_t rfl (hx_forget (fun sy ro cl fc rd hE => ?_))
  exact ⟨_, key 24 0 0 sy ro cl fc rd (by omega) (hE E) (fun o ho => absurd ho (Nat.not_lt_zero o))⟩
theorem hx_adv (T : hc_tb a_exp a_log a_pointY a_messageOrder) {E : Nat → BitVec 4} (h6 : hc_6 E) {kn N : Nat} (hkn : 23 ≤ kn) (hkn2 : kn ≤ 75) (hN : N ≤ 13)
    (hE : hc_El E (kn + 1) 0 f_pivots a_rowPivot a_colPivot a_factors a_reduced) (hS : hc_Sy E a_syndromes (kn + 1)) {post : Int32 → SX → Prop}
    (h : ∀ k2 fp sy ro cl fc rd vt, 23 ≤ k2 → k2 ≤ 75 → (k2 = kn + N ∨ (k2 = 75 ∧ 75 ≤ kn + N)) → hc_El E (k2 + 1) 0 fp ro cl fc rd → hc_Sy E sy (k2 + 1) →
      post (nI k2) (f_hits, f_limit, f_phase, nI k2, fp, a_exp, a_log, a_pointY, a_messageOrder, a_buffer, a_word, a_hitSet, sy, ro, cl, fc, rd, vt, a_errors, a_decoded)) :
    ∃ n, wX_advance_39 post (nI N) n 0 f_hits f_limit f_phase (nI kn) f_pivots a_exp a_log a_pointY a_messageOrder a_buffer a_word a_hitSet a_syndromes a_rowPivot a_colPivot a_factors a_reduced a_votes a_errors a_decoded := by
  have key : ∀ (d s : Nat) (fp : Int32) (sy ro cl fc rd vt : Nat → Int32), s + d = N → kn + s ≤ 75 → hc_El E (kn + s + 1) 0 fp ro cl fc rd → hc_Sy E sy (kn + s + 1) →
      wX_advance_39 post (nI N) (d + 1) (nI s) f_hits f_limit f_phase (nI (kn + s)) fp a_exp a_log a_pointY a_messageOrder a_buffer a_word a_hitSet sy ro cl fc rd vt a_errors a_decoded := by
    intro d
    induction d with
    | zero =>
      intro s fp sy ro cl fc rd vt hsd hle hE hS
      have e : s = N := by omega
      subst e
      exact br_t (nI_le (by omega) (by omega)) (h _ _ _ _ _ _ _ _ (by omega) hle (Or.inl rfl) hE hS)
    | succ d ih =>
      intro s fp sy ro cl fc rd vt hsd hle hE hS
      refine br_f (nI_ge (by omega) (by omega)) ?_
      by_cases h75 : 75 ≤ kn + s
      · have e : kn + s = 75 := by omega
        exact br_t (nI_le (a := 75) h75 (by omega)) (h _ _ _ _ _ _ _ _ (by omega) hle (Or.inr ⟨e, by omega⟩) hE hS)
      · refine br_f (nI_ge (b := 75) (by omega) (by decide)) (nm_r (nI_1 (kn + s)) ?_)
        refine hx_elect (hc_tb_el T) h6 hE hS (by omega) (by omega) (fun vt => ?_)
        refine ⟨vp_in_nI (by omega) (by decide), ?_⟩
        rw [nI_clamp (by omega)]
        have hS2 : hc_Sy E (upd sy (kn + s + 1) (hc_I (hc_S E (kn + s + 1)))) (kn + s + 1 + 1) := by
          intro o' ho' hn'
          by_cases e : o' = kn + s + 1
          · subst e
            exact pk_us
          · rw [pk_un e]
            exact hS o' (by omega) hn'
        refine nm_e (hx_absorb (hc_tb_el T) h6 hE hS2 (by omega) (fun fp ro cl fc rd hE2 => ?_))
        exact nm_r (nI_1 s) (ih (s + 1) _ _ _ _ _ _ _ (by omega) (by omega) hE2 hS2)
  exact ⟨_, key N 0 _ _ _ _ _ _ _ (by omega) hkn2 hE hS⟩
theorem hx_fin (T : hc_tb a_exp a_log a_pointY a_messageOrder) {M E : Nat → BitVec 4} (hL : ∀ p, p < 64 → a_word p = hc_I (hc_W M p ^^^ E p)) (hS : hc_Sy E a_syndromes 76) {post : Int32 → SX → Prop}
    (h : ∀ er de, (∀ p, p < 64 → er p = hc_I (E p)) → (∀ k, k < 46 → de k = hc_I (M k)) → post (nI (hc_c (fun p => !decide (E p = 0)) 64)) (f_hits, f_limit, 3, f_known, f_pivots, a_exp, a_log, a_pointY, a_messageOrder, a_buffer, a_word, a_hitSet, a_syndromes, a_rowPivot, a_colPivot, a_factors, a_reduced, a_votes, er, de)) :
    ∃ n, wX_finish_27 post f_hits f_limit f_phase f_known f_pivots n 0 0 a_exp a_log a_pointY a_messageOrder a_buffer a_word a_hitSet a_syndromes a_rowPivot a_colPivot a_factors a_reduced a_votes a_errors a_decoded := by
  have key2 : ∀ (c : Int32) (er : Nat → Int32), (∀ p, p < 64 → er p = hc_I (E p)) → (∀ de, (∀ k, k < 46 → de k = hc_I (M k)) → post c (f_hits, f_limit, 3, f_known, f_pivots, a_exp, a_log, a_pointY, a_messageOrder, a_buffer, a_word, a_hitSet, a_syndromes, a_rowPivot, a_colPivot, a_factors, a_reduced, a_votes, er, de)) →
      ∀ (d i : Nat) (de : Nat → Int32), i + d = 46 → (∀ k, k < i → de k = hc_I (M k)) → wX_finish_64 post c f_hits f_limit f_phase f_known f_pivots (d + 1) (nI i) a_exp a_log a_pointY a_messageOrder a_buffer a_word a_hitSet a_syndromes a_rowPivot a_colPivot a_factors a_reduced a_votes er de := by
    intro c er her H d
    induction d with
    | zero =>
      intro i de hid hz
      have e : i = 46 := by omega
      subst e
      exact br_t (nI_le (a := 46) (by omega) (by decide)) (H de hz)
    | succ d ih =>
      intro i de hid hz
      have hi : i < 46 := by omega
      refine br_f (nI_ge (b := 46) hi (by decide)) ⟨vp_in_nI hi (by decide), ?_⟩
      rw [nI_clamp (by omega), T.2.2.2 i hi]
      refine hx_coef T (M := M) (fun p hp => ?_) hi ⟨vp_in_nI hi (by decide), nm_e (nm_r (nI_1 i) (ih (i + 1) _ (by omega) (fun k hk => ?_)))⟩
      · rw [hL p hp, her p hp, hc_Ix, hc_xc]
      · by_cases e : k = i
        · subst e
          exact pk_us
        · rw [pk_un e]
          exact hz k (by omega)
  have key1 : ∀ (d i : Nat) (er : Nat → Int32), i + d = 64 → (∀ p, p < i → er p = hc_I (E p)) → wX_finish_27 post f_hits f_limit f_phase f_known f_pivots (d + 1) (nI (hc_c (fun p => !decide (E p = 0)) i)) (nI i) a_exp a_log a_pointY a_messageOrder a_buffer a_word a_hitSet a_syndromes a_rowPivot a_colPivot a_factors a_reduced a_votes er a_decoded := by
    intro d
    induction d with
    | zero =>
      intro i er hid hz
      have e : i = 64 := by omega
      subst e
      exact br_t (nI_le (a := 64) (by omega) (by decide)) ⟨_, key2 _ er hz (fun de hde => h er de hz hde) 46 0 a_decoded (by omega) (fun p hp => absurd hp (Nat.not_lt_zero p))⟩
    | succ d ih =>
      intro i er hid hz
      have hi : i < 64 := by omega
      refine br_f (nI_ge (b := 64) hi (by decide)) ?_
      refine hx_err T (E := E) hS hi ⟨vp_in_nI hi (by decide), ?_⟩
      rw [nI_clamp (by omega)]
      refine nm_e ⟨vp_in_nI hi (by decide), ?_⟩
      rw [pk_us]
      have hz2 : ∀ p, p < i + 1 → upd er i (hc_I (E i)) p = hc_I (E p) := by
        intro p hp
        by_cases e : p = i
        · subst e
          exact pk_us
        · rw [pk_un e]
          exact hz p (by omega)
      have ih2 := ih (i + 1) _ (by omega) hz2
      rw [hc_c] at ih2
      by_cases h0 : E i = 0
      · rw [decide_eq_true h0] at ih2
        exact br_t (hc_Iz.mpr h0) (nm_r (nI_1 i) ih2)
      · rw [decide_eq_false h0] at ih2
        exact br_f (hc_Inz h0) (nm_r (nI_1 _) (nm_r (nI_1 i) ih2))
  exact ⟨_, key1 64 0 a_errors (by omega) (fun p hp => absurd hp (Nat.not_lt_zero p))⟩
theorem hx_rel {W E : Nat → BitVec 4} (hL : ∀ p, p < 64 → a_word p = hc_I (W p ^^^ E p)) (hE : ∀ p, p < 64 → a_errors p = hc_I (E p)) {post : Int32 → SX → Prop}
    (h : ∀ wo ht sy ro cl fc rd, (∀ p, p < 64 → wo p = hc_I (W p)) → (∀ p, p < 64 → ht p = 0) →
      post (nI (hc_c (fun p => !decide (E p = 0)) 64)) (0, f_limit, 1, -1, 0, a_exp, a_log, a_pointY, a_messageOrder, a_buffer, wo, ht, sy, ro, cl, fc, rd, a_votes, a_errors, a_decoded)) : wpX_relay post (f_hits, f_limit, 3, f_known, f_pivots, a_exp, a_log, a_pointY, a_messageOrder, a_buffer, a_word, a_hitSet, a_syndromes, a_rowPivot, a_colPivot, a_factors, a_reduced, a_votes, a_errors, a_decoded) := by
  have key : ∀ (d i : Nat) (wo : Nat → Int32), i + d = 64 → (∀ p, p < i → wo p = hc_I (W p)) → (∀ p, i ≤ p → p < 64 → wo p = hc_I (W p ^^^ E p)) →
      wX_relay_15 post f_hits f_limit 3 f_known f_pivots (d + 1) (nI (hc_c (fun p => !decide (E p = 0)) i)) (nI i) a_exp a_log a_pointY a_messageOrder a_buffer wo a_hitSet a_syndromes a_rowPivot a_colPivot a_factors a_reduced a_votes a_errors a_decoded := by
    intro d
    induction d with
    | zero =>
      intro i wo hid hz hz2
      have e : i = 64 := by omega
      subst e
      exact br_t (nI_le (a := 64) (by omega) (by decide)) (hx_line (fun ht sy ro cl fc rd h2 => h wo ht sy ro cl fc rd hz h2))
    | succ d ih =>
      intro i wo hid hz hz2
      have hi : i < 64 := by omega
      have ih2 := fun wo => ih (i + 1) wo (by omega)
      rw [hc_c] at ih2
      refine br_f (nI_ge (b := 64) hi (by decide)) ⟨vp_in_nI hi (by decide), ?_⟩
      rw [nI_clamp (by omega), hE i hi]
      by_cases h0 : E i = 0
      · rw [decide_eq_true h0] at ih2
        refine br_t (hc_Iz.mpr h0) (nm_r (nI_1 i) (ih2 wo (fun p hp => ?_) (fun p hp hp2 => hz2 p (by omega) hp2)))
        by_cases e : p = i
        · subst e
          rw [hz2 p (by omega) hi, h0, hc_x0]
        · exact hz p (by omega)
      · rw [decide_eq_false h0] at ih2
        refine br_f (hc_Inz h0) ⟨vp_in_nI hi (by decide), vp_in_nI hi (by decide), vp_in_nI hi (by decide), nm_e (nm_r (nI_1 _) (nm_r (nI_1 i) (ih2 _ (fun p hp => ?_) (fun p hp hp2 => ?_))))⟩
        · by_cases e : p = i
          · subst e
            rw [pk_us, hz2 p (by omega) hi, hc_Ix, hc_xc]
          · rw [pk_un e]
            exact hz p (by omega)
        · rw [pk_un (by omega)]
          exact hz2 p (by omega) hp2
  exact br_t rfl ⟨_, key 64 0 a_word (by omega) (fun p hp => absurd hp (Nat.not_lt_zero p)) (fun p _ hp => hL p hp)⟩
end
end
section
/-! ===== the component's constructor ===== -/
theorem hc_sh : ∀ x : BitVec 4, (((hc_I x <<< ((1 : Int32) &&& 31)) &&& 16) = 0 → hc_I x <<< ((1 : Int32) &&& 31) = hc_I (hc_m x 2)) ∧ (¬ ((hc_I x <<< ((1 : Int32) &&& 31)) &&& 16) = 0 → (hc_I x <<< ((1 : Int32) &&& 31)) ^^^ 19 = hc_I (hc_m x 2)) := by decide +kernel
theorem hc_e1 : ∀ i : Fin 15, hc_m (hc_e i.val) 2 = hc_e (i.val + 1) ∧ hc_e (i.val + 15) = hc_e i.val ∧ hc_g (hc_e i.val) = i.val := by decide +kernel
theorem hc_e2 : ∀ x : BitVec 4, x ≠ 0 → hc_g x < 15 ∧ hc_e (hc_g x) = x := by decide +kernel
section
variable {f_hits f_limit f_phase f_known f_pivots : Int32} {a_exp a_log a_pointY a_messageOrder a_buffer a_word a_hitSet a_syndromes a_rowPivot a_colPivot a_factors a_reduced a_votes a_errors a_decoded : Nat → Int32}
theorem hx_field {post : SX → Prop} (h : ∀ ex lg, hc_el ex lg → post (f_hits, f_limit, f_phase, f_known, f_pivots, ex, lg, a_pointY, a_messageOrder, a_buffer, a_word, a_hitSet, a_syndromes, a_rowPivot, a_colPivot, a_factors, a_reduced, a_votes, a_errors, a_decoded)) : wpX_buildField post (f_hits, f_limit, f_phase, f_known, f_pivots, a_exp, a_log, a_pointY, a_messageOrder, a_buffer, a_word, a_hitSet, a_syndromes, a_rowPivot, a_colPivot, a_factors, a_reduced, a_votes, a_errors, a_decoded) := by
  have key : ∀ (d i : Nat) (ex lg : Nat → Int32), i + d = 15 → (∀ j, j < i → ex j = hc_I (hc_e j) ∧ ex (j + 15) = hc_I (hc_e j) ∧ lg (hc_e j).toNat = nI j) →
      wX_buildField_4 post f_hits f_limit f_phase f_known f_pivots (d + 1) (hc_I (hc_e i)) (nI i) ex lg a_pointY a_messageOrder a_buffer a_word a_hitSet a_syndromes a_rowPivot a_colPivot a_factors a_reduced a_votes a_errors a_decoded := by
    intro d
    induction d with
    | zero =>
      intro i ex lg hid hz
      have e : i = 15 := by omega
      subst e
      refine br_t (nI_le (a := 15) (by omega) (by decide)) (h ex lg ⟨fun j hj => ?_, fun x hx => ?_⟩)
      · by_cases e : j < 15
        · exact (hz j e).1
        · have h1 := (hz (j - 15) (by omega)).2.1
          have h2 := (hc_e1 ⟨j - 15, by omega⟩).2.1
          dsimp only at h2
          rw [show j - 15 + 15 = j from by omega] at h1 h2
          rw [h1, h2]
      · obtain ⟨h1, h2⟩ := hc_e2 x hx
        have h3 := (hz (hc_g x) h1).2.2
        rw [h2] at h3
        exact h3
    | succ d ih =>
      intro i ex lg hid hz
      have hi : i < 15 := by omega
      have e15 : nI i + 15 = nI (i + 15) := nI_add i 15
      have h1 := (hc_e1 ⟨i, hi⟩).1
      dsimp only at h1
      refine br_f (nI_ge (b := 15) hi (by decide)) ⟨vp_in_nI (by omega) (by decide), ?_⟩
      rw [nI_clamp (by omega), e15]
      refine nm_e ⟨vp_in_nI (by omega) (by decide), ?_⟩
      rw [nI_clamp (by omega)]
      refine nm_e ⟨hc_Iin _, ?_⟩
      rw [hc_Icl]
      have ih2 := ih (i + 1) (upd (upd ex i (hc_I (hc_e i))) (i + 15) (hc_I (hc_e i))) (upd lg (hc_e i).toNat (nI i)) (by omega) (by
        intro j hj
        by_cases e : j = i
        · subst e
          refine ⟨?_, pk_us, pk_us⟩
          rw [pk_un (by omega)]
          exact pk_us
        · obtain ⟨z1, z2, z3⟩ := hz j (by omega)
          refine ⟨?_, ?_, ?_⟩
          · rw [pk_un (by omega), pk_un e]
            exact z1
          · rw [pk_un (by omega), pk_un (by omega)]
            exact z2
          · rw [pk_un (fun c => e ?_)]
            · exact z3
            · have g1 := (hc_e1 ⟨i, hi⟩).2.2
              have g2 := (hc_e1 ⟨j, by omega⟩).2.2
              dsimp only at g1 g2
              rw [← g1, ← g2, BitVec.eq_of_toNat_eq c])
      rw [← h1] at ih2
      refine nm_e (nm_e ?_)
      refine br_c (fun hc => ?_) (fun hc => ?_)
      · rw [(hc_sh (hc_e i)).1 hc]
        exact nm_r (nI_1 i) ih2
      · exact nm_r ((hc_sh (hc_e i)).2 hc) (nm_r (nI_1 i) ih2)
  exact ⟨_, key 15 0 a_exp a_log (by omega) (fun j hj => absurd hj (Nat.not_lt_zero j))⟩
theorem hx_points (T : hc_el a_exp a_log) {post : SX → Prop} (h : ∀ ys, (∀ p, p < 64 → ys p = hc_I (hc_y p)) → post (f_hits, f_limit, f_phase, f_known, f_pivots, a_exp, a_log, ys, a_messageOrder, a_buffer, a_word, a_hitSet, a_syndromes, a_rowPivot, a_colPivot, a_factors, a_reduced, a_votes, a_errors, a_decoded)) : wpX_buildPoints post (f_hits, f_limit, f_phase, f_known, f_pivots, a_exp, a_log, a_pointY, a_messageOrder, a_buffer, a_word, a_hitSet, a_syndromes, a_rowPivot, a_colPivot, a_factors, a_reduced, a_votes, a_errors, a_decoded) := by
  have key2 : ∀ (n x : Nat), x < 16 → (∀ ys : Nat → Int32, (∀ p, p < 4 * (x + 1) → ys p = hc_I (hc_y p)) → wX_buildPoints_4 post f_hits f_limit f_phase f_known f_pivots n (nI (4 * (x + 1))) (nI (x + 1)) a_exp a_log ys a_messageOrder a_buffer a_word a_hitSet a_syndromes a_rowPivot a_colPivot a_factors a_reduced a_votes a_errors a_decoded) →
      ∀ (d y : Nat) (ys : Nat → Int32), y + d = 16 → (∀ p, p < 4 * x + hc_c (hc_k x) y → ys p = hc_I (hc_y p)) →
      wX_buildPoints_20 post (wX_buildPoints_4 post f_hits f_limit f_phase f_known f_pivots n) (nI x) (hc_I (hc_p (BitVec.ofNat 4 x) 5)) f_hits f_limit f_phase f_known f_pivots (d + 1) (nI (4 * x + hc_c (hc_k x) y)) (nI y) a_exp a_log ys a_messageOrder a_buffer a_word a_hitSet a_syndromes a_rowPivot a_colPivot a_factors a_reduced a_votes a_errors a_decoded := by
    intro n x hx H d
    induction d with
    | zero =>
      intro y ys hyd hz
      have e : y = 16 := by omega
      subst e
      have e4 : hc_c (hc_k x) 16 = 4 := hc_k1 ⟨x, hx⟩
      rw [e4] at hz
      rw [e4]
      exact br_t (nI_le (a := 16) (by omega) (by decide)) (nm_r (nI_1 x) (H ys hz))
    | succ d ih =>
      intro y ys hyd hz
      have hy : y < 16 := by omega
      refine br_f (nI_ge (b := 16) hy (by decide)) ?_
      rw [hc_Iof hy]
      refine hx_pow T _ 4 (by omega) ?_
      refine nm_r (hc_Ix _ _) ?_
      rw [← hc_Iof hy]
      have hb := hc_c_bd (hc_k x) y
      by_cases hk : hc_k x y = true
      · obtain ⟨h1, h2⟩ := hc_k3 hx hy hk
        have ih2 := fun ys => ih (y + 1) ys (by omega)
        rw [hc_c, if_pos hk] at ih2
        refine br_t (hc_Ieq.mpr (of_decide_eq_true hk)) (br_f (nI_ge (b := 64) (by omega) (by decide)) ⟨vp_in_nI (by omega) (by decide), ?_⟩)
        rw [nI_clamp (by omega)]
        refine nm_e (nm_r (nI_1 _) (nm_r (nI_1 y) (ih2 _ (fun p hp => ?_))))
        by_cases e : p = 4 * x + hc_c (hc_k x) y
        · subst e
          rw [pk_us, h2, ← hc_Iof hy]
        · rw [pk_un e]
          exact hz p (by omega)
      · have ih2 := fun ys => ih (y + 1) ys (by omega)
        rw [hc_c, if_neg hk] at ih2
        exact br_f (fun c => hk (decide_eq_true (hc_Ieq.mp c))) (nm_r (nI_1 y) (ih2 _ hz))
  have key1 : ∀ (d x : Nat) (ys : Nat → Int32), x + d = 16 → (∀ p, p < 4 * x → ys p = hc_I (hc_y p)) → wX_buildPoints_4 post f_hits f_limit f_phase f_known f_pivots (d + 1) (nI (4 * x)) (nI x) a_exp a_log ys a_messageOrder a_buffer a_word a_hitSet a_syndromes a_rowPivot a_colPivot a_factors a_reduced a_votes a_errors a_decoded := by
    intro d
    induction d with
    | zero =>
      intro x ys hxd hz
      have e : x = 16 := by omega
      subst e
      exact br_t (nI_le (a := 16) (by omega) (by decide)) (h ys (fun p hp => hz p (by omega)))
    | succ d ih =>
      intro x ys hxd hz
      have hx : x < 16 := by omega
      refine br_f (nI_ge (b := 16) (by omega) (by decide)) ?_
      have k2 := key2 (d + 1) x hx (fun ys hz => ih (x + 1) ys (by omega) hz) 16 0 ys (by omega) hz
      rw [hc_Iof hx] at k2
      rw [hc_Iof hx]
      exact hx_pow T _ 5 (by omega) ⟨_, k2⟩
  exact ⟨_, key1 16 0 a_pointY (by omega) (fun p hp => absurd hp (Nat.not_lt_zero p))⟩
theorem hx_orders {post : SX → Prop} (h : ∀ mo, (∀ k, k < 46 → mo k = nI (hc_o k)) → post (f_hits, f_limit, f_phase, f_known, f_pivots, a_exp, a_log, a_pointY, mo, a_buffer, a_word, a_hitSet, a_syndromes, a_rowPivot, a_colPivot, a_factors, a_reduced, a_votes, a_errors, a_decoded)) : wpX_buildOrders post (f_hits, f_limit, f_phase, f_known, f_pivots, a_exp, a_log, a_pointY, a_messageOrder, a_buffer, a_word, a_hitSet, a_syndromes, a_rowPivot, a_colPivot, a_factors, a_reduced, a_votes, a_errors, a_decoded) := by
  have key : ∀ (d o : Nat) (mo : Nat → Int32), o + d = 52 → (∀ k, k < hc_c hc_n o → mo k = nI (hc_o k)) → wX_buildOrders_4 post f_hits f_limit f_phase f_known f_pivots (d + 1) (nI (hc_c hc_n o)) (nI o) a_exp a_log a_pointY mo a_buffer a_word a_hitSet a_syndromes a_rowPivot a_colPivot a_factors a_reduced a_votes a_errors a_decoded := by
    intro d
    induction d with
    | zero =>
      intro o mo hod hz
      have e : o = 52 := by omega
      subst e
      rw [hc_o2] at hz
      exact br_t (nI_lt (a := 51) (by omega) (by decide)) (h mo hz)
    | succ d ih =>
      intro o mo hod hz
      have ho : o < 52 := by omega
      have ih2 := fun mo => ih (o + 1) mo (by omega)
      rw [hc_c] at ih2
      refine br_f (nI_nlt (b := o) (a := 51) (by omega) (by decide)) ?_
      by_cases hn : hc_n o = true
      · have h1 := hc_o1 ⟨o, ho⟩ hn
        dsimp only at h1
        rw [if_pos hn] at ih2
        refine hx_gap0 (by omega) hn (br_t rfl (br_f (nI_ge (b := 46) h1.1 (by decide)) ⟨vp_in_nI h1.1 (by decide), ?_⟩))
        rw [nI_clamp (by omega)]
        refine nm_e (nm_r (nI_1 _) (nm_r (nI_1 o) (ih2 _ (fun k hk => ?_))))
        by_cases e : k = hc_c hc_n o
        · subst e
          rw [pk_us, h1.2]
        · rw [pk_un e]
          exact hz k (by omega)
      · rw [if_neg hn] at ih2
        exact hx_gap1 (by omega) hn (br_f (by decide) (nm_r (nI_1 o) (ih2 _ hz)))
  exact ⟨_, key 52 0 a_messageOrder (by omega) (fun k hk => absurd hk (Nat.not_lt_zero k))⟩
theorem hx_init {post : SX → Prop} (h : ∀ ex lg ys mo sy ro cl fc rd, hc_tb ex lg ys mo → post (f_hits, f_limit, 0, -1, 0, ex, lg, ys, mo, a_buffer, a_word, a_hitSet, sy, ro, cl, fc, rd, a_votes, a_errors, a_decoded)) :
    wX_init_159 post f_hits f_limit f_phase f_known f_pivots a_exp a_log a_pointY a_messageOrder a_buffer a_word a_hitSet a_syndromes a_rowPivot a_colPivot a_factors a_reduced a_votes a_errors a_decoded := by
  refine hx_field (fun ex lg T => ?_)
  refine hx_points T (fun ys hy => ?_)
  refine hx_orders (fun mo hm => ?_)
  exact hx_forget (fun sy ro cl fc rd _ => h ex lg ys mo sy ro cl fc rd ⟨T.1, T.2, hy, hm⟩)
end
end
section
/-! ===== the relation ===== -/
def hc_Bf (B : Nat → BitVec 4) (a b : Nat → Int32) : Prop := (∀ k, k < 46 → a k = hc_I (B k)) ∧ (∀ k, k < 46 → b k = hc_I (B k))
/-- the line carries the codeword of M and the error E -/
def hc_Ln (M E : Nat → BitVec 4) (a_word b_onLine b_word b_sent : Nat → Int32) : Prop :=
  (∀ p, p < 64 → a_word p = hc_I (hc_W M p ^^^ E p)) ∧ (∀ p, p < 64 → b_onLine p = hc_I (hc_W M p ^^^ E p)) ∧ (∀ p, p < 64 → b_word p = hc_I (hc_W M p)) ∧ (∀ k, k < 46 → b_sent k = hc_I (M k))
def hc_Ht (E : Nat → BitVec 4) (H : Nat → Bool) (l : Nat) (a_hitSet b_hitAt : Nat → Int32) (f_hits f_limit g_limit : Int32) : Prop :=
  (∀ p, p < 64 → a_hitSet p = hc_Bo (H p)) ∧ (∀ p, p < 64 → b_hitAt p = hc_Bo (H p)) ∧ (∀ p, p < 64 → E p ≠ 0 → H p = true) ∧ f_hits = nI (hc_c H 64) ∧ hc_c H 64 ≤ l ∧ l ≤ 6 ∧ f_limit = nI l ∧ g_limit = nI l
def hc_Ph (M E : Nat → BitVec 4) (f_phase f_known f_pivots : Int32) (a_syndromes a_rowPivot a_colPivot a_factors a_reduced a_errors a_decoded : Nat → Int32) : Prop :=
  f_phase = 0 ∨ f_phase = 1 ∨ ∃ kn : Nat, 23 ≤ kn ∧ kn ≤ 75 ∧ f_known = nI kn ∧ hc_Sy E a_syndromes (kn + 1) ∧
    ((f_phase = 2 ∧ hc_El E (kn + 1) 0 f_pivots a_rowPivot a_colPivot a_factors a_reduced) ∨ (f_phase = 3 ∧ kn = 75 ∧ (∀ p, p < 64 → a_errors p = hc_I (E p)) ∧ (∀ k, k < 46 → a_decoded k = hc_I (M k))))
def i_Rel (k : Nat) (u : SX) (v : SY) : Prop := match u with
  | (f_hits, f_limit, f_phase, f_known, f_pivots, a_exp, a_log, a_pointY, a_messageOrder, a_buffer, a_word, a_hitSet, a_syndromes, a_rowPivot, a_colPivot, a_factors, a_reduced, a_votes, a_errors, a_decoded) => match v with
    | (g_limit, g_known, g_phaseNow, b_xs, b_ys, b_buffer, b_sent, b_word, b_onLine, b_hitAt) => ∃ (M E B : Nat → BitVec 4) (H : Nat → Bool) (l : Nat), hc_tb a_exp a_log a_pointY a_messageOrder ∧ hc_ty b_xs b_ys ∧ hc_Bf B a_buffer b_buffer ∧ hc_Ln M E a_word b_onLine b_word b_sent ∧
        hc_Ht E H l a_hitSet b_hitAt f_hits f_limit g_limit ∧ f_phase = g_phaseNow ∧ f_known = g_known ∧ hc_Ph M E f_phase f_known f_pivots a_syndromes a_rowPivot a_colPivot a_factors a_reduced a_errors a_decoded
theorem i_up {k : Nat} {u : SX} {v : SY} (h : i_Rel k u v) : i_Rel (k + 3) u v := h
theorem hc_6of {E : Nat → BitVec 4} {H : Nat → Bool} {l : Nat} {a b : Nat → Int32} {x y z : Int32} (h : hc_Ht E H l a b x y z) : hc_6 E := by
  obtain ⟨h1, h2, h3, h4, h5, h6, h7, h8⟩ := h
  refine ⟨(List.range 64).filter H, ?_, fun p hp he => ?_⟩
  · rw [hc_c_len]
    omega
  · exact List.mem_filter.mpr ⟨List.mem_range.mpr hp, h3 p hp he⟩
section
variable {M E : Nat → BitVec 4} {f_phase f_known f_pivots : Int32} {a_syndromes a_rowPivot a_colPivot a_factors a_reduced a_errors a_decoded : Nat → Int32}
theorem hc_ph2 (h : hc_Ph M E 2 f_known f_pivots a_syndromes a_rowPivot a_colPivot a_factors a_reduced a_errors a_decoded) :
    ∃ kn : Nat, 23 ≤ kn ∧ kn ≤ 75 ∧ f_known = nI kn ∧ hc_Sy E a_syndromes (kn + 1) ∧ hc_El E (kn + 1) 0 f_pivots a_rowPivot a_colPivot a_factors a_reduced := by
  rcases h with h | h | ⟨kn, h1, h2, h3, h4, h5 | h5⟩
  · exact absurd h (by decide)
  · exact absurd h (by decide)
  · exact ⟨kn, h1, h2, h3, h4, h5.2⟩
  · exact absurd h5.1 (by decide)
theorem hc_ph3 (h : hc_Ph M E 3 f_known f_pivots a_syndromes a_rowPivot a_colPivot a_factors a_reduced a_errors a_decoded) :
    (∀ p, p < 64 → a_errors p = hc_I (E p)) ∧ (∀ k, k < 46 → a_decoded k = hc_I (M k)) := by
  rcases h with h | h | ⟨kn, h1, h2, h3, h4, h5 | h5⟩
  · exact absurd h (by decide)
  · exact absurd h (by decide)
  · exact absurd h5.1 (by decide)
  · exact h5.2.2
theorem hc_ph23 (h : hc_Ph M E f_phase f_known f_pivots a_syndromes a_rowPivot a_colPivot a_factors a_reduced a_errors a_decoded) (n0 : ¬ f_phase = 0) (n1 : ¬ f_phase = 1) :
    ∃ kn : Nat, kn ≤ 75 ∧ f_known = nI kn ∧ hc_Sy E a_syndromes (kn + 1) := by
  rcases h with h | h | ⟨kn, h1, h2, h3, h4, h5⟩
  · exact absurd h n0
  · exact absurd h n1
  · exact ⟨kn, h2, h3, h4⟩
end
theorem hc_ln_E {M E : Nat → BitVec 4} {a b c d : Nat → Int32} (h : hc_Ln M E a b c d) : ∀ p, p < 64 → b p ^^^ c p = hc_I (E p) := by
  intro p hp
  rw [h.2.1 p hp, h.2.2.1 p hp, hc_Ix, BitVec.xor_comm, hc_xc']
/-! the constructors -/
theorem hc_W0 (p : Nat) : hc_W (fun _ => 0) p = 0 := hc_s_z (fun k _ => hc_0m _)
theorem hc_vc0 (n : Nat) (hn : n ≤ 6) {P : SX → Prop} (h : ∀ u, wY_init_82 (fun v => i_Rel 1 u v) (nI n) 0 0 0 (fun _ => 0) (fun _ => 0) (fun _ => 0) (fun _ => 0) (fun _ => 0) (fun _ => 0) (fun _ => 0) → P u) :
    wX_init_159 P 0 (nI n) 0 0 0 (fun _ => 0) (fun _ => 0) (fun _ => 0) (fun _ => 0) (fun _ => 0) (fun _ => 0) (fun _ => 0) (fun _ => 0) (fun _ => 0) (fun _ => 0) (fun _ => 0) (fun _ => 0) (fun _ => 0) (fun _ => 0) (fun _ => 0) := by
  refine hx_init (fun ex lg ys mo sy ro cl fc rd T => h _ ?_)
  refine hy_init (fun xs ys2 TY => ?_)
  refine ⟨fun _ => 0, fun _ => 0, fun _ => 0, fun _ => false, n, T, TY, ⟨fun _ _ => rfl, fun _ _ => rfl⟩, ⟨fun p _ => ?_, fun p _ => ?_, fun p _ => ?_, fun _ _ => rfl⟩,
    ⟨fun _ _ => rfl, fun _ _ => rfl, fun _ _ h => absurd rfl h, rfl, by rw [hc_c_z (fun _ _ => rfl)]; omega, hn, rfl, rfl⟩, rfl, rfl, Or.inl rfl⟩
  · rw [hc_W0, hc_0x]; rfl
  · rw [hc_W0, hc_0x]; rfl
  · rw [hc_W0]; rfl
theorem i_vc0 (k0 : Int32) : wpX_init (fun u => wpY_init (fun v => i_Rel 1 u v) k0) k0 := by
  by_cases h1 : 1 ≤ k0
  · refine br_t h1 ?_
    by_cases h6 : k0 ≤ 6
    · obtain ⟨j, hj, rfl⟩ := nI_of2 (x := k0) (M := 6) (n := 6) (by decide) (fun c => by
        rw [Int32.le_iff_toInt_le] at h1
        rw [Int32.lt_iff_toInt_lt] at c
        rw [show (1 : Int32).toInt = 1 from by decide] at h1
        rw [show (0 : Int32).toInt = 0 from by decide] at c
        omega) h6
      exact br_t h6 (hc_vc0 j hj (fun u hu => br_t h1 (br_t h6 hu)))
    · exact br_f h6 (hc_vc0 6 (Nat.le_refl 6) (fun u hu => br_t h1 (br_f h6 hu)))
  · exact br_f h1 (br_t (by decide) (hc_vc0 1 (by decide) (fun u hu => br_f h1 hu)))
end
section
/-! ===== the calls: buffer, line, phases ===== -/
theorem hc_j45 {x : Int32} (h : ¬ x < 0) (h2 : x ≤ 45) : ∃ j, j < 46 ∧ x = nI j := by
  obtain ⟨j, hj, e⟩ := nI_of2 (x := x) (M := 45) (n := 45) (by decide) h h2
  exact ⟨j, by omega, e⟩
theorem hc_j63 {x : Int32} (h : ¬ x < 0) (h2 : x ≤ 63) : ∃ j, j < 64 ∧ x = nI j := by
  obtain ⟨j, hj, e⟩ := nI_of2 (x := x) (M := 63) (n := 63) (by decide) h h2
  exact ⟨j, by omega, e⟩
theorem hc_j75 {x : Int32} (h : ¬ x < 0) (h2 : x ≤ 75) : ∃ j, j < 76 ∧ x = nI j := by
  obtain ⟨j, hj, e⟩ := nI_of2 (x := x) (M := 75) (n := 75) (by decide) h h2
  exact ⟨j, by omega, e⟩
theorem hc_j15 {x : Int32} (h : ¬ x < 0) (h2 : x ≤ 15) : ∃ w : BitVec 4, x = hc_I w := by
  obtain ⟨j, hj, e⟩ := nI_of2 (x := x) (M := 15) (n := 15) (by decide) h h2
  exact ⟨BitVec.ofNat 4 j, by rw [e, hc_Iof (by omega)]⟩
theorem hc_lt1 {x : Int32} (h : ¬ x < 1) : ¬ x < 0 := by
  rw [Int32.lt_iff_toInt_lt] at *
  rw [show (1 : Int32).toInt = 1 from by decide] at h
  rw [show (0 : Int32).toInt = 0 from by decide]
  omega
theorem i_vc_put {k : Nat} {u : SX} {v : SY} (I : i_Rel k u v) (hk : k + 3 ≤ 1537) (v1 : Int32) (v2 : Int32) : wpX_put (fun r u' => wpY_put (fun r' v' => r' = r ∧ i_Rel (k + 3) u' v') v v1 v2) u v1 v2 := by
  obtain ⟨f_hits, f_limit, f_phase, f_known, f_pivots, a_exp, a_log, a_pointY, a_messageOrder, a_buffer, a_word, a_hitSet, a_syndromes, a_rowPivot, a_colPivot, a_factors, a_reduced, a_votes, a_errors, a_decoded⟩ := u
  obtain ⟨g_limit, g_known, g_phaseNow, b_xs, b_ys, b_buffer, b_sent, b_word, b_onLine, b_hitAt⟩ := v
  have I3 := i_up I
  obtain ⟨M, E, B, H, l, T, TY, GB, GL, GH, rfl, rfl, GP⟩ := I
  by_cases h0 : v1 < 0
  · exact br_t h0 (br_t h0 ⟨rfl, I3⟩)
  · refine br_f h0 ?_
    by_cases h45 : v1 ≤ 45
    · refine br_t h45 ?_
      by_cases g0 : v2 < 0
      · exact br_t g0 (br_f h0 (br_t h45 (br_t g0 ⟨rfl, I3⟩)))
      · refine br_f g0 ?_
        by_cases g15 : v2 ≤ 15
        · obtain ⟨j, hj, rfl⟩ := hc_j45 h0 h45
          obtain ⟨w, rfl⟩ := hc_j15 g0 g15
          refine br_t g15 ⟨vp_in_nI hj (by decide), nm_e ?_⟩
          refine br_f h0 (br_t h45 (br_f g0 (br_t g15 ⟨vp_in_nI hj (by decide), nm_e ⟨rfl, ?_⟩⟩)))
          rw [nI_clamp (by omega)]
          refine ⟨M, E, hc_up B j w, H, l, T, TY, ⟨fun i hi => ?_, fun i hi => ?_⟩, GL, GH, rfl, rfl, GP⟩
          · by_cases e : i = j
            · subst e
              rw [pk_us, hc_us]
            · rw [pk_un e, hc_un e]
              exact GB.1 i hi
          · by_cases e : i = j
            · subst e
              rw [pk_us, hc_us]
            · rw [pk_un e, hc_un e]
              exact GB.2 i hi
        · exact br_f g15 (br_f h0 (br_t h45 (br_f g0 (br_f g15 ⟨rfl, I3⟩))))
    · exact br_f h45 (br_f h0 (br_f h45 ⟨rfl, I3⟩))
/-! fill -/
def hc_fs (s : Int32) : Nat → Int32
  | 0 => s
  | i + 1 => hc_fs s i * 1103515245 + 12345
def hc_fb (s : Int32) (k : Nat) : BitVec 4 := BitVec.ofNat 4 (((((hc_fs s (k + 1)).toUInt32 >>> ((16 : Int32).toUInt32 &&& Int32.toUInt32 31)).toInt32).toBitVec.toNat) % 16)
theorem hc_fbI (s : Int32) (k : Nat) : (((hc_fs s (k + 1)).toUInt32 >>> ((16 : Int32).toUInt32 &&& Int32.toUInt32 31)).toInt32) &&& 15 = hc_I (hc_fb s k) := by
  rw [pk_and _ (m := 15) 4 (by decide), hc_Iof (Nat.mod_lt _ (by decide))]
  rfl
section
variable {f_hits f_limit f_phase f_known f_pivots : Int32} {a_exp a_log a_pointY a_messageOrder a_buffer a_word a_hitSet a_syndromes a_rowPivot a_colPivot a_factors a_reduced a_votes a_errors a_decoded : Nat → Int32}
theorem hx_fill {post : SX → Prop} {s : Int32} (h : ∀ bu, (∀ k, k < 46 → bu k = hc_I (hc_fb s k)) → post (f_hits, f_limit, f_phase, f_known, f_pivots, a_exp, a_log, a_pointY, a_messageOrder, bu, a_word, a_hitSet, a_syndromes, a_rowPivot, a_colPivot, a_factors, a_reduced, a_votes, a_errors, a_decoded)) : wpX_fill post (f_hits, f_limit, f_phase, f_known, f_pivots, a_exp, a_log, a_pointY, a_messageOrder, a_buffer, a_word, a_hitSet, a_syndromes, a_rowPivot, a_colPivot, a_factors, a_reduced, a_votes, a_errors, a_decoded) s := by
  have key : ∀ (d i : Nat) (bu : Nat → Int32), i + d = 46 → (∀ k, k < i → bu k = hc_I (hc_fb s k)) → wX_fill_4 post f_hits f_limit f_phase f_known f_pivots (d + 1) (hc_fs s i) (nI i) a_exp a_log a_pointY a_messageOrder bu a_word a_hitSet a_syndromes a_rowPivot a_colPivot a_factors a_reduced a_votes a_errors a_decoded := by
    intro d
    induction d with
    | zero =>
      intro i bu hid hz
      have e : i = 46 := by omega
      subst e
      exact br_t (nI_le (a := 46) (by omega) (by decide)) (h bu hz)
    | succ d ih =>
      intro i bu hid hz
      refine br_f (nI_ge (b := 46) (by omega) (by decide)) (nm_r (e' := hc_fs s (i + 1)) rfl ⟨vp_in_nI (by omega) (by decide), ?_⟩)
      rw [nI_clamp (by omega), hc_fbI]
      refine nm_e (nm_r (nI_1 i) (ih (i + 1) _ (by omega) (fun k hk => ?_)))
      by_cases e : k = i
      · subst e
        exact pk_us
      · rw [pk_un e]
        exact hz k (by omega)
  exact ⟨_, key 46 0 a_buffer (by omega) (fun k hk => absurd hk (Nat.not_lt_zero k))⟩
end
section
variable {g_limit g_known g_phaseNow : Int32} {b_xs b_ys b_buffer b_sent b_word b_onLine b_hitAt : Nat → Int32}
theorem hy_fill {post : SY → Prop} {s : Int32} (h : ∀ bu, (∀ k, k < 46 → bu k = hc_I (hc_fb s k)) → post (g_limit, g_known, g_phaseNow, b_xs, b_ys, bu, b_sent, b_word, b_onLine, b_hitAt)) : wpY_fill post (g_limit, g_known, g_phaseNow, b_xs, b_ys, b_buffer, b_sent, b_word, b_onLine, b_hitAt) s := by
  have key : ∀ (d i : Nat) (bu : Nat → Int32), i + d = 46 → (∀ k, k < i → bu k = hc_I (hc_fb s k)) → wY_fill_4 post g_limit g_known g_phaseNow (d + 1) (hc_fs s i) (nI i) b_xs b_ys bu b_sent b_word b_onLine b_hitAt := by
    intro d
    induction d with
    | zero =>
      intro i bu hid hz
      have e : i = 46 := by omega
      subst e
      exact br_t (nI_le (a := 46) (by omega) (by decide)) (h bu hz)
    | succ d ih =>
      intro i bu hid hz
      refine br_f (nI_ge (b := 46) (by omega) (by decide)) (nm_r (e' := hc_fs s (i + 1)) rfl ⟨vp_in_nI (by omega) (by decide), ?_⟩)
      rw [nI_clamp (by omega), hc_fbI]
      refine nm_e (nm_r (nI_1 i) (ih (i + 1) _ (by omega) (fun k hk => ?_)))
      by_cases e : k = i
      · subst e
        exact pk_us
      · rw [pk_un e]
        exact hz k (by omega)
  exact ⟨_, key 46 0 b_buffer (by omega) (fun k hk => absurd hk (Nat.not_lt_zero k))⟩
end
theorem i_vc_fill {k : Nat} {u : SX} {v : SY} (I : i_Rel k u v) (hk : k + 3 ≤ 1537) (v1 : Int32) : wpX_fill (fun u' => wpY_fill (fun v' => i_Rel (k + 3) u' v') v v1) u v1 := by
  obtain ⟨f_hits, f_limit, f_phase, f_known, f_pivots, a_exp, a_log, a_pointY, a_messageOrder, a_buffer, a_word, a_hitSet, a_syndromes, a_rowPivot, a_colPivot, a_factors, a_reduced, a_votes, a_errors, a_decoded⟩ := u
  obtain ⟨g_limit, g_known, g_phaseNow, b_xs, b_ys, b_buffer, b_sent, b_word, b_onLine, b_hitAt⟩ := v
  have I3 := i_up I
  obtain ⟨M, E, B, H, l, T, TY, GB, GL, GH, rfl, rfl, GP⟩ := I
  refine hx_fill (fun bu h1 => hy_fill (fun bu2 h2 => ?_))
  exact ⟨M, E, hc_fb v1, H, l, T, TY, ⟨h1, h2⟩, GL, GH, rfl, rfl, GP⟩
theorem i_vc_message {k : Nat} {u : SX} {v : SY} (I : i_Rel k u v) (hk : k + 3 ≤ 1537) (v1 : Int32) : wpX_message (fun r => wpY_message (fun r' => r' = r ∧ i_Rel (k + 3) u v) v v1) u v1 := by
  obtain ⟨f_hits, f_limit, f_phase, f_known, f_pivots, a_exp, a_log, a_pointY, a_messageOrder, a_buffer, a_word, a_hitSet, a_syndromes, a_rowPivot, a_colPivot, a_factors, a_reduced, a_votes, a_errors, a_decoded⟩ := u
  obtain ⟨g_limit, g_known, g_phaseNow, b_xs, b_ys, b_buffer, b_sent, b_word, b_onLine, b_hitAt⟩ := v
  have I3 := i_up I
  obtain ⟨M, E, B, H, l, T, TY, GB, GL, GH, rfl, rfl, GP⟩ := I
  by_cases h0 : v1 < 0
  · exact br_t h0 (br_t h0 ⟨rfl, I3⟩)
  · by_cases h45 : v1 ≤ 45
    · obtain ⟨j, hj, rfl⟩ := hc_j45 h0 h45
      refine br_f h0 (br_t h45 ⟨vp_in_nI hj (by decide), br_f h0 (br_t h45 ⟨vp_in_nI hj (by decide), ?_, I3⟩)⟩)
      rw [nI_clamp (by omega), GB.1 j hj, GB.2 j hj]
    · exact br_f h0 (br_f h45 (br_f h0 (br_f h45 ⟨rfl, I3⟩)))
theorem i_vc_send {k : Nat} {u : SX} {v : SY} (I : i_Rel k u v) (hk : k + 3 ≤ 1537) : wpX_send (fun r u' => wpY_send (fun r' v' => r' = r ∧ i_Rel (k + 3) u' v') v) u := by
  obtain ⟨f_hits, f_limit, f_phase, f_known, f_pivots, a_exp, a_log, a_pointY, a_messageOrder, a_buffer, a_word, a_hitSet, a_syndromes, a_rowPivot, a_colPivot, a_factors, a_reduced, a_votes, a_errors, a_decoded⟩ := u
  obtain ⟨g_limit, g_known, g_phaseNow, b_xs, b_ys, b_buffer, b_sent, b_word, b_onLine, b_hitAt⟩ := v
  have I3 := i_up I
  obtain ⟨M, E, B, H, l, T, TY, GB, GL, GH, rfl, rfl, GP⟩ := I
  refine hx_send T GB.1 (fun wo ht sy ro cl fc rd h1 h2 => hy_send TY GB.2 (fun se wo2 ol ht2 h3 h4 h5 h6 => ⟨rfl, ?_⟩))
  refine ⟨B, fun _ => 0, B, fun _ => false, l, T, TY, GB, ⟨fun p hp => ?_, fun p hp => ?_, h4, h3⟩, ⟨h2, h6, fun _ _ c => absurd rfl c, rfl, by rw [hc_c_z (fun _ _ => rfl)]; omega, GH.2.2.2.2.2.1, GH.2.2.2.2.2.2.1, GH.2.2.2.2.2.2.2⟩, rfl, rfl, Or.inr (Or.inl rfl)⟩
  · rw [hc_x0]
    exact h1 p hp
  · rw [hc_x0]
    exact h5 p hp
theorem i_vc_struck {k : Nat} {u : SX} {v : SY} (I : i_Rel k u v) (hk : k + 3 ≤ 1537) (v1 : Int32) : wpX_struck (fun r => wpY_struck (fun r' => r' = r ∧ i_Rel (k + 3) u v) v v1) u v1 := by
  obtain ⟨f_hits, f_limit, f_phase, f_known, f_pivots, a_exp, a_log, a_pointY, a_messageOrder, a_buffer, a_word, a_hitSet, a_syndromes, a_rowPivot, a_colPivot, a_factors, a_reduced, a_votes, a_errors, a_decoded⟩ := u
  obtain ⟨g_limit, g_known, g_phaseNow, b_xs, b_ys, b_buffer, b_sent, b_word, b_onLine, b_hitAt⟩ := v
  have I3 := i_up I
  obtain ⟨M, E, B, H, l, T, TY, GB, GL, GH, rfl, rfl, GP⟩ := I
  by_cases h0 : v1 < 0
  · exact br_t h0 (br_t h0 ⟨rfl, I3⟩)
  · by_cases h63 : v1 ≤ 63
    · obtain ⟨j, hj, rfl⟩ := hc_j63 h0 h63
      refine br_f h0 (br_t h63 ⟨vp_in_nI hj (by decide), ?_⟩)
      rw [nI_clamp (by omega), GH.1 j hj]
      refine ⟨by cases H j <;> rfl, br_f h0 (br_f (Int32.not_lt.mpr h63) ⟨vp_in_nI hj (by decide), ?_⟩)⟩
      rw [nI_clamp (by omega), GH.2.1 j hj]
      cases H j
      · exact br_t rfl ⟨rfl, I3⟩
      · exact br_f (by decide) ⟨rfl, I3⟩
    · exact br_f h0 (br_f h63 (br_f h0 (br_t (Int32.not_le.mp h63) ⟨rfl, I3⟩)))
theorem i_vc_left {k : Nat} {u : SX} {v : SY} (I : i_Rel k u v) (hk : k + 3 ≤ 1537) : wpX_left (fun r => wpY_left (fun r' => r' = r ∧ i_Rel (k + 3) u v) v) u := by
  obtain ⟨f_hits, f_limit, f_phase, f_known, f_pivots, a_exp, a_log, a_pointY, a_messageOrder, a_buffer, a_word, a_hitSet, a_syndromes, a_rowPivot, a_colPivot, a_factors, a_reduced, a_votes, a_errors, a_decoded⟩ := u
  obtain ⟨g_limit, g_known, g_phaseNow, b_xs, b_ys, b_buffer, b_sent, b_word, b_onLine, b_hitAt⟩ := v
  have I3 := i_up I
  obtain ⟨M, E, B, H, l, T, TY, GB, GL, GH, rfl, rfl, GP⟩ := I
  obtain ⟨h1, h2, h3, rfl, h5, h6, rfl, rfl⟩ := GH
  unfold wpX_left
  dsimp only
  refine hy_left h2 h5 ⟨?_, I3⟩
  rw [pk_sub h5]
theorem i_vc_line {k : Nat} {u : SX} {v : SY} (I : i_Rel k u v) (hk : k + 3 ≤ 1537) (v1 : Int32) : wpX_line (fun r => wpY_line (fun r' => r' = r ∧ i_Rel (k + 3) u v) v v1) u v1 := by
  obtain ⟨f_hits, f_limit, f_phase, f_known, f_pivots, a_exp, a_log, a_pointY, a_messageOrder, a_buffer, a_word, a_hitSet, a_syndromes, a_rowPivot, a_colPivot, a_factors, a_reduced, a_votes, a_errors, a_decoded⟩ := u
  obtain ⟨g_limit, g_known, g_phaseNow, b_xs, b_ys, b_buffer, b_sent, b_word, b_onLine, b_hitAt⟩ := v
  have I3 := i_up I
  obtain ⟨M, E, B, H, l, T, TY, GB, GL, GH, rfl, rfl, GP⟩ := I
  by_cases hp : f_phase = 0
  · exact br_t hp (br_t hp ⟨rfl, I3⟩)
  · by_cases h0 : v1 < 0
    · exact br_f hp (br_t h0 (br_f hp (br_t h0 ⟨rfl, I3⟩)))
    · by_cases h63 : v1 ≤ 63
      · obtain ⟨j, hj, rfl⟩ := hc_j63 h0 h63
        refine br_f hp (br_f h0 (br_t h63 ⟨vp_in_nI hj (by decide), br_f hp (br_f h0 (br_t h63 ⟨vp_in_nI hj (by decide), ?_, I3⟩))⟩))
        rw [nI_clamp (by omega), GL.1 j hj, GL.2.1 j hj]
      · exact br_f hp (br_f h0 (br_f h63 (br_f hp (br_f h0 (br_f h63 ⟨rfl, I3⟩)))))
theorem i_vc_phase {k : Nat} {u : SX} {v : SY} (I : i_Rel k u v) (hk : k + 3 ≤ 1537) : wpX_phase (fun r => wpY_phase (fun r' => r' = r ∧ i_Rel (k + 3) u v) v) u := by
  obtain ⟨f_hits, f_limit, f_phase, f_known, f_pivots, a_exp, a_log, a_pointY, a_messageOrder, a_buffer, a_word, a_hitSet, a_syndromes, a_rowPivot, a_colPivot, a_factors, a_reduced, a_votes, a_errors, a_decoded⟩ := u
  obtain ⟨g_limit, g_known, g_phaseNow, b_xs, b_ys, b_buffer, b_sent, b_word, b_onLine, b_hitAt⟩ := v
  have I3 := i_up I
  obtain ⟨M, E, B, H, l, T, TY, GB, GL, GH, rfl, rfl, GP⟩ := I
  exact ⟨rfl, I3⟩
theorem hc_vc_hit2 {E : Nat → BitVec 4} {M : Nat → BitVec 4} {a b c d : Nat → Int32} (GL : hc_Ln M E a b c d) {j : Nat} (hj : j < 64) (w : BitVec 4) :
    hc_Ln M (hc_up E j (E j ^^^ w)) (upd a j (a j ^^^ hc_I w)) (upd b j (b j ^^^ hc_I w)) c d := by
  refine ⟨fun p hp => ?_, fun p hp => ?_, GL.2.2.1, GL.2.2.2⟩
  · by_cases e : p = j
    · subst e
      rw [pk_us, hc_us, GL.1 p hp, hc_Ix, BitVec.xor_assoc]
    · rw [pk_un e, hc_un e]
      exact GL.1 p hp
  · by_cases e : p = j
    · subst e
      rw [pk_us, hc_us, GL.2.1 p hp, hc_Ix, BitVec.xor_assoc]
    · rw [pk_un e, hc_un e]
      exact GL.2.1 p hp
theorem i_vc_hit {k : Nat} {u : SX} {v : SY} (I : i_Rel k u v) (hk : k + 3 ≤ 1537) (v1 : Int32) (v2 : Int32) : wpX_hit (fun r u' => wpY_hit (fun r' v' => r' = r ∧ i_Rel (k + 3) u' v') v v1 v2) u v1 v2 := by
  obtain ⟨f_hits, f_limit, f_phase, f_known, f_pivots, a_exp, a_log, a_pointY, a_messageOrder, a_buffer, a_word, a_hitSet, a_syndromes, a_rowPivot, a_colPivot, a_factors, a_reduced, a_votes, a_errors, a_decoded⟩ := u
  obtain ⟨g_limit, g_known, g_phaseNow, b_xs, b_ys, b_buffer, b_sent, b_word, b_onLine, b_hitAt⟩ := v
  have I3 := i_up I
  obtain ⟨M, E, B, H, l, T, TY, GB, GL, GH, rfl, rfl, GP⟩ := I
  by_cases hp : f_phase = 1
  · subst hp
    refine br_t rfl ?_
    by_cases h0 : v1 < 0
    · exact br_t h0 (br_t rfl (br_t h0 ⟨rfl, I3⟩))
    · refine br_f h0 ?_
      by_cases h63 : v1 ≤ 63
      · refine br_t h63 ?_
        by_cases g1 : v2 < 1
        · exact br_t g1 (br_t rfl (br_f h0 (br_t h63 (br_t g1 ⟨rfl, I3⟩))))
        · refine br_f g1 ?_
          by_cases g15 : v2 ≤ 15
          · obtain ⟨j, hj, rfl⟩ := hc_j63 h0 h63
            obtain ⟨w, rfl⟩ := hc_j15 (hc_lt1 g1) g15
            obtain ⟨i1, i2, i3, i4, i5, i6, i7, i8⟩ := GH
            subst i4 i7 i8
            have hv : vp_in (nI j) 64 := vp_in_nI hj (by decide)
            refine br_t g15 ⟨hv, ?_⟩
            rw [nI_clamp (by omega), i1 j hj]
            cases hH : H j with
            | true =>
              refine br_f (by decide) ⟨hv, hv, ?_⟩
              rw [nI_clamp (by omega)]
              refine nm_e ⟨hv, ?_⟩
              refine br_t rfl (br_f h0 (br_t h63 (br_f g1 (br_t g15 ⟨hv, ?_⟩))))
              rw [nI_clamp (by omega), i2 j hj, hH]
              refine br_f (by decide) ⟨hv, hv, ?_⟩
              rw [nI_clamp (by omega)]
              refine nm_e ⟨hv, nm_e ⟨hv, ?_, ?_⟩⟩
              · rw [pk_us, pk_us, GL.1 j hj, GL.2.1 j hj]
              · refine ⟨M, hc_up E j (E j ^^^ w), B, H, l, T, TY, GB, hc_vc_hit2 GL hj w, ⟨i1, fun p hp => ?_, fun p hp he => ?_, rfl, i5, i6, rfl, rfl⟩, rfl, rfl, Or.inr (Or.inl rfl)⟩
                · by_cases e : p = j
                  · subst e
                    rw [pk_us, hH]
                    rfl
                  · rw [pk_un e]
                    exact i2 p hp
                · by_cases e : p = j
                  · rw [e]
                    exact hH
                  · rw [hc_un e] at he
                    exact i3 p hp he
            | false =>
              refine br_t rfl ?_
              by_cases hl : hc_c H 64 < l
              · refine br_t (nI_lt hl (by omega)) ⟨hv, ?_⟩
                refine nm_e (nm_r (nI_1 _) ⟨hv, hv, ?_⟩)
                rw [nI_clamp (by omega)]
                refine nm_e ⟨hv, ?_⟩
                refine br_t rfl (br_f h0 (br_t h63 (br_f g1 (br_t g15 ⟨hv, ?_⟩))))
                rw [nI_clamp (by omega), i2 j hj, hH]
                refine br_t rfl (hy_left i2 i5 (br_f (nI_ne0 (by omega) (by omega)) ⟨hv, hv, ?_⟩))
                rw [nI_clamp (by omega)]
                refine nm_e ⟨hv, nm_e ⟨hv, ?_, ?_⟩⟩
                · rw [pk_us, pk_us, GL.1 j hj, GL.2.1 j hj]
                · refine ⟨M, hc_up E j (E j ^^^ w), B, hc_up H j true, l, T, TY, GB, hc_vc_hit2 GL hj w, ⟨fun p hp => ?_, fun p hp => ?_, fun p hp he => ?_, ?_, ?_, i6, rfl, rfl⟩, rfl, rfl, Or.inr (Or.inl rfl)⟩
                  · by_cases e : p = j
                    · subst e
                      rw [pk_us, hc_us]
                      rfl
                    · rw [pk_un e, hc_un e]
                      exact i1 p hp
                  · by_cases e : p = j
                    · subst e
                      rw [pk_us, hc_us]
                      rfl
                    · rw [pk_un e, hc_un e]
                      exact i2 p hp
                  · by_cases e : p = j
                    · rw [e]
                      exact hc_us
                    · rw [hc_un e] at he
                      rw [hc_un e]
                      exact i3 p hp he
                  · exact congrArg nI (hc_c_upd hj hH).symm
                  · have := hc_c_upd hj hH
                    unfold hc_up
                    omega
              · refine br_f (nI_nlt (by omega) (by omega)) ?_
                refine br_t rfl (br_f h0 (br_t h63 (br_f g1 (br_t g15 ⟨hv, ?_⟩))))
                rw [nI_clamp (by omega), i2 j hj, hH]
                refine br_t rfl (hy_left i2 i5 (br_t ?_ ⟨rfl, I3⟩))
                rw [show l - hc_c H 64 = 0 from by omega]
                rfl
          · exact br_f g15 (br_t rfl (br_f h0 (br_t h63 (br_f g1 (br_f g15 ⟨rfl, I3⟩)))))
      · exact br_f h63 (br_t rfl (br_f h0 (br_f h63 ⟨rfl, I3⟩)))
  · exact br_f hp (br_f hp ⟨rfl, I3⟩)
end
section
/-! ===== the calls of the receiver ===== -/
theorem i_vc_listen {k : Nat} {u : SX} {v : SY} (I : i_Rel k u v) (hk : k + 3 ≤ 1537) : wpX_listen (fun r u' => wpY_listen (fun r' v' => r' = r ∧ i_Rel (k + 3) u' v') v) u := by
  obtain ⟨f_hits, f_limit, f_phase, f_known, f_pivots, a_exp, a_log, a_pointY, a_messageOrder, a_buffer, a_word, a_hitSet, a_syndromes, a_rowPivot, a_colPivot, a_factors, a_reduced, a_votes, a_errors, a_decoded⟩ := u
  obtain ⟨g_limit, g_known, g_phaseNow, b_xs, b_ys, b_buffer, b_sent, b_word, b_onLine, b_hitAt⟩ := v
  have I3 := i_up I
  obtain ⟨M, E, B, H, l, T, TY, GB, GL, GH, rfl, rfl, GP⟩ := I
  by_cases hp : f_phase = 1
  · subst hp
    refine hx_lis T (hc_6of GH) GL.1 (fun fp sy ro cl fc rd hE hS => hy_lis TY (hc_ln_E GL) ⟨rfl, ?_⟩)
    exact ⟨M, E, B, H, l, T, TY, GB, GL, GH, rfl, rfl, Or.inr (Or.inr ⟨23, by omega, by omega, rfl, hS, Or.inl ⟨rfl, hE⟩⟩)⟩
  · exact br_f hp (br_f hp ⟨rfl, I3⟩)
theorem i_vc_advance {k : Nat} {u : SX} {v : SY} (I : i_Rel k u v) (hk : k + 3 ≤ 1537) (v1 : Int32) : wpX_advance (fun r u' => wpY_advance (fun r' v' => r' = r ∧ i_Rel (k + 3) u' v') v v1) u v1 := by
  obtain ⟨f_hits, f_limit, f_phase, f_known, f_pivots, a_exp, a_log, a_pointY, a_messageOrder, a_buffer, a_word, a_hitSet, a_syndromes, a_rowPivot, a_colPivot, a_factors, a_reduced, a_votes, a_errors, a_decoded⟩ := u
  obtain ⟨g_limit, g_known, g_phaseNow, b_xs, b_ys, b_buffer, b_sent, b_word, b_onLine, b_hitAt⟩ := v
  have I3 := i_up I
  obtain ⟨M, E, B, H, l, T, TY, GB, GL, GH, rfl, rfl, GP⟩ := I
  by_cases hp : f_phase = 2
  · subst hp
    refine br_t rfl ?_
    by_cases g1 : v1 < 1
    · exact br_t g1 (br_t rfl (br_t g1 ⟨rfl, I3⟩))
    · refine br_f g1 ?_
      by_cases g13 : v1 ≤ 13
      · refine br_t g13 ?_
        obtain ⟨N, hN, rfl⟩ := nI_of2 (x := v1) (M := 13) (n := 13) (by decide) (hc_lt1 g1) g13
        obtain ⟨kn, h1, h2, rfl, hS, hE⟩ := hc_ph2 GP
        by_cases h75 : kn < 75
        · refine br_t (nI_lt (b := 75) h75 (by decide)) ?_
          refine hx_adv T (hc_6of GH) h1 h2 hN hE hS (fun k2 fp sy ro cl fc rd vt j1 j2 j3 hE2 hS2 => ?_)
          have IR : i_Rel (k + 3) (f_hits, f_limit, 2, nI k2, fp, a_exp, a_log, a_pointY, a_messageOrder, a_buffer, a_word, a_hitSet, sy, ro, cl, fc, rd, vt, a_errors, a_decoded) (g_limit, nI k2, 2, b_xs, b_ys, b_buffer, b_sent, b_word, b_onLine, b_hitAt) :=
            ⟨M, E, B, H, l, T, TY, GB, GL, GH, rfl, rfl, Or.inr (Or.inr ⟨k2, j1, j2, rfl, hS2, Or.inl ⟨rfl, hE2⟩⟩)⟩
          have hne : ¬ nI kn = 75 := fun c => by
            have := (nI_eq (a := kn) (b := 75) (by omega) (by decide)).mp c
            omega
          refine br_t rfl (br_f g1 (br_t g13 (br_f hne ?_)))
          rw [nI_add]
          by_cases hle : kn + N ≤ 75
          · have e : k2 = kn + N := by omega
            subst e
            exact br_t (nI_le (b := 75) hle (by decide)) (nm_e ⟨rfl, IR⟩)
          · have e : k2 = 75 := by omega
            subst e
            exact br_f (nI_ge (a := 75) (by omega) (by omega)) ⟨rfl, IR⟩
        · have e : kn = 75 := by omega
          subst e
          exact br_f (nI_nlt (b := 75) (by omega) (by decide)) (br_t rfl (br_f g1 (br_t g13 (br_t rfl ⟨rfl, I3⟩))))
      · exact br_f g13 (br_t rfl (br_f g1 (br_f g13 ⟨rfl, I3⟩)))
  · exact br_f hp (br_f hp ⟨rfl, I3⟩)
theorem i_vc_syndrome {k : Nat} {u : SX} {v : SY} (I : i_Rel k u v) (hk : k + 3 ≤ 1537) (v1 : Int32) : wpX_syndrome (fun r => wpY_syndrome (fun r' => r' = r ∧ i_Rel (k + 3) u v) v v1) u v1 := by
  obtain ⟨f_hits, f_limit, f_phase, f_known, f_pivots, a_exp, a_log, a_pointY, a_messageOrder, a_buffer, a_word, a_hitSet, a_syndromes, a_rowPivot, a_colPivot, a_factors, a_reduced, a_votes, a_errors, a_decoded⟩ := u
  obtain ⟨g_limit, g_known, g_phaseNow, b_xs, b_ys, b_buffer, b_sent, b_word, b_onLine, b_hitAt⟩ := v
  have I3 := i_up I
  obtain ⟨M, E, B, H, l, T, TY, GB, GL, GH, rfl, rfl, GP⟩ := I
  by_cases p0 : f_phase = 0
  · exact br_t p0 (br_t p0 ⟨rfl, I3⟩)
  · by_cases p1 : f_phase = 1
    · exact br_f p0 (br_t p1 (br_f p0 (br_t p1 ⟨rfl, I3⟩)))
    · by_cases h0 : v1 < 0
      · exact br_f p0 (br_f p1 (br_t h0 (br_f p0 (br_f p1 (br_t h0 ⟨rfl, I3⟩)))))
      · by_cases h75 : v1 ≤ 75
        · obtain ⟨o, ho, rfl⟩ := hc_j75 h0 h75
          obtain ⟨kn, h2, rfl, hS⟩ := hc_ph23 GP p0 p1
          refine br_f p0 (br_f p1 (br_f h0 (br_t h75 ?_)))
          by_cases hn : hc_n o = true
          · refine hx_gap0 (by omega) hn (br_t rfl ?_)
            by_cases hok : o ≤ kn
            · have hle : nI o ≤ nI kn := nI_le hok (by omega)
              refine br_t hle ⟨vp_in_nI ho (by decide), ?_⟩
              refine br_f p0 (br_f p1 (br_f h0 (br_t h75 ?_)))
              refine hy_gap0 (by omega) hn (br_t rfl (br_t hle ?_))
              refine hy_sum TY (hc_ln_E GL) ho hn ⟨?_, I3⟩
              rw [nI_clamp (by omega), hS o (by omega) hn]
            · have hle : ¬ nI o ≤ nI kn := nI_ge (by omega) (by omega)
              refine br_f hle ?_
              refine br_f p0 (br_f p1 (br_f h0 (br_t h75 ?_)))
              exact hy_gap0 (by omega) hn (br_t rfl (br_f hle ⟨rfl, I3⟩))
          · refine hx_gap1 (by omega) hn (br_f (by decide) ?_)
            refine br_f p0 (br_f p1 (br_f h0 (br_t h75 ?_)))
            exact hy_gap1 (by omega) hn (br_f (by decide) ⟨rfl, I3⟩)
        · exact br_f p0 (br_f p1 (br_f h0 (br_f h75 (br_f p0 (br_f p1 (br_f h0 (br_f h75 ⟨rfl, I3⟩)))))))
theorem i_vc_finish {k : Nat} {u : SX} {v : SY} (I : i_Rel k u v) (hk : k + 3 ≤ 1537) : wpX_finish (fun r u' => wpY_finish (fun r' v' => r' = r ∧ i_Rel (k + 3) u' v') v) u := by
  obtain ⟨f_hits, f_limit, f_phase, f_known, f_pivots, a_exp, a_log, a_pointY, a_messageOrder, a_buffer, a_word, a_hitSet, a_syndromes, a_rowPivot, a_colPivot, a_factors, a_reduced, a_votes, a_errors, a_decoded⟩ := u
  obtain ⟨g_limit, g_known, g_phaseNow, b_xs, b_ys, b_buffer, b_sent, b_word, b_onLine, b_hitAt⟩ := v
  have I3 := i_up I
  obtain ⟨M, E, B, H, l, T, TY, GB, GL, GH, rfl, rfl, GP⟩ := I
  by_cases hp : f_phase = 2
  · subst hp
    refine br_t rfl ?_
    obtain ⟨kn, h1, h2, rfl, hS, hE⟩ := hc_ph2 GP
    by_cases h75 : 75 ≤ kn
    · have e : kn = 75 := by omega
      subst e
      refine br_t (nI_le (a := 75) h75 (by decide)) ?_
      refine hx_fin T GL.1 hS (fun er de j1 j2 => ?_)
      refine br_t rfl (br_t (nI_le (a := 75) h75 (by decide)) ?_)
      refine hy_errs GL.2.1 GL.2.2.1 ⟨rfl, ?_⟩
      exact ⟨M, E, B, H, l, T, TY, GB, GL, GH, rfl, rfl, Or.inr (Or.inr ⟨75, h1, h2, rfl, hS, Or.inr ⟨rfl, rfl, j1, j2⟩⟩)⟩
    · have hlt : ¬ 75 ≤ nI kn := nI_ge (b := 75) (by omega) (by decide)
      exact br_f hlt (br_t rfl (br_f hlt ⟨rfl, I3⟩))
  · exact br_f hp (br_f hp ⟨rfl, I3⟩)
theorem i_vc_corrected {k : Nat} {u : SX} {v : SY} (I : i_Rel k u v) (hk : k + 3 ≤ 1537) (v1 : Int32) : wpX_corrected (fun r => wpY_corrected (fun r' => r' = r ∧ i_Rel (k + 3) u v) v v1) u v1 := by
  obtain ⟨f_hits, f_limit, f_phase, f_known, f_pivots, a_exp, a_log, a_pointY, a_messageOrder, a_buffer, a_word, a_hitSet, a_syndromes, a_rowPivot, a_colPivot, a_factors, a_reduced, a_votes, a_errors, a_decoded⟩ := u
  obtain ⟨g_limit, g_known, g_phaseNow, b_xs, b_ys, b_buffer, b_sent, b_word, b_onLine, b_hitAt⟩ := v
  have I3 := i_up I
  obtain ⟨M, E, B, H, l, T, TY, GB, GL, GH, rfl, rfl, GP⟩ := I
  by_cases hp : f_phase = 3
  · subst hp
    by_cases h0 : v1 < 0
    · exact br_t rfl (br_t h0 (br_t rfl (br_t h0 ⟨rfl, I3⟩)))
    · by_cases h63 : v1 ≤ 63
      · obtain ⟨j, hj, rfl⟩ := hc_j63 h0 h63
        have hv : vp_in (nI j) 64 := vp_in_nI hj (by decide)
        refine br_t rfl (br_f h0 (br_t h63 ⟨hv, hv, br_t rfl (br_f h0 (br_t h63 ⟨hv, ?_, I3⟩))⟩))
        rw [nI_clamp (by omega), GL.1 j hj, GL.2.2.1 j hj, (hc_ph3 GP).1 j hj, hc_Ix, hc_xc]
      · exact br_t rfl (br_f h0 (br_f h63 (br_t rfl (br_f h0 (br_f h63 ⟨rfl, I3⟩)))))
  · exact br_f hp (br_f hp ⟨rfl, I3⟩)
theorem i_vc_delivered {k : Nat} {u : SX} {v : SY} (I : i_Rel k u v) (hk : k + 3 ≤ 1537) (v1 : Int32) : wpX_delivered (fun r => wpY_delivered (fun r' => r' = r ∧ i_Rel (k + 3) u v) v v1) u v1 := by
  obtain ⟨f_hits, f_limit, f_phase, f_known, f_pivots, a_exp, a_log, a_pointY, a_messageOrder, a_buffer, a_word, a_hitSet, a_syndromes, a_rowPivot, a_colPivot, a_factors, a_reduced, a_votes, a_errors, a_decoded⟩ := u
  obtain ⟨g_limit, g_known, g_phaseNow, b_xs, b_ys, b_buffer, b_sent, b_word, b_onLine, b_hitAt⟩ := v
  have I3 := i_up I
  obtain ⟨M, E, B, H, l, T, TY, GB, GL, GH, rfl, rfl, GP⟩ := I
  by_cases hp : f_phase = 3
  · subst hp
    by_cases h0 : v1 < 0
    · exact br_t rfl (br_t h0 (br_t rfl (br_t h0 ⟨rfl, I3⟩)))
    · by_cases h45 : v1 ≤ 45
      · obtain ⟨j, hj, rfl⟩ := hc_j45 h0 h45
        have hv : vp_in (nI j) 46 := vp_in_nI hj (by decide)
        refine br_t rfl (br_f h0 (br_t h45 ⟨hv, br_t rfl (br_f h0 (br_t h45 ⟨hv, ?_, I3⟩))⟩))
        rw [nI_clamp (by omega), GL.2.2.2 j hj, (hc_ph3 GP).2 j hj]
      · exact br_t rfl (br_f h0 (br_f h45 (br_t rfl (br_f h0 (br_f h45 ⟨rfl, I3⟩)))))
  · exact br_f hp (br_f hp ⟨rfl, I3⟩)
theorem i_vc_relay {k : Nat} {u : SX} {v : SY} (I : i_Rel k u v) (hk : k + 3 ≤ 1537) : wpX_relay (fun r u' => wpY_relay (fun r' v' => r' = r ∧ i_Rel (k + 3) u' v') v) u := by
  obtain ⟨f_hits, f_limit, f_phase, f_known, f_pivots, a_exp, a_log, a_pointY, a_messageOrder, a_buffer, a_word, a_hitSet, a_syndromes, a_rowPivot, a_colPivot, a_factors, a_reduced, a_votes, a_errors, a_decoded⟩ := u
  obtain ⟨g_limit, g_known, g_phaseNow, b_xs, b_ys, b_buffer, b_sent, b_word, b_onLine, b_hitAt⟩ := v
  have I3 := i_up I
  obtain ⟨M, E, B, H, l, T, TY, GB, GL, GH, rfl, rfl, GP⟩ := I
  by_cases hp : f_phase = 3
  · subst hp
    refine hx_rel GL.1 (hc_ph3 GP).1 (fun wo ht sy ro cl fc rd h1 h2 => ?_)
    refine br_t rfl (hy_errs GL.2.1 GL.2.2.1 (hy_line (fun ol ht2 h3 h4 => ⟨rfl, ?_⟩)))
    refine ⟨M, fun _ => 0, B, fun _ => false, l, T, TY, GB, ⟨fun p hp => ?_, fun p hp => ?_, GL.2.2.1, GL.2.2.2⟩, ⟨h2, h4, fun _ _ c => absurd rfl c, rfl, by rw [hc_c_z (fun _ _ => rfl)]; omega, GH.2.2.2.2.2.1, GH.2.2.2.2.2.2.1, GH.2.2.2.2.2.2.2⟩, rfl, rfl, Or.inr (Or.inl rfl)⟩
    · rw [hc_x0]
      exact h1 p hp
    · rw [hc_x0]
      exact (h3 p hp).trans (GL.2.2.1 p hp)
  · exact br_f hp (br_f hp ⟨rfl, I3⟩)
end
