section
/-! pure rows to paste: stores, nI and lN arithmetic, masks, shifts, narrowing, branches by naturals (pk_le, pk_lt, pk_eq), loops (lp1 .. lp16: the measure of the state; rp1 ..: recursion), negatives. Take what you need -/
theorem pk_us {f : Nat → Int32} {k : Nat} {x : Int32} : upd f k x k = x := if_pos rfl
theorem pk_un {f : Nat → Int32} {k j : Nat} {x : Int32} (h : j ≠ k) : upd f k x j = f j := if_neg h
theorem pk_uLs {f : Nat → Int64} {k : Nat} {x : Int64} : vp_updL f k x k = x := if_pos rfl
theorem pk_uLn {f : Nat → Int64} {k j : Nat} {x : Int64} (h : j ≠ k) : vp_updL f k x j = f j := if_neg h
theorem pk_sub {a b : Nat} (h : b ≤ a) : nI a - nI b = nI (a - b) := by
  obtain ⟨c, rfl⟩ : ∃ c, a = c + b := ⟨a - b, by omega⟩
  rw [← nI_add, Int32.add_sub_cancel, Nat.add_sub_cancel]
theorem pk_m1 (n : Nat) : nI (n + 1) + (-1) = nI n := by
  rw [← nI_1, Int32.add_assoc, show (1 : Int32) + (-1) = 0 from rfl, Int32.add_zero]
theorem pk_mul (a b : Nat) : nI a * nI b = nI (a * b) := (Int32.ofNat_mul a b).symm
theorem pk_div {a d : Nat} (ha : a < 2 ^ 31) (h0 : 0 < d) (hd : d < 2 ^ 31) : nI a / nI d = nI (a / d) := by
  apply Int32.toInt_inj.mp
  rw [lg_idiv_nonneg (by rw [nI_toInt ha]; omega) (by rw [nI_toInt hd]; omega), nI_toInt ha, nI_toInt hd, nI_toInt (Nat.lt_of_le_of_lt (Nat.div_le_self a d) ha)]
  first | rfl | exact (Int.natCast_ediv _ _).symm
theorem pk_rem {a d : Nat} (ha : a < 2 ^ 31) (h0 : 0 < d) (hd : d < 2 ^ 31) : nI a - nI a / nI d * nI d = nI (a % d) := by
  rw [pk_div ha h0 hd, pk_mul, pk_sub (Nat.div_mul_le_self a d)]
  exact congrArg nI (by have := Nat.div_add_mod' a d; omega)
theorem pk_sub_toInt {a b : Nat} (ha : a < 2 ^ 30) (hb : b < 2 ^ 30) : (nI a - nI b).toInt = (a : Int) - b := by
  rw [Int32.toInt_sub, nI_toInt (by omega), nI_toInt (by omega)]
  exact Int.bmod_eq_of_le (by omega) (by omega)
theorem pk_sneg {a b : Nat} (hb : b < 2 ^ 30) (h : a < b) : nI a - nI b < 0 := by
  rw [Int32.lt_iff_toInt_lt, pk_sub_toInt (by omega) hb, show (0 : Int32).toInt = 0 from by decide]
  omega
theorem pk_ix (x : Int32) {n : Nat} (hn : n < 2 ^ 31) : x < 0 ∨ nI n ≤ x ∨ ∃ j : Nat, j < n ∧ x = nI j := by
  by_cases h : x < 0
  · exact Or.inl h
  · obtain ⟨j, hj, rfl⟩ := nI_of h
    by_cases h2 : j < n
    · exact Or.inr (Or.inr ⟨j, h2, rfl⟩)
    · exact Or.inr (Or.inl (nI_le (by omega) hj))
theorem pk_le {x y : Int32} {A B : Prop} (a b : Nat) (f : a ≤ b → A) (g : b < a → B) (hx : x = nI a := by rfl) (hy : y = nI b := by rfl) (ha : a < 2 ^ 31 := by omega) (hb : b < 2 ^ 31 := by omega) : (x ≤ y → A) ∧ (¬ x ≤ y → B) := by
  subst hx hy
  rw [nI_leI ha hb]
  exact ⟨f, fun z => g (by omega)⟩
theorem pk_lt {x y : Int32} {A B : Prop} (a b : Nat) (f : a < b → A) (g : b ≤ a → B) (hx : x = nI a := by rfl) (hy : y = nI b := by rfl) (ha : a < 2 ^ 31 := by omega) (hb : b < 2 ^ 31 := by omega) : (x < y → A) ∧ (¬ x < y → B) := by
  subst hx hy
  rw [nI_ltI ha hb]
  exact ⟨f, fun z => g (by omega)⟩
theorem pk_eq {x y : Int32} {A B : Prop} (a b : Nat) (f : a = b → A) (g : a ≠ b → B) (hx : x = nI a := by rfl) (hy : y = nI b := by rfl) (ha : a < 2 ^ 31 := by omega) (hb : b < 2 ^ 31 := by omega) : (x = y → A) ∧ (¬ x = y → B) := by
  subst hx hy
  rw [nI_eq ha hb]
  exact ⟨f, g⟩
theorem pk_in {x : Int32} (n N : Nat) (h : n < N) (hx : x = nI n := by rfl) (hN : N < 2 ^ 31 := by omega) : vp_in x N := by
  subst hx
  exact vp_in_nI h hN
theorem pk_cl {x : Int32} (n : Nat) (hx : x = nI n := by rfl) (h : n < 2 ^ 31 := by omega) : x.toNatClampNeg = n := by
  subst hx
  exact nI_clamp h
theorem pk_tn {n : Nat} (h : n < 2 ^ 32) : (nI n).toBitVec.toNat = n := Nat.mod_eq_of_lt h
theorem pk_and (x : Int32) {m : Int32} (k : Nat) (hm : m.toBitVec.toNat = 2 ^ k - 1) : x &&& m = nI (x.toBitVec.toNat % 2 ^ k) := by
  apply Int32.toBitVec_inj.mp
  apply BitVec.eq_of_toNat_eq
  rw [Int32.toBitVec_and, BitVec.toNat_and, hm, Nat.and_two_pow_sub_one_eq_mod]
  show _ = (BitVec.ofNat 32 _).toNat
  rw [BitVec.toNat_ofNat]
  exact (Nat.mod_eq_of_lt (Nat.lt_of_le_of_lt (Nat.mod_le _ _) x.toBitVec.isLt)).symm
theorem pk_andN {n : Nat} (h : n < 2 ^ 32) {m : Int32} (k : Nat) (hm : m.toBitVec.toNat = 2 ^ k - 1) : nI n &&& m = nI (n % 2 ^ k) := by
  rw [pk_and _ k hm, pk_tn h]
theorem pk_andE (x : Int32) {m : Int32} (k : Nat) (hm : m.toBitVec.toNat = 2 ^ k - 1) : ∃ j : Nat, j < 2 ^ k ∧ x &&& m = nI j := ⟨_, Nat.mod_lt _ (Nat.two_pow_pos k), pk_and x k hm⟩
theorem pk_andIn (x : Int32) {m : Int32} (k : Nat) (hm : m.toBitVec.toNat = 2 ^ k - 1) (hk : k ≤ 30) : vp_in (x &&& m) (2 ^ k) := by
  obtain ⟨j, hj, e⟩ := pk_andE x k hm
  rw [e]
  exact vp_in_nI hj (Nat.lt_of_le_of_lt (Nat.pow_le_pow_right (by decide) hk) (by decide))
theorem pk_shl (a s : Int32) (k : Nat) (hs : (s.toBitVec.smod 32).toNat = k) : (a <<< s).toBitVec.toNat = a.toBitVec.toNat * 2 ^ k % 2 ^ 32 := by
  show (a.toBitVec <<< (s.toBitVec.smod 32).toNat).toNat = _
  rw [hs, BitVec.toNat_shiftLeft, Nat.shiftLeft_eq]
theorem pk_shlN {n : Nat} (s : Int32) (k : Nat) (hs : (s.toBitVec.smod 32).toNat = k) (h : n * 2 ^ k < 2 ^ 32) : nI n <<< s = nI (n * 2 ^ k) := by
  apply Int32.toBitVec_inj.mp
  apply BitVec.eq_of_toNat_eq
  have hn : n < 2 ^ 32 := Nat.lt_of_le_of_lt (Nat.le_mul_of_pos_right n (Nat.two_pow_pos k)) h
  rw [pk_shl _ _ k hs, pk_tn hn, pk_tn h, Nat.mod_eq_of_lt h]
theorem pk_shr (a s : Int32) (k : Nat) (hs : (s.toBitVec.smod 32).toNat = k) : (a >>> s).toInt = a.toInt >>> k := by
  show (a.toBitVec.sshiftRight (s.toBitVec.smod 32).toNat).toInt = _
  rw [hs, BitVec.toInt_sshiftRight]
  rfl
theorem pk_shrN {n : Nat} (h : n < 2 ^ 31) (s : Int32) (k : Nat) (hs : (s.toBitVec.smod 32).toNat = k) : nI n >>> s = nI (n / 2 ^ k) := by
  apply Int32.toInt_inj.mp
  have h2 : n / 2 ^ k ≤ n := Nat.div_le_self _ _
  rw [pk_shr _ _ k hs, nI_toInt h, nI_toInt (by omega), Int.shiftRight_eq_div_pow]
  rfl
theorem pk_ushr (x s : Int32) (k : Nat) (hs : ((s.toUInt32 &&& Int32.toUInt32 31).toBitVec % 32).toNat = k) : (x.toUInt32 >>> (s.toUInt32 &&& Int32.toUInt32 31)).toInt32.toBitVec.toNat = x.toBitVec.toNat / 2 ^ k := by
  have e : (x.toUInt32 >>> (s.toUInt32 &&& Int32.toUInt32 31)).toInt32.toBitVec = x.toBitVec >>> k := by
    rw [← hs]
    exact UInt32.toBitVec_shiftRight _ _
  rw [e, BitVec.toNat_ushiftRight, Nat.shiftRight_eq_div_pow]
theorem pk_ushrN {n : Nat} (hn : n < 2 ^ 32) (s : Int32) (k : Nat) (hs : ((s.toUInt32 &&& Int32.toUInt32 31).toBitVec % 32).toNat = k) : ((nI n).toUInt32 >>> (s.toUInt32 &&& Int32.toUInt32 31)).toInt32 = nI (n / 2 ^ k) := by
  apply Int32.toBitVec_inj.mp
  apply BitVec.eq_of_toNat_eq
  rw [pk_ushr _ s k hs, pk_tn hn, pk_tn (Nat.lt_of_le_of_lt (Nat.div_le_self _ _) hn)]
theorem pk_nb (z : Int32) : narrow .byte (.int z.toInt8.toInt32) = .int z.toInt8.toInt32 := congrArg Value.int (by simp)
theorem pk_ns (z : Int32) : narrow .short (.int z.toInt16.toInt32) = .int z.toInt16.toInt32 := congrArg Value.int (by simp)
theorem pk_fb (r : Int32) : fits .byte (.int r.toInt8.toInt32) = true := by
  have ⟨a, b⟩ := lg_i2b_range r
  have h1 : (-128 : Int32).toInt = -128 := by decide
  have h2 : (127 : Int32).toInt = 127 := by decide
  simp only [fits, Bool.and_eq_true, decide_eq_true_eq, Int32.le_iff_toInt_le, h1, h2]
  omega
theorem pk_fs (r : Int32) : fits .short (.int r.toInt16.toInt32) = true := by
  have ⟨a, b⟩ := lg_i2s_range r
  have h1 : (-32768 : Int32).toInt = -32768 := by decide
  have h2 : (32767 : Int32).toInt = 32767 := by decide
  simp only [fits, Bool.and_eq_true, decide_eq_true_eq, Int32.le_iff_toInt_le, h1, h2]
  omega
theorem pk_charN {q : Nat} (hq : q < 65536) : narrow .char (.int (nI q)) = .int (nI q) ∧ fits .char (.int (nI q)) = true := by
  constructor
  · have e : (nI q).toUInt32.toUInt16.toUInt32.toInt32 = nI q := by
      apply Int32.toBitVec_inj.mp
      apply BitVec.eq_of_toNat_eq
      show (nI q).toUInt32.toUInt16.toUInt32.toNat = q % 2 ^ 32
      rw [UInt16.toNat_toUInt32, UInt32.toNat_toUInt16, show (nI q).toUInt32.toNat = q % 2 ^ 32 from rfl]
      omega
    exact congrArg Value.int e
  · have a : (0 : Int32) ≤ nI q := nI_pos' (by omega)
    have b : nI q ≤ 65535 := nI_le (b := 65535) (by omega) (by decide)
    show (decide ((0 : Int32) ≤ nI q) && decide (nI q ≤ 65535)) = true
    rw [decide_eq_true a, decide_eq_true b]
    rfl
theorem pk_char (x : Int32) : (x.toUInt32 % 65536).toInt32 = nI (x.toBitVec.toNat % 65536) := by
  apply Int32.toBitVec_inj.mp
  apply BitVec.eq_of_toNat_eq
  rw [pk_tn (by omega)]
  show (x.toUInt32 % 65536).toNat = _
  rw [UInt32.toNat_mod]
  rfl
theorem pk_nc (x : Int32) : narrow .char (.int (x.toUInt32 % 65536).toInt32) = .int (x.toUInt32 % 65536).toInt32 := by
  rw [pk_char]
  exact (pk_charN (Nat.mod_lt _ (by decide))).1
theorem pk_fc (x : Int32) : fits .char (.int (x.toUInt32 % 65536).toInt32) = true := by
  rw [pk_char]
  exact (pk_charN (Nat.mod_lt _ (by decide))).2
theorem pk_vb (z : Int32) : vp_nar .byte z.toInt8.toInt32 = z.toInt8.toInt32 := by rw [vp_nar_byte]; simp
theorem pk_vs (z : Int32) : vp_nar .short z.toInt16.toInt32 = z.toInt16.toInt32 := by rw [vp_nar_short]; simp
theorem pk_vc (z : Int32) : vp_nar .char (z.toUInt32 % 65536).toInt32 = (z.toUInt32 % 65536).toInt32 := Value.int.inj (pk_nc z)
theorem pk_lT {n : Nat} (h : n < 2 ^ 63) : (lN n).toInt = (n : Int) := lg_ofNat_toInt h
theorem pk_lLT {a b : Nat} (ha : a < 2 ^ 63) (hb : b < 2 ^ 63) : lN a < lN b ↔ a < b := by
  rw [Int64.lt_iff_toInt_lt, pk_lT ha, pk_lT hb]; omega
theorem pk_lLE {a b : Nat} (ha : a < 2 ^ 63) (hb : b < 2 ^ 63) : lN a ≤ lN b ↔ a ≤ b := by
  rw [Int64.le_iff_toInt_le, pk_lT ha, pk_lT hb]; omega
theorem pk_lEQ {a b : Nat} (ha : a < 2 ^ 63) (hb : b < 2 ^ 63) : lN a = lN b ↔ a = b := by
  rw [← Int64.toInt_inj, pk_lT ha, pk_lT hb]; omega
theorem pk_lOf {x : Int64} (h : ¬ x < 0) : ∃ k : Nat, k < 2 ^ 63 ∧ x = lN k := by
  rw [Int64.lt_iff_toInt_lt] at h
  have h0 : (0 : Int64).toInt = 0 := by decide
  have hx := Int64.toInt_lt x
  refine ⟨x.toInt.toNat, by omega, Int64.toInt_inj.mp ?_⟩
  rw [pk_lT (by omega)]
  omega
theorem pk_lDiv {a b : Nat} (ha : a < 2 ^ 63) (h0 : 0 < b) (hb : b < 2 ^ 63) : lN a / lN b = lN (a / b) := by
  apply Int64.toInt_inj.mp
  rw [lg_ldiv_nonneg (by rw [pk_lT ha]; omega) (by rw [pk_lT hb]; omega), pk_lT ha, pk_lT hb, pk_lT (Nat.lt_of_le_of_lt (Nat.div_le_self a b) ha)]
  rfl
theorem pk_lRem {a b : Nat} (ha : a < 2 ^ 63) (h0 : 0 < b) (hb : b < 2 ^ 63) : lN a - lN a / lN b * lN b = lN (a % b) := by
  rw [pk_lDiv ha h0 hb, lN_mul, lN_sub (Nat.div_mul_le_self a b)]
  exact congrArg lN (by have := Nat.div_add_mod' a b; omega)
theorem pk_loop {σ : Type} (W : Nat → Nat → σ → Prop) (I : Nat → σ → Prop) (e i0 : Nat) (s : σ) (hi : i0 ≤ e) (h0 : I i0 s) (hx : ∀ n s, I e s → W (n + 1) e s)
    (hs : ∀ n i s, i < e → I i s → (∀ s', I (i + 1) s' → W n (i + 1) s') → W (n + 1) i s) : ∃ n, W n i0 s :=
  ⟨e + 1, loop_i W I e hx hs (e + 1) i0 s hi (by omega) h0⟩
theorem pk_loopD {σ : Type} (W : Nat → Nat → σ → Prop) (I : Nat → σ → Prop) (hx : ∀ n s, I 0 s → W (n + 1) 0 s)
    (hs : ∀ n i s, I (i + 1) s → (∀ s', I i s' → W n i s') → W (n + 1) (i + 1) s) : ∀ (e : Nat) (s : σ), I e s → W (e + 1) e s := by
  intro e
  induction e with
  | zero => exact fun s h => hx 0 s h
  | succ e ih => exact fun s h => hs (e + 1) e s h (fun s' h' => ih s' h')
theorem lp1 {A1 : Type} (W : Nat → A1 → Prop) (I : A1 → Prop) (μ : A1 → Nat) (hs : ∀ (n : Nat) (a1 : A1), I a1 → (∀ (b1 : A1), I b1 → μ b1 < μ a1 → W n b1) → W (n + 1) a1) (a1 : A1) (h : I a1) : ∃ n, W n a1 :=
  loop_m (σ := A1) (fun n s => W n s) (fun s => I s) (fun s => μ s) (fun n s hI hk => hs n s hI (fun b1 h9 hm => hk b1 h9 hm)) a1 h
theorem lp2 {A1 A2 : Type} (W : Nat → A1 → A2 → Prop) (I : A1 → A2 → Prop) (μ : A1 → A2 → Nat) (hs : ∀ (n : Nat) (a1 : A1) (a2 : A2), I a1 a2 → (∀ (b1 : A1) (b2 : A2), I b1 b2 → μ b1 b2 < μ a1 a2 → W n b1 b2) → W (n + 1) a1 a2) (a1 : A1) (a2 : A2) (h : I a1 a2) : ∃ n, W n a1 a2 :=
  loop_m (σ := A1 × A2) (fun n s => W n s.1 s.2) (fun s => I s.1 s.2) (fun s => μ s.1 s.2) (fun n s hI hk => hs n s.1 s.2 hI (fun b1 b2 h9 hm => hk (b1, b2) h9 hm)) (a1, a2) h
theorem lp3 {A1 A2 A3 : Type} (W : Nat → A1 → A2 → A3 → Prop) (I : A1 → A2 → A3 → Prop) (μ : A1 → A2 → A3 → Nat) (hs : ∀ (n : Nat) (a1 : A1) (a2 : A2) (a3 : A3), I a1 a2 a3 → (∀ (b1 : A1) (b2 : A2) (b3 : A3), I b1 b2 b3 → μ b1 b2 b3 < μ a1 a2 a3 → W n b1 b2 b3) → W (n + 1) a1 a2 a3) (a1 : A1) (a2 : A2) (a3 : A3) (h : I a1 a2 a3) : ∃ n, W n a1 a2 a3 :=
  loop_m (σ := A1 × A2 × A3) (fun n s => W n s.1 s.2.1 s.2.2) (fun s => I s.1 s.2.1 s.2.2) (fun s => μ s.1 s.2.1 s.2.2) (fun n s hI hk => hs n s.1 s.2.1 s.2.2 hI (fun b1 b2 b3 h9 hm => hk (b1, b2, b3) h9 hm)) (a1, a2, a3) h
theorem lp4 {A1 A2 A3 A4 : Type} (W : Nat → A1 → A2 → A3 → A4 → Prop) (I : A1 → A2 → A3 → A4 → Prop) (μ : A1 → A2 → A3 → A4 → Nat) (hs : ∀ (n : Nat) (a1 : A1) (a2 : A2) (a3 : A3) (a4 : A4), I a1 a2 a3 a4 → (∀ (b1 : A1) (b2 : A2) (b3 : A3) (b4 : A4), I b1 b2 b3 b4 → μ b1 b2 b3 b4 < μ a1 a2 a3 a4 → W n b1 b2 b3 b4) → W (n + 1) a1 a2 a3 a4) (a1 : A1) (a2 : A2) (a3 : A3) (a4 : A4) (h : I a1 a2 a3 a4) : ∃ n, W n a1 a2 a3 a4 :=
  loop_m (σ := A1 × A2 × A3 × A4) (fun n s => W n s.1 s.2.1 s.2.2.1 s.2.2.2) (fun s => I s.1 s.2.1 s.2.2.1 s.2.2.2) (fun s => μ s.1 s.2.1 s.2.2.1 s.2.2.2) (fun n s hI hk => hs n s.1 s.2.1 s.2.2.1 s.2.2.2 hI (fun b1 b2 b3 b4 h9 hm => hk (b1, b2, b3, b4) h9 hm)) (a1, a2, a3, a4) h
theorem lp5 {A1 A2 A3 A4 A5 : Type} (W : Nat → A1 → A2 → A3 → A4 → A5 → Prop) (I : A1 → A2 → A3 → A4 → A5 → Prop) (μ : A1 → A2 → A3 → A4 → A5 → Nat) (hs : ∀ (n : Nat) (a1 : A1) (a2 : A2) (a3 : A3) (a4 : A4) (a5 : A5), I a1 a2 a3 a4 a5 → (∀ (b1 : A1) (b2 : A2) (b3 : A3) (b4 : A4) (b5 : A5), I b1 b2 b3 b4 b5 → μ b1 b2 b3 b4 b5 < μ a1 a2 a3 a4 a5 → W n b1 b2 b3 b4 b5) → W (n + 1) a1 a2 a3 a4 a5) (a1 : A1) (a2 : A2) (a3 : A3) (a4 : A4) (a5 : A5) (h : I a1 a2 a3 a4 a5) : ∃ n, W n a1 a2 a3 a4 a5 :=
  loop_m (σ := A1 × A2 × A3 × A4 × A5) (fun n s => W n s.1 s.2.1 s.2.2.1 s.2.2.2.1 s.2.2.2.2) (fun s => I s.1 s.2.1 s.2.2.1 s.2.2.2.1 s.2.2.2.2) (fun s => μ s.1 s.2.1 s.2.2.1 s.2.2.2.1 s.2.2.2.2) (fun n s hI hk => hs n s.1 s.2.1 s.2.2.1 s.2.2.2.1 s.2.2.2.2 hI (fun b1 b2 b3 b4 b5 h9 hm => hk (b1, b2, b3, b4, b5) h9 hm)) (a1, a2, a3, a4, a5) h
theorem lp6 {A1 A2 A3 A4 A5 A6 : Type} (W : Nat → A1 → A2 → A3 → A4 → A5 → A6 → Prop) (I : A1 → A2 → A3 → A4 → A5 → A6 → Prop) (μ : A1 → A2 → A3 → A4 → A5 → A6 → Nat) (hs : ∀ (n : Nat) (a1 : A1) (a2 : A2) (a3 : A3) (a4 : A4) (a5 : A5) (a6 : A6), I a1 a2 a3 a4 a5 a6 → (∀ (b1 : A1) (b2 : A2) (b3 : A3) (b4 : A4) (b5 : A5) (b6 : A6), I b1 b2 b3 b4 b5 b6 → μ b1 b2 b3 b4 b5 b6 < μ a1 a2 a3 a4 a5 a6 → W n b1 b2 b3 b4 b5 b6) → W (n + 1) a1 a2 a3 a4 a5 a6) (a1 : A1) (a2 : A2) (a3 : A3) (a4 : A4) (a5 : A5) (a6 : A6) (h : I a1 a2 a3 a4 a5 a6) : ∃ n, W n a1 a2 a3 a4 a5 a6 :=
  loop_m (σ := A1 × A2 × A3 × A4 × A5 × A6) (fun n s => W n s.1 s.2.1 s.2.2.1 s.2.2.2.1 s.2.2.2.2.1 s.2.2.2.2.2) (fun s => I s.1 s.2.1 s.2.2.1 s.2.2.2.1 s.2.2.2.2.1 s.2.2.2.2.2) (fun s => μ s.1 s.2.1 s.2.2.1 s.2.2.2.1 s.2.2.2.2.1 s.2.2.2.2.2) (fun n s hI hk => hs n s.1 s.2.1 s.2.2.1 s.2.2.2.1 s.2.2.2.2.1 s.2.2.2.2.2 hI (fun b1 b2 b3 b4 b5 b6 h9 hm => hk (b1, b2, b3, b4, b5, b6) h9 hm)) (a1, a2, a3, a4, a5, a6) h
theorem lp7 {A1 A2 A3 A4 A5 A6 A7 : Type} (W : Nat → A1 → A2 → A3 → A4 → A5 → A6 → A7 → Prop) (I : A1 → A2 → A3 → A4 → A5 → A6 → A7 → Prop) (μ : A1 → A2 → A3 → A4 → A5 → A6 → A7 → Nat) (hs : ∀ (n : Nat) (a1 : A1) (a2 : A2) (a3 : A3) (a4 : A4) (a5 : A5) (a6 : A6) (a7 : A7), I a1 a2 a3 a4 a5 a6 a7 → (∀ (b1 : A1) (b2 : A2) (b3 : A3) (b4 : A4) (b5 : A5) (b6 : A6) (b7 : A7), I b1 b2 b3 b4 b5 b6 b7 → μ b1 b2 b3 b4 b5 b6 b7 < μ a1 a2 a3 a4 a5 a6 a7 → W n b1 b2 b3 b4 b5 b6 b7) → W (n + 1) a1 a2 a3 a4 a5 a6 a7) (a1 : A1) (a2 : A2) (a3 : A3) (a4 : A4) (a5 : A5) (a6 : A6) (a7 : A7) (h : I a1 a2 a3 a4 a5 a6 a7) : ∃ n, W n a1 a2 a3 a4 a5 a6 a7 :=
  loop_m (σ := A1 × A2 × A3 × A4 × A5 × A6 × A7) (fun n s => W n s.1 s.2.1 s.2.2.1 s.2.2.2.1 s.2.2.2.2.1 s.2.2.2.2.2.1 s.2.2.2.2.2.2) (fun s => I s.1 s.2.1 s.2.2.1 s.2.2.2.1 s.2.2.2.2.1 s.2.2.2.2.2.1 s.2.2.2.2.2.2) (fun s => μ s.1 s.2.1 s.2.2.1 s.2.2.2.1 s.2.2.2.2.1 s.2.2.2.2.2.1 s.2.2.2.2.2.2) (fun n s hI hk => hs n s.1 s.2.1 s.2.2.1 s.2.2.2.1 s.2.2.2.2.1 s.2.2.2.2.2.1 s.2.2.2.2.2.2 hI (fun b1 b2 b3 b4 b5 b6 b7 h9 hm => hk (b1, b2, b3, b4, b5, b6, b7) h9 hm)) (a1, a2, a3, a4, a5, a6, a7) h
theorem lp8 {A1 A2 A3 A4 A5 A6 A7 A8 : Type} (W : Nat → A1 → A2 → A3 → A4 → A5 → A6 → A7 → A8 → Prop) (I : A1 → A2 → A3 → A4 → A5 → A6 → A7 → A8 → Prop) (μ : A1 → A2 → A3 → A4 → A5 → A6 → A7 → A8 → Nat) (hs : ∀ (n : Nat) (a1 : A1) (a2 : A2) (a3 : A3) (a4 : A4) (a5 : A5) (a6 : A6) (a7 : A7) (a8 : A8), I a1 a2 a3 a4 a5 a6 a7 a8 → (∀ (b1 : A1) (b2 : A2) (b3 : A3) (b4 : A4) (b5 : A5) (b6 : A6) (b7 : A7) (b8 : A8), I b1 b2 b3 b4 b5 b6 b7 b8 → μ b1 b2 b3 b4 b5 b6 b7 b8 < μ a1 a2 a3 a4 a5 a6 a7 a8 → W n b1 b2 b3 b4 b5 b6 b7 b8) → W (n + 1) a1 a2 a3 a4 a5 a6 a7 a8) (a1 : A1) (a2 : A2) (a3 : A3) (a4 : A4) (a5 : A5) (a6 : A6) (a7 : A7) (a8 : A8) (h : I a1 a2 a3 a4 a5 a6 a7 a8) : ∃ n, W n a1 a2 a3 a4 a5 a6 a7 a8 :=
  loop_m (σ := A1 × A2 × A3 × A4 × A5 × A6 × A7 × A8) (fun n s => W n s.1 s.2.1 s.2.2.1 s.2.2.2.1 s.2.2.2.2.1 s.2.2.2.2.2.1 s.2.2.2.2.2.2.1 s.2.2.2.2.2.2.2) (fun s => I s.1 s.2.1 s.2.2.1 s.2.2.2.1 s.2.2.2.2.1 s.2.2.2.2.2.1 s.2.2.2.2.2.2.1 s.2.2.2.2.2.2.2) (fun s => μ s.1 s.2.1 s.2.2.1 s.2.2.2.1 s.2.2.2.2.1 s.2.2.2.2.2.1 s.2.2.2.2.2.2.1 s.2.2.2.2.2.2.2) (fun n s hI hk => hs n s.1 s.2.1 s.2.2.1 s.2.2.2.1 s.2.2.2.2.1 s.2.2.2.2.2.1 s.2.2.2.2.2.2.1 s.2.2.2.2.2.2.2 hI (fun b1 b2 b3 b4 b5 b6 b7 b8 h9 hm => hk (b1, b2, b3, b4, b5, b6, b7, b8) h9 hm)) (a1, a2, a3, a4, a5, a6, a7, a8) h
theorem lp9 {A1 A2 A3 A4 A5 A6 A7 A8 A9 : Type} (W : Nat → A1 → A2 → A3 → A4 → A5 → A6 → A7 → A8 → A9 → Prop) (I : A1 → A2 → A3 → A4 → A5 → A6 → A7 → A8 → A9 → Prop) (μ : A1 → A2 → A3 → A4 → A5 → A6 → A7 → A8 → A9 → Nat) (hs : ∀ (n : Nat) (a1 : A1) (a2 : A2) (a3 : A3) (a4 : A4) (a5 : A5) (a6 : A6) (a7 : A7) (a8 : A8) (a9 : A9), I a1 a2 a3 a4 a5 a6 a7 a8 a9 → (∀ (b1 : A1) (b2 : A2) (b3 : A3) (b4 : A4) (b5 : A5) (b6 : A6) (b7 : A7) (b8 : A8) (b9 : A9), I b1 b2 b3 b4 b5 b6 b7 b8 b9 → μ b1 b2 b3 b4 b5 b6 b7 b8 b9 < μ a1 a2 a3 a4 a5 a6 a7 a8 a9 → W n b1 b2 b3 b4 b5 b6 b7 b8 b9) → W (n + 1) a1 a2 a3 a4 a5 a6 a7 a8 a9) (a1 : A1) (a2 : A2) (a3 : A3) (a4 : A4) (a5 : A5) (a6 : A6) (a7 : A7) (a8 : A8) (a9 : A9) (h : I a1 a2 a3 a4 a5 a6 a7 a8 a9) : ∃ n, W n a1 a2 a3 a4 a5 a6 a7 a8 a9 :=
  loop_m (σ := A1 × A2 × A3 × A4 × A5 × A6 × A7 × A8 × A9) (fun n s => W n s.1 s.2.1 s.2.2.1 s.2.2.2.1 s.2.2.2.2.1 s.2.2.2.2.2.1 s.2.2.2.2.2.2.1 s.2.2.2.2.2.2.2.1 s.2.2.2.2.2.2.2.2) (fun s => I s.1 s.2.1 s.2.2.1 s.2.2.2.1 s.2.2.2.2.1 s.2.2.2.2.2.1 s.2.2.2.2.2.2.1 s.2.2.2.2.2.2.2.1 s.2.2.2.2.2.2.2.2) (fun s => μ s.1 s.2.1 s.2.2.1 s.2.2.2.1 s.2.2.2.2.1 s.2.2.2.2.2.1 s.2.2.2.2.2.2.1 s.2.2.2.2.2.2.2.1 s.2.2.2.2.2.2.2.2) (fun n s hI hk => hs n s.1 s.2.1 s.2.2.1 s.2.2.2.1 s.2.2.2.2.1 s.2.2.2.2.2.1 s.2.2.2.2.2.2.1 s.2.2.2.2.2.2.2.1 s.2.2.2.2.2.2.2.2 hI (fun b1 b2 b3 b4 b5 b6 b7 b8 b9 h9 hm => hk (b1, b2, b3, b4, b5, b6, b7, b8, b9) h9 hm)) (a1, a2, a3, a4, a5, a6, a7, a8, a9) h
theorem lp10 {A1 A2 A3 A4 A5 A6 A7 A8 A9 A10 : Type} (W : Nat → A1 → A2 → A3 → A4 → A5 → A6 → A7 → A8 → A9 → A10 → Prop) (I : A1 → A2 → A3 → A4 → A5 → A6 → A7 → A8 → A9 → A10 → Prop) (μ : A1 → A2 → A3 → A4 → A5 → A6 → A7 → A8 → A9 → A10 → Nat) (hs : ∀ (n : Nat) (a1 : A1) (a2 : A2) (a3 : A3) (a4 : A4) (a5 : A5) (a6 : A6) (a7 : A7) (a8 : A8) (a9 : A9) (a10 : A10), I a1 a2 a3 a4 a5 a6 a7 a8 a9 a10 → (∀ (b1 : A1) (b2 : A2) (b3 : A3) (b4 : A4) (b5 : A5) (b6 : A6) (b7 : A7) (b8 : A8) (b9 : A9) (b10 : A10), I b1 b2 b3 b4 b5 b6 b7 b8 b9 b10 → μ b1 b2 b3 b4 b5 b6 b7 b8 b9 b10 < μ a1 a2 a3 a4 a5 a6 a7 a8 a9 a10 → W n b1 b2 b3 b4 b5 b6 b7 b8 b9 b10) → W (n + 1) a1 a2 a3 a4 a5 a6 a7 a8 a9 a10) (a1 : A1) (a2 : A2) (a3 : A3) (a4 : A4) (a5 : A5) (a6 : A6) (a7 : A7) (a8 : A8) (a9 : A9) (a10 : A10) (h : I a1 a2 a3 a4 a5 a6 a7 a8 a9 a10) : ∃ n, W n a1 a2 a3 a4 a5 a6 a7 a8 a9 a10 :=
  loop_m (σ := A1 × A2 × A3 × A4 × A5 × A6 × A7 × A8 × A9 × A10) (fun n s => W n s.1 s.2.1 s.2.2.1 s.2.2.2.1 s.2.2.2.2.1 s.2.2.2.2.2.1 s.2.2.2.2.2.2.1 s.2.2.2.2.2.2.2.1 s.2.2.2.2.2.2.2.2.1 s.2.2.2.2.2.2.2.2.2) (fun s => I s.1 s.2.1 s.2.2.1 s.2.2.2.1 s.2.2.2.2.1 s.2.2.2.2.2.1 s.2.2.2.2.2.2.1 s.2.2.2.2.2.2.2.1 s.2.2.2.2.2.2.2.2.1 s.2.2.2.2.2.2.2.2.2) (fun s => μ s.1 s.2.1 s.2.2.1 s.2.2.2.1 s.2.2.2.2.1 s.2.2.2.2.2.1 s.2.2.2.2.2.2.1 s.2.2.2.2.2.2.2.1 s.2.2.2.2.2.2.2.2.1 s.2.2.2.2.2.2.2.2.2) (fun n s hI hk => hs n s.1 s.2.1 s.2.2.1 s.2.2.2.1 s.2.2.2.2.1 s.2.2.2.2.2.1 s.2.2.2.2.2.2.1 s.2.2.2.2.2.2.2.1 s.2.2.2.2.2.2.2.2.1 s.2.2.2.2.2.2.2.2.2 hI (fun b1 b2 b3 b4 b5 b6 b7 b8 b9 b10 h9 hm => hk (b1, b2, b3, b4, b5, b6, b7, b8, b9, b10) h9 hm)) (a1, a2, a3, a4, a5, a6, a7, a8, a9, a10) h
theorem lp11 {A1 A2 A3 A4 A5 A6 A7 A8 A9 A10 A11 : Type} (W : Nat → A1 → A2 → A3 → A4 → A5 → A6 → A7 → A8 → A9 → A10 → A11 → Prop) (I : A1 → A2 → A3 → A4 → A5 → A6 → A7 → A8 → A9 → A10 → A11 → Prop) (μ : A1 → A2 → A3 → A4 → A5 → A6 → A7 → A8 → A9 → A10 → A11 → Nat) (hs : ∀ (n : Nat) (a1 : A1) (a2 : A2) (a3 : A3) (a4 : A4) (a5 : A5) (a6 : A6) (a7 : A7) (a8 : A8) (a9 : A9) (a10 : A10) (a11 : A11), I a1 a2 a3 a4 a5 a6 a7 a8 a9 a10 a11 → (∀ (b1 : A1) (b2 : A2) (b3 : A3) (b4 : A4) (b5 : A5) (b6 : A6) (b7 : A7) (b8 : A8) (b9 : A9) (b10 : A10) (b11 : A11), I b1 b2 b3 b4 b5 b6 b7 b8 b9 b10 b11 → μ b1 b2 b3 b4 b5 b6 b7 b8 b9 b10 b11 < μ a1 a2 a3 a4 a5 a6 a7 a8 a9 a10 a11 → W n b1 b2 b3 b4 b5 b6 b7 b8 b9 b10 b11) → W (n + 1) a1 a2 a3 a4 a5 a6 a7 a8 a9 a10 a11) (a1 : A1) (a2 : A2) (a3 : A3) (a4 : A4) (a5 : A5) (a6 : A6) (a7 : A7) (a8 : A8) (a9 : A9) (a10 : A10) (a11 : A11) (h : I a1 a2 a3 a4 a5 a6 a7 a8 a9 a10 a11) : ∃ n, W n a1 a2 a3 a4 a5 a6 a7 a8 a9 a10 a11 :=
  loop_m (σ := A1 × A2 × A3 × A4 × A5 × A6 × A7 × A8 × A9 × A10 × A11) (fun n s => W n s.1 s.2.1 s.2.2.1 s.2.2.2.1 s.2.2.2.2.1 s.2.2.2.2.2.1 s.2.2.2.2.2.2.1 s.2.2.2.2.2.2.2.1 s.2.2.2.2.2.2.2.2.1 s.2.2.2.2.2.2.2.2.2.1 s.2.2.2.2.2.2.2.2.2.2) (fun s => I s.1 s.2.1 s.2.2.1 s.2.2.2.1 s.2.2.2.2.1 s.2.2.2.2.2.1 s.2.2.2.2.2.2.1 s.2.2.2.2.2.2.2.1 s.2.2.2.2.2.2.2.2.1 s.2.2.2.2.2.2.2.2.2.1 s.2.2.2.2.2.2.2.2.2.2) (fun s => μ s.1 s.2.1 s.2.2.1 s.2.2.2.1 s.2.2.2.2.1 s.2.2.2.2.2.1 s.2.2.2.2.2.2.1 s.2.2.2.2.2.2.2.1 s.2.2.2.2.2.2.2.2.1 s.2.2.2.2.2.2.2.2.2.1 s.2.2.2.2.2.2.2.2.2.2) (fun n s hI hk => hs n s.1 s.2.1 s.2.2.1 s.2.2.2.1 s.2.2.2.2.1 s.2.2.2.2.2.1 s.2.2.2.2.2.2.1 s.2.2.2.2.2.2.2.1 s.2.2.2.2.2.2.2.2.1 s.2.2.2.2.2.2.2.2.2.1 s.2.2.2.2.2.2.2.2.2.2 hI (fun b1 b2 b3 b4 b5 b6 b7 b8 b9 b10 b11 h9 hm => hk (b1, b2, b3, b4, b5, b6, b7, b8, b9, b10, b11) h9 hm)) (a1, a2, a3, a4, a5, a6, a7, a8, a9, a10, a11) h
theorem lp12 {A1 A2 A3 A4 A5 A6 A7 A8 A9 A10 A11 A12 : Type} (W : Nat → A1 → A2 → A3 → A4 → A5 → A6 → A7 → A8 → A9 → A10 → A11 → A12 → Prop) (I : A1 → A2 → A3 → A4 → A5 → A6 → A7 → A8 → A9 → A10 → A11 → A12 → Prop) (μ : A1 → A2 → A3 → A4 → A5 → A6 → A7 → A8 → A9 → A10 → A11 → A12 → Nat) (hs : ∀ (n : Nat) (a1 : A1) (a2 : A2) (a3 : A3) (a4 : A4) (a5 : A5) (a6 : A6) (a7 : A7) (a8 : A8) (a9 : A9) (a10 : A10) (a11 : A11) (a12 : A12), I a1 a2 a3 a4 a5 a6 a7 a8 a9 a10 a11 a12 → (∀ (b1 : A1) (b2 : A2) (b3 : A3) (b4 : A4) (b5 : A5) (b6 : A6) (b7 : A7) (b8 : A8) (b9 : A9) (b10 : A10) (b11 : A11) (b12 : A12), I b1 b2 b3 b4 b5 b6 b7 b8 b9 b10 b11 b12 → μ b1 b2 b3 b4 b5 b6 b7 b8 b9 b10 b11 b12 < μ a1 a2 a3 a4 a5 a6 a7 a8 a9 a10 a11 a12 → W n b1 b2 b3 b4 b5 b6 b7 b8 b9 b10 b11 b12) → W (n + 1) a1 a2 a3 a4 a5 a6 a7 a8 a9 a10 a11 a12) (a1 : A1) (a2 : A2) (a3 : A3) (a4 : A4) (a5 : A5) (a6 : A6) (a7 : A7) (a8 : A8) (a9 : A9) (a10 : A10) (a11 : A11) (a12 : A12) (h : I a1 a2 a3 a4 a5 a6 a7 a8 a9 a10 a11 a12) : ∃ n, W n a1 a2 a3 a4 a5 a6 a7 a8 a9 a10 a11 a12 :=
  loop_m (σ := A1 × A2 × A3 × A4 × A5 × A6 × A7 × A8 × A9 × A10 × A11 × A12) (fun n s => W n s.1 s.2.1 s.2.2.1 s.2.2.2.1 s.2.2.2.2.1 s.2.2.2.2.2.1 s.2.2.2.2.2.2.1 s.2.2.2.2.2.2.2.1 s.2.2.2.2.2.2.2.2.1 s.2.2.2.2.2.2.2.2.2.1 s.2.2.2.2.2.2.2.2.2.2.1 s.2.2.2.2.2.2.2.2.2.2.2) (fun s => I s.1 s.2.1 s.2.2.1 s.2.2.2.1 s.2.2.2.2.1 s.2.2.2.2.2.1 s.2.2.2.2.2.2.1 s.2.2.2.2.2.2.2.1 s.2.2.2.2.2.2.2.2.1 s.2.2.2.2.2.2.2.2.2.1 s.2.2.2.2.2.2.2.2.2.2.1 s.2.2.2.2.2.2.2.2.2.2.2) (fun s => μ s.1 s.2.1 s.2.2.1 s.2.2.2.1 s.2.2.2.2.1 s.2.2.2.2.2.1 s.2.2.2.2.2.2.1 s.2.2.2.2.2.2.2.1 s.2.2.2.2.2.2.2.2.1 s.2.2.2.2.2.2.2.2.2.1 s.2.2.2.2.2.2.2.2.2.2.1 s.2.2.2.2.2.2.2.2.2.2.2) (fun n s hI hk => hs n s.1 s.2.1 s.2.2.1 s.2.2.2.1 s.2.2.2.2.1 s.2.2.2.2.2.1 s.2.2.2.2.2.2.1 s.2.2.2.2.2.2.2.1 s.2.2.2.2.2.2.2.2.1 s.2.2.2.2.2.2.2.2.2.1 s.2.2.2.2.2.2.2.2.2.2.1 s.2.2.2.2.2.2.2.2.2.2.2 hI (fun b1 b2 b3 b4 b5 b6 b7 b8 b9 b10 b11 b12 h9 hm => hk (b1, b2, b3, b4, b5, b6, b7, b8, b9, b10, b11, b12) h9 hm)) (a1, a2, a3, a4, a5, a6, a7, a8, a9, a10, a11, a12) h
theorem lp13 {A1 A2 A3 A4 A5 A6 A7 A8 A9 A10 A11 A12 A13 : Type} (W : Nat → A1 → A2 → A3 → A4 → A5 → A6 → A7 → A8 → A9 → A10 → A11 → A12 → A13 → Prop) (I : A1 → A2 → A3 → A4 → A5 → A6 → A7 → A8 → A9 → A10 → A11 → A12 → A13 → Prop) (μ : A1 → A2 → A3 → A4 → A5 → A6 → A7 → A8 → A9 → A10 → A11 → A12 → A13 → Nat) (hs : ∀ (n : Nat) (a1 : A1) (a2 : A2) (a3 : A3) (a4 : A4) (a5 : A5) (a6 : A6) (a7 : A7) (a8 : A8) (a9 : A9) (a10 : A10) (a11 : A11) (a12 : A12) (a13 : A13), I a1 a2 a3 a4 a5 a6 a7 a8 a9 a10 a11 a12 a13 → (∀ (b1 : A1) (b2 : A2) (b3 : A3) (b4 : A4) (b5 : A5) (b6 : A6) (b7 : A7) (b8 : A8) (b9 : A9) (b10 : A10) (b11 : A11) (b12 : A12) (b13 : A13), I b1 b2 b3 b4 b5 b6 b7 b8 b9 b10 b11 b12 b13 → μ b1 b2 b3 b4 b5 b6 b7 b8 b9 b10 b11 b12 b13 < μ a1 a2 a3 a4 a5 a6 a7 a8 a9 a10 a11 a12 a13 → W n b1 b2 b3 b4 b5 b6 b7 b8 b9 b10 b11 b12 b13) → W (n + 1) a1 a2 a3 a4 a5 a6 a7 a8 a9 a10 a11 a12 a13) (a1 : A1) (a2 : A2) (a3 : A3) (a4 : A4) (a5 : A5) (a6 : A6) (a7 : A7) (a8 : A8) (a9 : A9) (a10 : A10) (a11 : A11) (a12 : A12) (a13 : A13) (h : I a1 a2 a3 a4 a5 a6 a7 a8 a9 a10 a11 a12 a13) : ∃ n, W n a1 a2 a3 a4 a5 a6 a7 a8 a9 a10 a11 a12 a13 :=
  loop_m (σ := A1 × A2 × A3 × A4 × A5 × A6 × A7 × A8 × A9 × A10 × A11 × A12 × A13) (fun n s => W n s.1 s.2.1 s.2.2.1 s.2.2.2.1 s.2.2.2.2.1 s.2.2.2.2.2.1 s.2.2.2.2.2.2.1 s.2.2.2.2.2.2.2.1 s.2.2.2.2.2.2.2.2.1 s.2.2.2.2.2.2.2.2.2.1 s.2.2.2.2.2.2.2.2.2.2.1 s.2.2.2.2.2.2.2.2.2.2.2.1 s.2.2.2.2.2.2.2.2.2.2.2.2) (fun s => I s.1 s.2.1 s.2.2.1 s.2.2.2.1 s.2.2.2.2.1 s.2.2.2.2.2.1 s.2.2.2.2.2.2.1 s.2.2.2.2.2.2.2.1 s.2.2.2.2.2.2.2.2.1 s.2.2.2.2.2.2.2.2.2.1 s.2.2.2.2.2.2.2.2.2.2.1 s.2.2.2.2.2.2.2.2.2.2.2.1 s.2.2.2.2.2.2.2.2.2.2.2.2) (fun s => μ s.1 s.2.1 s.2.2.1 s.2.2.2.1 s.2.2.2.2.1 s.2.2.2.2.2.1 s.2.2.2.2.2.2.1 s.2.2.2.2.2.2.2.1 s.2.2.2.2.2.2.2.2.1 s.2.2.2.2.2.2.2.2.2.1 s.2.2.2.2.2.2.2.2.2.2.1 s.2.2.2.2.2.2.2.2.2.2.2.1 s.2.2.2.2.2.2.2.2.2.2.2.2) (fun n s hI hk => hs n s.1 s.2.1 s.2.2.1 s.2.2.2.1 s.2.2.2.2.1 s.2.2.2.2.2.1 s.2.2.2.2.2.2.1 s.2.2.2.2.2.2.2.1 s.2.2.2.2.2.2.2.2.1 s.2.2.2.2.2.2.2.2.2.1 s.2.2.2.2.2.2.2.2.2.2.1 s.2.2.2.2.2.2.2.2.2.2.2.1 s.2.2.2.2.2.2.2.2.2.2.2.2 hI (fun b1 b2 b3 b4 b5 b6 b7 b8 b9 b10 b11 b12 b13 h9 hm => hk (b1, b2, b3, b4, b5, b6, b7, b8, b9, b10, b11, b12, b13) h9 hm)) (a1, a2, a3, a4, a5, a6, a7, a8, a9, a10, a11, a12, a13) h
theorem lp14 {A1 A2 A3 A4 A5 A6 A7 A8 A9 A10 A11 A12 A13 A14 : Type} (W : Nat → A1 → A2 → A3 → A4 → A5 → A6 → A7 → A8 → A9 → A10 → A11 → A12 → A13 → A14 → Prop) (I : A1 → A2 → A3 → A4 → A5 → A6 → A7 → A8 → A9 → A10 → A11 → A12 → A13 → A14 → Prop) (μ : A1 → A2 → A3 → A4 → A5 → A6 → A7 → A8 → A9 → A10 → A11 → A12 → A13 → A14 → Nat) (hs : ∀ (n : Nat) (a1 : A1) (a2 : A2) (a3 : A3) (a4 : A4) (a5 : A5) (a6 : A6) (a7 : A7) (a8 : A8) (a9 : A9) (a10 : A10) (a11 : A11) (a12 : A12) (a13 : A13) (a14 : A14), I a1 a2 a3 a4 a5 a6 a7 a8 a9 a10 a11 a12 a13 a14 → (∀ (b1 : A1) (b2 : A2) (b3 : A3) (b4 : A4) (b5 : A5) (b6 : A6) (b7 : A7) (b8 : A8) (b9 : A9) (b10 : A10) (b11 : A11) (b12 : A12) (b13 : A13) (b14 : A14), I b1 b2 b3 b4 b5 b6 b7 b8 b9 b10 b11 b12 b13 b14 → μ b1 b2 b3 b4 b5 b6 b7 b8 b9 b10 b11 b12 b13 b14 < μ a1 a2 a3 a4 a5 a6 a7 a8 a9 a10 a11 a12 a13 a14 → W n b1 b2 b3 b4 b5 b6 b7 b8 b9 b10 b11 b12 b13 b14) → W (n + 1) a1 a2 a3 a4 a5 a6 a7 a8 a9 a10 a11 a12 a13 a14) (a1 : A1) (a2 : A2) (a3 : A3) (a4 : A4) (a5 : A5) (a6 : A6) (a7 : A7) (a8 : A8) (a9 : A9) (a10 : A10) (a11 : A11) (a12 : A12) (a13 : A13) (a14 : A14) (h : I a1 a2 a3 a4 a5 a6 a7 a8 a9 a10 a11 a12 a13 a14) : ∃ n, W n a1 a2 a3 a4 a5 a6 a7 a8 a9 a10 a11 a12 a13 a14 :=
  loop_m (σ := A1 × A2 × A3 × A4 × A5 × A6 × A7 × A8 × A9 × A10 × A11 × A12 × A13 × A14) (fun n s => W n s.1 s.2.1 s.2.2.1 s.2.2.2.1 s.2.2.2.2.1 s.2.2.2.2.2.1 s.2.2.2.2.2.2.1 s.2.2.2.2.2.2.2.1 s.2.2.2.2.2.2.2.2.1 s.2.2.2.2.2.2.2.2.2.1 s.2.2.2.2.2.2.2.2.2.2.1 s.2.2.2.2.2.2.2.2.2.2.2.1 s.2.2.2.2.2.2.2.2.2.2.2.2.1 s.2.2.2.2.2.2.2.2.2.2.2.2.2) (fun s => I s.1 s.2.1 s.2.2.1 s.2.2.2.1 s.2.2.2.2.1 s.2.2.2.2.2.1 s.2.2.2.2.2.2.1 s.2.2.2.2.2.2.2.1 s.2.2.2.2.2.2.2.2.1 s.2.2.2.2.2.2.2.2.2.1 s.2.2.2.2.2.2.2.2.2.2.1 s.2.2.2.2.2.2.2.2.2.2.2.1 s.2.2.2.2.2.2.2.2.2.2.2.2.1 s.2.2.2.2.2.2.2.2.2.2.2.2.2) (fun s => μ s.1 s.2.1 s.2.2.1 s.2.2.2.1 s.2.2.2.2.1 s.2.2.2.2.2.1 s.2.2.2.2.2.2.1 s.2.2.2.2.2.2.2.1 s.2.2.2.2.2.2.2.2.1 s.2.2.2.2.2.2.2.2.2.1 s.2.2.2.2.2.2.2.2.2.2.1 s.2.2.2.2.2.2.2.2.2.2.2.1 s.2.2.2.2.2.2.2.2.2.2.2.2.1 s.2.2.2.2.2.2.2.2.2.2.2.2.2) (fun n s hI hk => hs n s.1 s.2.1 s.2.2.1 s.2.2.2.1 s.2.2.2.2.1 s.2.2.2.2.2.1 s.2.2.2.2.2.2.1 s.2.2.2.2.2.2.2.1 s.2.2.2.2.2.2.2.2.1 s.2.2.2.2.2.2.2.2.2.1 s.2.2.2.2.2.2.2.2.2.2.1 s.2.2.2.2.2.2.2.2.2.2.2.1 s.2.2.2.2.2.2.2.2.2.2.2.2.1 s.2.2.2.2.2.2.2.2.2.2.2.2.2 hI (fun b1 b2 b3 b4 b5 b6 b7 b8 b9 b10 b11 b12 b13 b14 h9 hm => hk (b1, b2, b3, b4, b5, b6, b7, b8, b9, b10, b11, b12, b13, b14) h9 hm)) (a1, a2, a3, a4, a5, a6, a7, a8, a9, a10, a11, a12, a13, a14) h
theorem lp15 {A1 A2 A3 A4 A5 A6 A7 A8 A9 A10 A11 A12 A13 A14 A15 : Type} (W : Nat → A1 → A2 → A3 → A4 → A5 → A6 → A7 → A8 → A9 → A10 → A11 → A12 → A13 → A14 → A15 → Prop) (I : A1 → A2 → A3 → A4 → A5 → A6 → A7 → A8 → A9 → A10 → A11 → A12 → A13 → A14 → A15 → Prop) (μ : A1 → A2 → A3 → A4 → A5 → A6 → A7 → A8 → A9 → A10 → A11 → A12 → A13 → A14 → A15 → Nat) (hs : ∀ (n : Nat) (a1 : A1) (a2 : A2) (a3 : A3) (a4 : A4) (a5 : A5) (a6 : A6) (a7 : A7) (a8 : A8) (a9 : A9) (a10 : A10) (a11 : A11) (a12 : A12) (a13 : A13) (a14 : A14) (a15 : A15), I a1 a2 a3 a4 a5 a6 a7 a8 a9 a10 a11 a12 a13 a14 a15 → (∀ (b1 : A1) (b2 : A2) (b3 : A3) (b4 : A4) (b5 : A5) (b6 : A6) (b7 : A7) (b8 : A8) (b9 : A9) (b10 : A10) (b11 : A11) (b12 : A12) (b13 : A13) (b14 : A14) (b15 : A15), I b1 b2 b3 b4 b5 b6 b7 b8 b9 b10 b11 b12 b13 b14 b15 → μ b1 b2 b3 b4 b5 b6 b7 b8 b9 b10 b11 b12 b13 b14 b15 < μ a1 a2 a3 a4 a5 a6 a7 a8 a9 a10 a11 a12 a13 a14 a15 → W n b1 b2 b3 b4 b5 b6 b7 b8 b9 b10 b11 b12 b13 b14 b15) → W (n + 1) a1 a2 a3 a4 a5 a6 a7 a8 a9 a10 a11 a12 a13 a14 a15) (a1 : A1) (a2 : A2) (a3 : A3) (a4 : A4) (a5 : A5) (a6 : A6) (a7 : A7) (a8 : A8) (a9 : A9) (a10 : A10) (a11 : A11) (a12 : A12) (a13 : A13) (a14 : A14) (a15 : A15) (h : I a1 a2 a3 a4 a5 a6 a7 a8 a9 a10 a11 a12 a13 a14 a15) : ∃ n, W n a1 a2 a3 a4 a5 a6 a7 a8 a9 a10 a11 a12 a13 a14 a15 :=
  loop_m (σ := A1 × A2 × A3 × A4 × A5 × A6 × A7 × A8 × A9 × A10 × A11 × A12 × A13 × A14 × A15) (fun n s => W n s.1 s.2.1 s.2.2.1 s.2.2.2.1 s.2.2.2.2.1 s.2.2.2.2.2.1 s.2.2.2.2.2.2.1 s.2.2.2.2.2.2.2.1 s.2.2.2.2.2.2.2.2.1 s.2.2.2.2.2.2.2.2.2.1 s.2.2.2.2.2.2.2.2.2.2.1 s.2.2.2.2.2.2.2.2.2.2.2.1 s.2.2.2.2.2.2.2.2.2.2.2.2.1 s.2.2.2.2.2.2.2.2.2.2.2.2.2.1 s.2.2.2.2.2.2.2.2.2.2.2.2.2.2) (fun s => I s.1 s.2.1 s.2.2.1 s.2.2.2.1 s.2.2.2.2.1 s.2.2.2.2.2.1 s.2.2.2.2.2.2.1 s.2.2.2.2.2.2.2.1 s.2.2.2.2.2.2.2.2.1 s.2.2.2.2.2.2.2.2.2.1 s.2.2.2.2.2.2.2.2.2.2.1 s.2.2.2.2.2.2.2.2.2.2.2.1 s.2.2.2.2.2.2.2.2.2.2.2.2.1 s.2.2.2.2.2.2.2.2.2.2.2.2.2.1 s.2.2.2.2.2.2.2.2.2.2.2.2.2.2) (fun s => μ s.1 s.2.1 s.2.2.1 s.2.2.2.1 s.2.2.2.2.1 s.2.2.2.2.2.1 s.2.2.2.2.2.2.1 s.2.2.2.2.2.2.2.1 s.2.2.2.2.2.2.2.2.1 s.2.2.2.2.2.2.2.2.2.1 s.2.2.2.2.2.2.2.2.2.2.1 s.2.2.2.2.2.2.2.2.2.2.2.1 s.2.2.2.2.2.2.2.2.2.2.2.2.1 s.2.2.2.2.2.2.2.2.2.2.2.2.2.1 s.2.2.2.2.2.2.2.2.2.2.2.2.2.2) (fun n s hI hk => hs n s.1 s.2.1 s.2.2.1 s.2.2.2.1 s.2.2.2.2.1 s.2.2.2.2.2.1 s.2.2.2.2.2.2.1 s.2.2.2.2.2.2.2.1 s.2.2.2.2.2.2.2.2.1 s.2.2.2.2.2.2.2.2.2.1 s.2.2.2.2.2.2.2.2.2.2.1 s.2.2.2.2.2.2.2.2.2.2.2.1 s.2.2.2.2.2.2.2.2.2.2.2.2.1 s.2.2.2.2.2.2.2.2.2.2.2.2.2.1 s.2.2.2.2.2.2.2.2.2.2.2.2.2.2 hI (fun b1 b2 b3 b4 b5 b6 b7 b8 b9 b10 b11 b12 b13 b14 b15 h9 hm => hk (b1, b2, b3, b4, b5, b6, b7, b8, b9, b10, b11, b12, b13, b14, b15) h9 hm)) (a1, a2, a3, a4, a5, a6, a7, a8, a9, a10, a11, a12, a13, a14, a15) h
theorem lp16 {A1 A2 A3 A4 A5 A6 A7 A8 A9 A10 A11 A12 A13 A14 A15 A16 : Type} (W : Nat → A1 → A2 → A3 → A4 → A5 → A6 → A7 → A8 → A9 → A10 → A11 → A12 → A13 → A14 → A15 → A16 → Prop) (I : A1 → A2 → A3 → A4 → A5 → A6 → A7 → A8 → A9 → A10 → A11 → A12 → A13 → A14 → A15 → A16 → Prop) (μ : A1 → A2 → A3 → A4 → A5 → A6 → A7 → A8 → A9 → A10 → A11 → A12 → A13 → A14 → A15 → A16 → Nat) (hs : ∀ (n : Nat) (a1 : A1) (a2 : A2) (a3 : A3) (a4 : A4) (a5 : A5) (a6 : A6) (a7 : A7) (a8 : A8) (a9 : A9) (a10 : A10) (a11 : A11) (a12 : A12) (a13 : A13) (a14 : A14) (a15 : A15) (a16 : A16), I a1 a2 a3 a4 a5 a6 a7 a8 a9 a10 a11 a12 a13 a14 a15 a16 → (∀ (b1 : A1) (b2 : A2) (b3 : A3) (b4 : A4) (b5 : A5) (b6 : A6) (b7 : A7) (b8 : A8) (b9 : A9) (b10 : A10) (b11 : A11) (b12 : A12) (b13 : A13) (b14 : A14) (b15 : A15) (b16 : A16), I b1 b2 b3 b4 b5 b6 b7 b8 b9 b10 b11 b12 b13 b14 b15 b16 → μ b1 b2 b3 b4 b5 b6 b7 b8 b9 b10 b11 b12 b13 b14 b15 b16 < μ a1 a2 a3 a4 a5 a6 a7 a8 a9 a10 a11 a12 a13 a14 a15 a16 → W n b1 b2 b3 b4 b5 b6 b7 b8 b9 b10 b11 b12 b13 b14 b15 b16) → W (n + 1) a1 a2 a3 a4 a5 a6 a7 a8 a9 a10 a11 a12 a13 a14 a15 a16) (a1 : A1) (a2 : A2) (a3 : A3) (a4 : A4) (a5 : A5) (a6 : A6) (a7 : A7) (a8 : A8) (a9 : A9) (a10 : A10) (a11 : A11) (a12 : A12) (a13 : A13) (a14 : A14) (a15 : A15) (a16 : A16) (h : I a1 a2 a3 a4 a5 a6 a7 a8 a9 a10 a11 a12 a13 a14 a15 a16) : ∃ n, W n a1 a2 a3 a4 a5 a6 a7 a8 a9 a10 a11 a12 a13 a14 a15 a16 :=
  loop_m (σ := A1 × A2 × A3 × A4 × A5 × A6 × A7 × A8 × A9 × A10 × A11 × A12 × A13 × A14 × A15 × A16) (fun n s => W n s.1 s.2.1 s.2.2.1 s.2.2.2.1 s.2.2.2.2.1 s.2.2.2.2.2.1 s.2.2.2.2.2.2.1 s.2.2.2.2.2.2.2.1 s.2.2.2.2.2.2.2.2.1 s.2.2.2.2.2.2.2.2.2.1 s.2.2.2.2.2.2.2.2.2.2.1 s.2.2.2.2.2.2.2.2.2.2.2.1 s.2.2.2.2.2.2.2.2.2.2.2.2.1 s.2.2.2.2.2.2.2.2.2.2.2.2.2.1 s.2.2.2.2.2.2.2.2.2.2.2.2.2.2.1 s.2.2.2.2.2.2.2.2.2.2.2.2.2.2.2) (fun s => I s.1 s.2.1 s.2.2.1 s.2.2.2.1 s.2.2.2.2.1 s.2.2.2.2.2.1 s.2.2.2.2.2.2.1 s.2.2.2.2.2.2.2.1 s.2.2.2.2.2.2.2.2.1 s.2.2.2.2.2.2.2.2.2.1 s.2.2.2.2.2.2.2.2.2.2.1 s.2.2.2.2.2.2.2.2.2.2.2.1 s.2.2.2.2.2.2.2.2.2.2.2.2.1 s.2.2.2.2.2.2.2.2.2.2.2.2.2.1 s.2.2.2.2.2.2.2.2.2.2.2.2.2.2.1 s.2.2.2.2.2.2.2.2.2.2.2.2.2.2.2) (fun s => μ s.1 s.2.1 s.2.2.1 s.2.2.2.1 s.2.2.2.2.1 s.2.2.2.2.2.1 s.2.2.2.2.2.2.1 s.2.2.2.2.2.2.2.1 s.2.2.2.2.2.2.2.2.1 s.2.2.2.2.2.2.2.2.2.1 s.2.2.2.2.2.2.2.2.2.2.1 s.2.2.2.2.2.2.2.2.2.2.2.1 s.2.2.2.2.2.2.2.2.2.2.2.2.1 s.2.2.2.2.2.2.2.2.2.2.2.2.2.1 s.2.2.2.2.2.2.2.2.2.2.2.2.2.2.1 s.2.2.2.2.2.2.2.2.2.2.2.2.2.2.2) (fun n s hI hk => hs n s.1 s.2.1 s.2.2.1 s.2.2.2.1 s.2.2.2.2.1 s.2.2.2.2.2.1 s.2.2.2.2.2.2.1 s.2.2.2.2.2.2.2.1 s.2.2.2.2.2.2.2.2.1 s.2.2.2.2.2.2.2.2.2.1 s.2.2.2.2.2.2.2.2.2.2.1 s.2.2.2.2.2.2.2.2.2.2.2.1 s.2.2.2.2.2.2.2.2.2.2.2.2.1 s.2.2.2.2.2.2.2.2.2.2.2.2.2.1 s.2.2.2.2.2.2.2.2.2.2.2.2.2.2.1 s.2.2.2.2.2.2.2.2.2.2.2.2.2.2.2 hI (fun b1 b2 b3 b4 b5 b6 b7 b8 b9 b10 b11 b12 b13 b14 b15 b16 h9 hm => hk (b1, b2, b3, b4, b5, b6, b7, b8, b9, b10, b11, b12, b13, b14, b15, b16) h9 hm)) (a1, a2, a3, a4, a5, a6, a7, a8, a9, a10, a11, a12, a13, a14, a15, a16) h
theorem pk_least (P : Nat → Prop) (h : ∃ k, P k) : ∃ k, P k ∧ ∀ j, j < k → ¬ P j := by
  obtain ⟨k, hk⟩ := h
  induction k using Nat.strongRecOn with
  | ind k ih =>
    by_cases e : ∃ j, j < k ∧ P j
    · obtain ⟨j, hj, pj⟩ := e
      exact ih j hj pj
    · exact ⟨k, hk, fun j hj pj => e ⟨j, hj, pj⟩⟩
theorem rp1 {ρ A1 : Type} (W : Nat → (ρ → Prop) → A1 → Prop) (ok : A1 → Prop) (μ : A1 → Nat) (val : A1 → ρ)
    (hs : ∀ (d : Nat) (post : ρ → Prop) (a1 : A1), ok a1 → post (val a1) → (∀ (post' : ρ → Prop) (b1 : A1), ok b1 → μ b1 < μ a1 → post' (val b1) → W d post' b1) → W (d + 1) post a1) :
    ∀ (d : Nat) (post : ρ → Prop) (a1 : A1), ok a1 → μ a1 < d → post (val a1) → W d post a1 := by
  intro d
  induction d with
  | zero => intro post a1 _ h; omega
  | succ d ih =>
    intro post a1 ho hm hp
    exact hs d post a1 ho hp (fun post' b1 ho' hm' hp' => ih post' b1 ho' (by omega) hp')
theorem rp2 {ρ A1 A2 : Type} (W : Nat → (ρ → Prop) → A1 → A2 → Prop) (ok : A1 → A2 → Prop) (μ : A1 → A2 → Nat) (val : A1 → A2 → ρ)
    (hs : ∀ (d : Nat) (post : ρ → Prop) (a1 : A1) (a2 : A2), ok a1 a2 → post (val a1 a2) → (∀ (post' : ρ → Prop) (b1 : A1) (b2 : A2), ok b1 b2 → μ b1 b2 < μ a1 a2 → post' (val b1 b2) → W d post' b1 b2) → W (d + 1) post a1 a2) :
    ∀ (d : Nat) (post : ρ → Prop) (a1 : A1) (a2 : A2), ok a1 a2 → μ a1 a2 < d → post (val a1 a2) → W d post a1 a2 := by
  intro d
  induction d with
  | zero => intro post a1 a2 _ h; omega
  | succ d ih =>
    intro post a1 a2 ho hm hp
    exact hs d post a1 a2 ho hp (fun post' b1 b2 ho' hm' hp' => ih post' b1 b2 ho' (by omega) hp')
theorem rp3 {ρ A1 A2 A3 : Type} (W : Nat → (ρ → Prop) → A1 → A2 → A3 → Prop) (ok : A1 → A2 → A3 → Prop) (μ : A1 → A2 → A3 → Nat) (val : A1 → A2 → A3 → ρ)
    (hs : ∀ (d : Nat) (post : ρ → Prop) (a1 : A1) (a2 : A2) (a3 : A3), ok a1 a2 a3 → post (val a1 a2 a3) → (∀ (post' : ρ → Prop) (b1 : A1) (b2 : A2) (b3 : A3), ok b1 b2 b3 → μ b1 b2 b3 < μ a1 a2 a3 → post' (val b1 b2 b3) → W d post' b1 b2 b3) → W (d + 1) post a1 a2 a3) :
    ∀ (d : Nat) (post : ρ → Prop) (a1 : A1) (a2 : A2) (a3 : A3), ok a1 a2 a3 → μ a1 a2 a3 < d → post (val a1 a2 a3) → W d post a1 a2 a3 := by
  intro d
  induction d with
  | zero => intro post a1 a2 a3 _ h; omega
  | succ d ih =>
    intro post a1 a2 a3 ho hm hp
    exact hs d post a1 a2 a3 ho hp (fun post' b1 b2 b3 ho' hm' hp' => ih post' b1 b2 b3 ho' (by omega) hp')
theorem rp4 {ρ A1 A2 A3 A4 : Type} (W : Nat → (ρ → Prop) → A1 → A2 → A3 → A4 → Prop) (ok : A1 → A2 → A3 → A4 → Prop) (μ : A1 → A2 → A3 → A4 → Nat) (val : A1 → A2 → A3 → A4 → ρ)
    (hs : ∀ (d : Nat) (post : ρ → Prop) (a1 : A1) (a2 : A2) (a3 : A3) (a4 : A4), ok a1 a2 a3 a4 → post (val a1 a2 a3 a4) → (∀ (post' : ρ → Prop) (b1 : A1) (b2 : A2) (b3 : A3) (b4 : A4), ok b1 b2 b3 b4 → μ b1 b2 b3 b4 < μ a1 a2 a3 a4 → post' (val b1 b2 b3 b4) → W d post' b1 b2 b3 b4) → W (d + 1) post a1 a2 a3 a4) :
    ∀ (d : Nat) (post : ρ → Prop) (a1 : A1) (a2 : A2) (a3 : A3) (a4 : A4), ok a1 a2 a3 a4 → μ a1 a2 a3 a4 < d → post (val a1 a2 a3 a4) → W d post a1 a2 a3 a4 := by
  intro d
  induction d with
  | zero => intro post a1 a2 a3 a4 _ h; omega
  | succ d ih =>
    intro post a1 a2 a3 a4 ho hm hp
    exact hs d post a1 a2 a3 a4 ho hp (fun post' b1 b2 b3 b4 ho' hm' hp' => ih post' b1 b2 b3 b4 ho' (by omega) hp')
theorem rp5 {ρ A1 A2 A3 A4 A5 : Type} (W : Nat → (ρ → Prop) → A1 → A2 → A3 → A4 → A5 → Prop) (ok : A1 → A2 → A3 → A4 → A5 → Prop) (μ : A1 → A2 → A3 → A4 → A5 → Nat) (val : A1 → A2 → A3 → A4 → A5 → ρ)
    (hs : ∀ (d : Nat) (post : ρ → Prop) (a1 : A1) (a2 : A2) (a3 : A3) (a4 : A4) (a5 : A5), ok a1 a2 a3 a4 a5 → post (val a1 a2 a3 a4 a5) → (∀ (post' : ρ → Prop) (b1 : A1) (b2 : A2) (b3 : A3) (b4 : A4) (b5 : A5), ok b1 b2 b3 b4 b5 → μ b1 b2 b3 b4 b5 < μ a1 a2 a3 a4 a5 → post' (val b1 b2 b3 b4 b5) → W d post' b1 b2 b3 b4 b5) → W (d + 1) post a1 a2 a3 a4 a5) :
    ∀ (d : Nat) (post : ρ → Prop) (a1 : A1) (a2 : A2) (a3 : A3) (a4 : A4) (a5 : A5), ok a1 a2 a3 a4 a5 → μ a1 a2 a3 a4 a5 < d → post (val a1 a2 a3 a4 a5) → W d post a1 a2 a3 a4 a5 := by
  intro d
  induction d with
  | zero => intro post a1 a2 a3 a4 a5 _ h; omega
  | succ d ih =>
    intro post a1 a2 a3 a4 a5 ho hm hp
    exact hs d post a1 a2 a3 a4 a5 ho hp (fun post' b1 b2 b3 b4 b5 ho' hm' hp' => ih post' b1 b2 b3 b4 b5 ho' (by omega) hp')
theorem rp6 {ρ A1 A2 A3 A4 A5 A6 : Type} (W : Nat → (ρ → Prop) → A1 → A2 → A3 → A4 → A5 → A6 → Prop) (ok : A1 → A2 → A3 → A4 → A5 → A6 → Prop) (μ : A1 → A2 → A3 → A4 → A5 → A6 → Nat) (val : A1 → A2 → A3 → A4 → A5 → A6 → ρ)
    (hs : ∀ (d : Nat) (post : ρ → Prop) (a1 : A1) (a2 : A2) (a3 : A3) (a4 : A4) (a5 : A5) (a6 : A6), ok a1 a2 a3 a4 a5 a6 → post (val a1 a2 a3 a4 a5 a6) → (∀ (post' : ρ → Prop) (b1 : A1) (b2 : A2) (b3 : A3) (b4 : A4) (b5 : A5) (b6 : A6), ok b1 b2 b3 b4 b5 b6 → μ b1 b2 b3 b4 b5 b6 < μ a1 a2 a3 a4 a5 a6 → post' (val b1 b2 b3 b4 b5 b6) → W d post' b1 b2 b3 b4 b5 b6) → W (d + 1) post a1 a2 a3 a4 a5 a6) :
    ∀ (d : Nat) (post : ρ → Prop) (a1 : A1) (a2 : A2) (a3 : A3) (a4 : A4) (a5 : A5) (a6 : A6), ok a1 a2 a3 a4 a5 a6 → μ a1 a2 a3 a4 a5 a6 < d → post (val a1 a2 a3 a4 a5 a6) → W d post a1 a2 a3 a4 a5 a6 := by
  intro d
  induction d with
  | zero => intro post a1 a2 a3 a4 a5 a6 _ h; omega
  | succ d ih =>
    intro post a1 a2 a3 a4 a5 a6 ho hm hp
    exact hs d post a1 a2 a3 a4 a5 a6 ho hp (fun post' b1 b2 b3 b4 b5 b6 ho' hm' hp' => ih post' b1 b2 b3 b4 b5 b6 ho' (by omega) hp')
theorem rec_p {σ ρ : Type} (W : Nat → (ρ → Prop) → σ → Prop) (ok : σ → Prop) (μ : σ → Nat) (val : σ → ρ)
    (hs : ∀ d s post, ok s → post (val s) → (∀ s' post', ok s' → μ s' < μ s → post' (val s') → W d post' s') → W (d + 1) post s) :
    ∀ d s post, ok s → μ s < d → post (val s) → W d post s := by
  intro d
  induction d with
  | zero => intro s post _ h; omega
  | succ d ih =>
    intro s post ho hm hp
    exact hs d s post ho hp (fun s' post' ho' hm' hp' => ih s' post' ho' (by omega) hp')
theorem rec_q {σ ρ : Type} (W : Nat → (ρ → Prop) → σ → Prop) (ok : σ → Prop) (μ : σ → Nat) (Q : σ → ρ → Prop)
    (hs : ∀ d s post, ok s → (∀ r, Q s r → post r) → (∀ s' post', ok s' → μ s' < μ s → (∀ r, Q s' r → post' r) → W d post' s') → W (d + 1) post s) :
    ∀ d s post, ok s → μ s < d → (∀ r, Q s r → post r) → W d post s := by
  intro d
  induction d with
  | zero => intro s post _ h; omega
  | succ d ih =>
    intro s post ho hm hp
    exact hs d s post ho hp (fun s' post' ho' hm' hp' => ih s' post' ho' (by omega) hp')
def bx_sum (f : Nat → Int32) : Nat → Int32
  | 0 => 0
  | n + 1 => bx_sum f n + f n
theorem ek_u {A : Prop} {B : Nat → Prop} {k N : Nat} (hk : k < N) (h : B k) : (some k = none → A) ∧ (∀ y : Nat, some k = some y → (y < N ∧ B y)) :=
  ⟨fun z => absurd z (Option.some_ne_none k), fun _ e => (by cases e; exact ⟨hk, h⟩)⟩
theorem ek_nu {A : Prop} {B : Nat → Prop} (h : A) : ((none : Option Nat) = none → A) ∧ (∀ y : Nat, (none : Option Nat) = some y → B y) :=
  ⟨fun _ => h, fun _ e => (by cases e)⟩
theorem ek_if {c d A B : Prop} (e : c ↔ d) (f : d → A) (g : ¬ d → B) : (c → A) ∧ (¬ c → B) :=
  ⟨fun z => f (e.mp z), fun z => g (fun y => z (e.mpr y))⟩
theorem ek_v {α : Sort _} {P : α → Prop} {a b : α} (e : a = b) (h : P b) : P a := e ▸ h
theorem co_some {x : Option Nat} {A : Prop} {B : Nat → Prop} (i : Nat) (h : B i) (hx : x = some i := by rfl) : (x = none → A) ∧ (∀ y : Nat, x = some y → B y) := by
  subst hx
  exact ⟨fun e => (nomatch e), fun y e => Option.some.inj e ▸ h⟩
theorem co_none {x : Option Nat} {A : Prop} {B : Nat → Prop} (h : A) (hx : x = none := by rfl) : (x = none → A) ∧ (∀ y : Nat, x = some y → B y) := by
  subst hx
  exact ⟨fun _ => h, fun y e => (nomatch e)⟩
theorem co_any {x : Option Nat} {A : Prop} {B : Nat → Prop} (hn : x = none → A) (hs : ∀ i : Nat, x = some i → B i) : (x = none → A) ∧ (∀ y : Nat, x = some y → B y) := ⟨hn, hs⟩
theorem co_2 {P : Nat → Prop} (h0 : P 0) (h1 : P 1) {i : Nat} (hi : i < 2) : P i :=
  match i, hi with
  | 0, _ => h0
  | 1, _ => h1
theorem co_3 {P : Nat → Prop} (h0 : P 0) (h1 : P 1) (h2 : P 2) {i : Nat} (hi : i < 3) : P i :=
  match i, hi with
  | 0, _ => h0
  | 1, _ => h1
  | 2, _ => h2
theorem co_4 {P : Nat → Prop} (h0 : P 0) (h1 : P 1) (h2 : P 2) (h3 : P 3) {i : Nat} (hi : i < 4) : P i :=
  match i, hi with
  | 0, _ => h0
  | 1, _ => h1
  | 2, _ => h2
  | 3, _ => h3
theorem co_dec {N : Nat} {P : Nat → Prop} [DecidablePred P] (h : (List.range N).all (fun i => decide (P i)) = true) {i : Nat} (hi : i < N) : P i := by
  have := List.all_eq_true.mp h i (List.mem_range.mpr hi)
  exact of_decide_eq_true this
theorem co_tab {α : Type} {l : List α} {d : α} {P : α → Prop} (h : ∀ a, a ∈ l → P a) {i : Nat} (hi : i < l.length) : P (l.getD i d) := by
  rw [List.getD_eq_getElem?_getD, List.getElem?_eq_getElem hi]
  exact h _ (List.getElem_mem hi)
theorem pk_mu {x : Int32} {L : Nat} (h0 : ¬ x < 0) (h : ¬ nI L ≤ x) (hL : L < 2 ^ 31) : ∃ j : Nat, j < L ∧ x = nI j ∧ x + 1 = nI (j + 1) ∧ x.toNatClampNeg = j ∧ L - (x + 1).toNatClampNeg < L - x.toNatClampNeg := by
  obtain ⟨j, hj, rfl⟩ := nI_of h0
  have hl : j < L := Nat.not_le.mp fun q => h (nI_le q hj)
  refine ⟨j, hl, rfl, nI_1 j, nI_clamp hj, ?_⟩
  rw [nI_1, nI_clamp (by omega), nI_clamp hj]
  omega
theorem op_s {α : Type} {r : Option α} {A : Prop} {B : α → Prop} {y : α} (h : r = some y) (b : B y) : (r = none → A) ∧ ∀ z, r = some z → B z :=
  ⟨fun e => (by rw [h] at e; cases e), fun z e => (by rw [h] at e; cases e; exact b)⟩
def l_holds {α : Type} (a : Nat → Option Nat) (LP : List Nat) (p : Nat → α) (c : Nat) (b : Nat → α) : Prop :=
  ∀ j, j < c → ∃ y, a j = some y ∧ y ∈ LP ∧ p y = b j
theorem l_holds_0 {α : Type} {a : Nat → Option Nat} {LP : List Nat} {p b : Nat → α} : l_holds a LP p 0 b := fun j h => absurd h (Nat.not_lt_zero j)
theorem l_in_new (LP : List Nat) (q : Nat) : q ∈ LP ++ [q] := List.mem_append.mpr (Or.inr (List.mem_singleton.mpr rfl))
def l_sum (b : Nat → Int32) : Nat → Int32
  | 0 => 0
  | k + 1 => l_sum b k + b k
theorem sb_shr0 (x : Int32) : x >>> ((0 : Int32) &&& 31) = x := by
  rw [show ((0 : Int32) &&& 31) = 0 by decide]
  simp
theorem sb_shl0 (x : Int32) : x <<< ((0 : Int32) &&& 31) = x := by
  rw [show ((0 : Int32) &&& 31) = 0 by decide]
  simp
theorem sb_cl0 : (0 : Int32).toNatClampNeg = 0 := by decide
theorem sb_m1 {p : Nat} (h : 0 < p) : nI p + (-1) = nI (p - 1) := by
  obtain ⟨q, rfl⟩ : ∃ q, p = q + 1 := ⟨p - 1, by omega⟩
  exact pk_m1 q
def sb_b (c : Nat) : Int32 := (nI c).toInt8.toInt32
theorem sb_byte : ∀ c, c < 256 → sb_b c &&& 255 = nI c ∧ ((nI c).toUInt32 % 65536).toInt32 = nI c ∧ nI c ≤ 255 := by decide +kernel
def sb_Fit (a : Nat → Int32) : Prop := ∀ j, fits .byte (.int (a j)) = true
def sb_Lat (t : Nat → Nat) (n : Nat) (a : Nat → Int32) : Prop := ∀ j, j < n → t j < 256 ∧ a j = sb_b (t j)
theorem sb_fitB (c : Nat) : fits .byte (.int (sb_b c)) = true := pk_fb _
theorem sb_fit0 : sb_Fit (fun _ => 0) := fun _ => by
  show fits .byte (.int 0) = true
  decide
theorem sb_fitU {a : Nat → Int32} {k : Nat} {x : Int32} (h : sb_Fit a) (hx : fits .byte (.int x) = true) : sb_Fit (upd a k x) := by
  intro j
  by_cases e : j = k
  · subst e
    rw [pk_us]
    exact hx
  · rw [pk_un e]
    exact h j
def sb_cat (t : Nat → Nat) (n : Nat) (s : Nat → Nat) : Nat → Nat := fun j => if j < n then t j else s (j - n)
theorem sb_cat_lo {t s : Nat → Nat} {n j : Nat} (h : j < n) : sb_cat t n s j = t j := if_pos h
theorem sb_cat_hi {t s : Nat → Nat} {n j : Nat} : sb_cat t n s (n + j) = s j := by
  show (if n + j < n then t (n + j) else s (n + j - n)) = s j
  rw [if_neg (by omega), Nat.add_sub_cancel_left]
theorem sb_latPut {t s : Nat → Nat} {n w : Nat} {a a' : Nat → Int32} (h : sb_Lat t n a) (hk : ∀ j, j < n → a' j = a j) (hs : ∀ i, i < w → s i < 256 ∧ a' (n + i) = sb_b (s i)) : sb_Lat (sb_cat t n s) (n + w) a' := by
  intro j hj
  by_cases e : j < n
  · rw [sb_cat_lo e, hk j e]
    exact h j e
  · obtain ⟨i, rfl⟩ : ∃ i, j = n + i := ⟨j - n, by omega⟩
    rw [sb_cat_hi]
    exact hs i (by omega)
theorem sb_latKeep {t : Nat → Nat} {n : Nat} {a a' : Nat → Int32} (h : sb_Lat t n a) (hk : ∀ j, j < n → a' j = a j) : sb_Lat t n a' := fun j hj => by
  rw [hk j hj]
  exact h j hj
def sb_cap (q m : Nat) : Nat := if q ≤ m then m else if 2 * m + 2 < q then q else 2 * m + 2
def sb_Room (q m mc ms : Nat) : Prop := q ≤ m ∨ (1 ≤ mc ∧ sb_cap q m ≤ ms ∧ sb_cap q m ≤ 65536)
theorem sb_cap_ge (q m : Nat) : q ≤ sb_cap q m := by
  unfold sb_cap
  split
  · omega
  · split <;> omega
theorem sb_cap_gem (q m : Nat) : m ≤ sb_cap q m := by
  unfold sb_cap
  split
  · omega
  · split <;> omega
theorem sb_cap_le {q m mc ms : Nat} (hm : m ≤ 65536) (hr : sb_Room q m mc ms) : sb_cap q m ≤ 65536 := by
  rcases hr with h | h
  · rw [sb_cap, if_pos h]
    exact hm
  · exact h.2.2
theorem sb_at {P : Int32 → Prop} {x y : Int32} (e : x = y) (h : P y) : P x := e ▸ h
def sb_dg (w : Nat) : Nat := if w < 10 then 1 else if w < 100 then 2 else if w < 1000 then 3 else if w < 10000 then 4 else if w < 100000 then 5 else if w < 1000000 then 6 else if w < 10000000 then 7 else if w < 100000000 then 8 else if w < 1000000000 then 9 else 10
def sb_dec (v : Nat) : Nat → Nat := fun i => 48 + v / 10 ^ (sb_dg v - 1 - i) % 10
theorem sb_dg_in (w : Nat) : 1 ≤ sb_dg w ∧ sb_dg w ≤ 10 := by
  unfold sb_dg
  constructor <;> (repeat' split) <;> omega
theorem sb_dg100 {w : Nat} (h : 100 ≤ w) (hw : w < 2 ^ 31) : sb_dg w = sb_dg (w / 100) + 2 := by
  rw [sb_dg, sb_dg, if_neg (show ¬ w < 10 by omega), if_neg (show ¬ w < 100 by omega)]
  by_cases h3 : w < 1000
  · rw [if_pos h3, if_pos (show w / 100 < 10 by omega)]
  rw [if_neg h3, if_neg (show ¬ w / 100 < 10 by omega)]
  by_cases h4 : w < 10000
  · rw [if_pos h4, if_pos (show w / 100 < 100 by omega)]
  rw [if_neg h4, if_neg (show ¬ w / 100 < 100 by omega)]
  by_cases h5 : w < 100000
  · rw [if_pos h5, if_pos (show w / 100 < 1000 by omega)]
  rw [if_neg h5, if_neg (show ¬ w / 100 < 1000 by omega)]
  by_cases h6 : w < 1000000
  · rw [if_pos h6, if_pos (show w / 100 < 10000 by omega)]
  rw [if_neg h6, if_neg (show ¬ w / 100 < 10000 by omega)]
  by_cases h7 : w < 10000000
  · rw [if_pos h7, if_pos (show w / 100 < 100000 by omega)]
  rw [if_neg h7, if_neg (show ¬ w / 100 < 100000 by omega)]
  by_cases h8 : w < 100000000
  · rw [if_pos h8, if_pos (show w / 100 < 1000000 by omega)]
  rw [if_neg h8, if_neg (show ¬ w / 100 < 1000000 by omega)]
  by_cases h9 : w < 1000000000
  · rw [if_pos h9, if_pos (show w / 100 < 10000000 by omega)]
  rw [if_neg h9, if_neg (show ¬ w / 100 < 10000000 by omega)]
  rw [if_pos (show w / 100 < 100000000 by omega)]
theorem sb_negT {w : Nat} (h : w < 2 ^ 31) : (-nI w).toInt = -(w : Int) := by
  rw [Int32.toInt_neg, nI_toInt h]
  exact Int.bmod_eq_of_le (by omega) (by omega)
theorem sb_nle {a b : Nat} (ha : a < 2 ^ 31) (hb : b < 2 ^ 31) : -nI a ≤ -nI b ↔ b ≤ a := by
  rw [Int32.le_iff_toInt_le, sb_negT ha, sb_negT hb]
  omega
theorem sb_nlt {a b : Nat} (ha : a < 2 ^ 31) (hb : b < 2 ^ 31) : -nI a < -nI b ↔ b < a := by
  rw [Int32.lt_iff_toInt_lt, sb_negT ha, sb_negT hb]
  omega
theorem sb_cmp {A B : Prop} {x : Int32} (v c : Nat) (f : c ≤ v → A) (g : v < c → B) (hv : v < 2 ^ 31) (hx : x = -nI c := by rfl) (hc : c < 2 ^ 31 := by omega) : (-nI v ≤ x → A) ∧ (¬ -nI v ≤ x → B) := by
  subst hx
  rw [sb_nle hv hc]
  exact ⟨f, fun z => g (by omega)⟩
theorem sb_ndiv {w : Nat} (hw : w < 2 ^ 31) : (-nI w) / 100 = -nI (w / 100) := by
  apply Int32.toInt_inj.mp
  have h100 : (100 : Int32).toInt = 100 := by decide
  rw [Int32.toInt_div, sb_negT hw, h100, sb_negT (by omega), Int.neg_tdiv, Int.tdiv_eq_ediv_of_nonneg (by omega), Int.bmod_eq_of_le (by omega) (by omega)]
  omega
theorem sb_nrem {w : Nat} (hw : w < 2 ^ 31) : (-nI (w / 100)) * 100 - (-nI w) = nI (w % 100) := by
  have h := pk_rem (a := w) (d := 100) hw (by decide) (by decide)
  rw [pk_div hw (by decide) (by decide)] at h
  rw [← h]
  show (-nI (w / 100)) * nI 100 - (-nI w) = nI w - nI (w / 100) * nI 100
  rw [Int32.neg_mul, Int32.sub_neg, Int32.add_comm, ← Int32.sub_eq_add_neg]
end
section
/-! rows on bits, shifts and unsigned numbers, to paste: each family out of a closed proof of our own, whole with what it rests on; each by itself clean at Lean in its own claim (generation 39, form 5). Take a family whole -/
/-! ===== Int32 by its bits: bt x i ===== -/
def bt (x : Int32) (i : Nat) : Bool := x.toBitVec.getLsbD i
theorem b_ext {x y : Int32} (h : ∀ i, i < 32 → bt x i = bt y i) : x = y := Int32.toBitVec_inj.mp (BitVec.eq_of_getLsbD_eq (fun i hi => h i hi))
theorem b_or (x y : Int32) (i : Nat) : bt (x ||| y) i = (bt x i || bt y i) := by unfold bt; rw [Int32.toBitVec_or, BitVec.getLsbD_or]
theorem b_and (x y : Int32) (i : Nat) : bt (x &&& y) i = (bt x i && bt y i) := by unfold bt; rw [Int32.toBitVec_and, BitVec.getLsbD_and]
theorem b_xor (x y : Int32) (i : Nat) : bt (x ^^^ y) i = (bt x i ^^ bt y i) := by unfold bt; rw [Int32.toBitVec_xor, BitVec.getLsbD_xor]
theorem b_big {x : Int32} {i : Nat} (h : 32 ≤ i) : bt x i = false := BitVec.getLsbD_of_ge _ _ h
theorem b_255 (i : Nat) : bt 255 i = decide (i < 8) := by
  rcases Nat.lt_or_ge i 32 with h | h
  · exact (by decide +kernel : ∀ i, i < 32 → bt 255 i = decide (i < 8)) i h
  · rw [b_big h, decide_eq_false (by omega)]
theorem b_65535 (i : Nat) : bt 65535 i = decide (i < 16) := by
  rcases Nat.lt_or_ge i 32 with h | h
  · exact (by decide +kernel : ∀ i, i < 32 → bt 65535 i = decide (i < 16)) i h
  · rw [b_big h, decide_eq_false (by omega)]
theorem b_m1 : ∀ i, i < 32 → bt (-1) i = true := by decide +kernel
theorem b_0 (i : Nat) : bt 0 i = false := BitVec.getLsbD_zero
theorem s_l : ∀ n, n < 32 → ((nI n &&& 31).toBitVec.smod 32).toNat = n := by decide +kernel
theorem s_u : ∀ n, n < 32 → (((nI n).toUInt32 &&& Int32.toUInt32 31).toBitVec % 32).toNat = n := by decide +kernel
theorem b_shl (n : Nat) (hn : n < 32) (x : Int32) {i : Nat} (hi : i < 32) : bt (x <<< (nI n &&& 31)) i = (decide (n ≤ i) && bt x (i - n)) := by
  unfold bt
  rw [Int32.toBitVec_shiftLeft]
  show (x.toBitVec <<< ((nI n &&& 31).toBitVec.smod 32).toNat).getLsbD i = _
  rw [s_l n hn, BitVec.getLsbD_shiftLeft]
  rcases Nat.lt_or_ge i n with h | h
  · simp [h, Nat.not_le.mpr h]
  · simp [hi, h, Nat.not_lt.mpr h]
theorem b_ushr (n : Nat) (hn : n < 32) (x : Int32) (i : Nat) : bt ((x.toUInt32 >>> ((nI n).toUInt32 &&& Int32.toUInt32 31)).toInt32) i = bt x (n + i) := by
  show (x.toUInt32 >>> ((nI n).toUInt32 &&& Int32.toUInt32 31)).toBitVec.getLsbD i = x.toUInt32.toBitVec.getLsbD (n + i)
  rw [UInt32.toBitVec_shiftRight]
  show (x.toUInt32.toBitVec >>> (((nI n).toUInt32 &&& Int32.toUInt32 31).toBitVec % 32).toNat).getLsbD i = _
  rw [s_u n hn, BitVec.getLsbD_ushiftRight]
theorem b_sshr (n : Nat) (hn : n < 32) (x : Int32) {i : Nat} (hi : i < 32) : bt (x >>> (nI n &&& 31)) i = if n + i < 32 then bt x (n + i) else bt x 31 := by
  unfold bt
  rw [Int32.toBitVec_shiftRight]
  show (x.toBitVec.sshiftRight ((nI n &&& 31).toBitVec.smod 32).toNat).getLsbD i = _
  rw [s_l n hn, BitVec.getLsbD_sshiftRight, BitVec.msb_eq_getLsbD_last]
  simp [hi]
theorem b_shl8 (x : Int32) {i : Nat} (hi : i < 32) : bt (x <<< ((8 : Int32) &&& 31)) i = (decide (8 ≤ i) && bt x (i - 8)) := b_shl 8 (by omega) x hi
theorem b_shl16 (x : Int32) {i : Nat} (hi : i < 32) : bt (x <<< ((16 : Int32) &&& 31)) i = (decide (16 ≤ i) && bt x (i - 16)) := b_shl 16 (by omega) x hi
theorem b_shl24 (x : Int32) {i : Nat} (hi : i < 32) : bt (x <<< ((24 : Int32) &&& 31)) i = (decide (24 ≤ i) && bt x (i - 24)) := b_shl 24 (by omega) x hi
theorem b_sshr8 (x : Int32) {i : Nat} (hi : i < 32) : bt (x >>> ((8 : Int32) &&& 31)) i = if 8 + i < 32 then bt x (8 + i) else bt x 31 := b_sshr 8 (by omega) x hi
/-! ===== nI under and, xor, >>>, one bit, 65535 ===== -/
theorem nx_and (a b : Nat) : nI a &&& nI b = nI (a &&& b) := by
  apply Int32.toBitVec_inj.1
  show BitVec.ofNat 32 a &&& BitVec.ofNat 32 b = BitVec.ofNat 32 (a &&& b)
  apply BitVec.eq_of_getLsbD_eq
  intro i hi
  simp [hi]
theorem nx_xor (a b : Nat) : nI a ^^^ nI b = nI (a ^^^ b) := by
  apply Int32.toBitVec_inj.1
  show BitVec.ofNat 32 a ^^^ BitVec.ofNat 32 b = BitVec.ofNat 32 (a ^^^ b)
  apply BitVec.eq_of_getLsbD_eq
  intro i hi
  simp [hi]
theorem nx_cnt : ∀ j : Fin 32, (UInt32.ofNat j.val &&& Int32.toUInt32 31).toNat % 32 = j.val := by decide +kernel
theorem nx_ush {k j : Nat} (hk : k < 65536) (hj : j < 32) : ((nI k).toUInt32 >>> ((nI j).toUInt32 &&& Int32.toUInt32 31)).toInt32 = nI (k >>> j) := by
  have hs : k >>> j ≤ k := by
    rw [Nat.shiftRight_eq_div_pow]
    exact Nat.div_le_self _ _
  have e2 : UInt32.ofNat k >>> (UInt32.ofNat j &&& Int32.toUInt32 31) = UInt32.ofNat (k >>> j) := by
    apply UInt32.toNat_inj.1
    have h1 : (UInt32.ofNat k).toNat = k := Nat.mod_eq_of_lt (by omega)
    have h2 : (UInt32.ofNat (k >>> j)).toNat = k >>> j := Nat.mod_eq_of_lt (by omega)
    rw [UInt32.toNat_shiftRight, nx_cnt ⟨j, hj⟩, h1, h2]
  show (UInt32.ofNat k >>> (UInt32.ofNat j &&& Int32.toUInt32 31)).toInt32 = _
  rw [e2]
  rfl
theorem nx_bit {k j : Nat} (hk : k < 65536) (hj : j < 16) : (((nI k).toUInt32 >>> ((nI j).toUInt32 &&& Int32.toUInt32 31)).toInt32 &&& 1) = 0 ↔ k.testBit j = false := by
  rw [nx_ush hk (by omega)]
  show nI (k >>> j) &&& nI 1 = 0 ↔ _
  rw [nx_and, Nat.and_one_is_mod, ← nI_0, nI_eq (by omega) (by omega), Nat.testBit_eq_decide_div_mod_eq, Nat.shiftRight_eq_div_pow, decide_eq_false_iff_not]
  generalize k / 2 ^ j = z
  omega
theorem nx_mod (k : Nat) : nI k &&& 65535 = nI (k % 65536) := by
  show nI k &&& nI 65535 = _
  rw [nx_and, show (65535 : Nat) = 2 ^ 16 - 1 from rfl, Nat.and_two_pow_sub_one_eq_mod]
theorem nx_m16 {k : Nat} (h : k < 65536) : nI k &&& 65535 = nI k := by rw [nx_mod, Nat.mod_eq_of_lt h]
theorem nx_mask (x : Int32) : ∃ k, k < 65536 ∧ x &&& 65535 = nI k := by
  have e : x = nI x.toBitVec.toNat := by
    apply Int32.toBitVec_inj.1
    show x.toBitVec = BitVec.ofNat 32 x.toBitVec.toNat
    simp
  refine ⟨x.toBitVec.toNat % 65536, Nat.mod_lt _ (by omega), ?_⟩
  rw [← nx_mod, ← e]
/-! ===== Int32 as a set of bits: test, set ===== -/
def nf_M (m : Int32) : Nat := 4294967296 - m.toBitVec.toNat
theorem nf_sh : ∀ l, l < 32 → ((1 : Int32) <<< (nI l &&& 31)).toBitVec = BitVec.twoPow 32 l := by decide +kernel
theorem nf_sl : ∀ l, l < 32 → (((nI l).toUInt32 &&& Int32.toUInt32 31).toBitVec % 32).toNat = l := by decide +kernel
theorem nf_tp : ∀ l, l < 32 → BitVec.twoPow 32 l ≠ 0#32 := by decide +kernel
theorem nf_bit (m : Int32) (l : Nat) (hl : l < 32) : ((m.toUInt32 >>> ((nI l).toUInt32 &&& Int32.toUInt32 31)).toInt32 &&& 1) = 0 ↔ (m &&& ((1 : Int32) <<< (nI l &&& 31))) = 0 := by
  have e : ((m.toUInt32 >>> ((nI l).toUInt32 &&& Int32.toUInt32 31)).toInt32).toBitVec = m.toBitVec >>> l := by
    show m.toBitVec >>> (((nI l).toUInt32 &&& Int32.toUInt32 31).toBitVec % 32) = m.toBitVec >>> l
    rw [BitVec.ushiftRight_eq', nf_sl l hl]
  rw [← Int32.toBitVec_inj, ← Int32.toBitVec_inj, Int32.toBitVec_and, Int32.toBitVec_and, nf_sh l hl, e, BitVec.and_twoPow]
  show (m.toBitVec >>> l &&& 1#32) = 0#32 ↔ _ = 0#32
  rw [BitVec.and_one_eq_setWidth_ofBool_getLsbD, BitVec.getLsbD_ushiftRight, Nat.add_zero]
  cases hb : m.toBitVec.getLsbD l
  · exact ⟨fun _ => by simp, fun _ => by decide⟩
  · exact ⟨fun z => absurd z (by decide), fun z => absurd ((if_pos rfl).symm.trans z) (nf_tp l hl)⟩
theorem nf_gr (m k : Int32) (h : m &&& k = 0) (hk : k ≠ 0) : nf_M (m ||| k) < nf_M m := by
  have hm := m.toBitVec.isLt
  have hm' := (m ||| k).toBitVec.isLt
  have h1 : m.toBitVec.toNat ≤ (m ||| k).toBitVec.toNat := by
    rw [Int32.toBitVec_or, BitVec.toNat_or]
    exact Nat.left_le_or
  have h2 : m.toBitVec.toNat ≠ (m ||| k).toBitVec.toNat := by
    intro e
    have e2 : m = m ||| k := Int32.toBitVec_inj.mp (BitVec.eq_of_toNat_eq e)
    apply hk
    apply Int32.toBitVec_inj.mp
    show k.toBitVec = 0#32
    apply BitVec.eq_of_getLsbD_eq
    intro i hi
    have a : m.toBitVec.getLsbD i = (m.toBitVec.getLsbD i || k.toBitVec.getLsbD i) := by rw [← BitVec.getLsbD_or, ← Int32.toBitVec_or, ← e2]
    have b : (m.toBitVec.getLsbD i && k.toBitVec.getLsbD i) = false := by
      rw [← BitVec.getLsbD_and, ← Int32.toBitVec_and, h]
      exact BitVec.getLsbD_zero
    rw [BitVec.getLsbD_zero]
    revert a b
    cases m.toBitVec.getLsbD i <;> cases k.toBitVec.getLsbD i <;> simp
  unfold nf_M
  omega
/-! ===== a byte read unsigned ===== -/
theorem bp_b (x : Int32) : x.toInt8.toInt32 &&& 255 = x &&& 255 := by
  apply Int32.toBitVec_inj.mp
  rw [Int32.toBitVec_and, Int32.toBitVec_and, Int8.toBitVec_toInt32, Int32.toBitVec_toInt8]
  apply BitVec.eq_of_getLsbD_eq
  intro i hi
  rw [BitVec.getLsbD_and, BitVec.getLsbD_and]
  have hm : ∀ i < 32, 8 ≤ i → (255 : Int32).toBitVec.getLsbD i = false := by decide
  rcases Nat.lt_or_ge i 8 with z | z
  · rw [BitVec.getLsbD_signExtend, BitVec.getLsbD_signExtend, if_pos z, if_pos hi]
    simp only [z, hi, decide_true, Bool.true_and]
  · rw [hm i hi z]; simp
/-! ===== the char cast and 65535 ===== -/
theorem em_w (v : Int32) : ∃ w : Nat, w < 65536 ∧ (v.toUInt32 % 65536).toInt32 = nI w ∧ v &&& 65535 = nI w := by
  have hr := lw_u16_r v
  have h0 : (0 : Int32).toInt = 0 := by decide
  obtain ⟨w, h1, h2⟩ := nI_of (x := lw_u16 v) (by rw [Int32.lt_iff_toInt_lt]; omega)
  have h3 : (v.toUInt32 % 65536).toInt32 = nI w := h2
  rw [h2, nI_toInt h1] at hr
  exact ⟨w, by omega, h3, by rw [← lg_i2c_mask, ← lg_i2c_nf, h3]⟩
/-! ===== Int64 as a set of bits: test, set, clear ===== -/
theorem ts_nf {x : Bool} (h : ¬ x = false) : x = true := by cases x <;> first | rfl | exact absurd rfl h
theorem ts_nt {x : Bool} (h : ¬ x = true) : x = false := by cases x <;> first | rfl | exact absurd rfl h
theorem ts_bit {w : Int64} {s : UInt64} {j : Nat} (hj : j < 64) (hs : s.toNat = j) : ((w.toUInt64 >>> s).toInt64 &&& 1) = 0 ↔ w.toBitVec.getLsbD j = false := by
  have e : (w.toUInt64 >>> s).toInt64.toBitVec = w.toBitVec >>> j := by
    apply BitVec.eq_of_toNat_eq
    show (w.toUInt64 >>> s).toNat = _
    rw [UInt64.toNat_shiftRight, hs, Nat.mod_eq_of_lt hj, BitVec.toNat_ushiftRight]
    rfl
  rw [← Int64.toBitVec_inj, Int64.toBitVec_and, e]
  show w.toBitVec >>> j &&& 1#64 = 0#64 ↔ _
  constructor
  · intro h
    have t := congrArg (fun x => x.getLsbD 0) h
    simpa using t
  · intro h
    apply BitVec.eq_of_getLsbD_eq
    intro i hi
    cases i with
    | zero => simp [h]
    | succ i => simp
theorem ts_or {w m : Int64} {j : Nat} (hj : j < 64) (hm : m.toBitVec = BitVec.twoPow 64 j) : (w ||| m) = w ↔ w.toBitVec.getLsbD j = true := by
  rw [← Int64.toBitVec_inj, Int64.toBitVec_or, hm]
  constructor
  · intro h
    have t := congrArg (fun x => x.getLsbD j) h
    simp only [BitVec.getLsbD_or, BitVec.getLsbD_twoPow] at t
    simpa [hj] using t.symm
  · intro h
    apply BitVec.eq_of_getLsbD_eq
    intro i hi
    rw [BitVec.getLsbD_or, BitVec.getLsbD_twoPow]
    by_cases e : j = i
    · subst e; rw [h, Bool.true_or]
    · simp [e]
theorem ts_and {w m : Int64} {j : Nat} (hj : j < 64) (hm : m.toBitVec = BitVec.twoPow 64 j) : (w &&& (m ^^^ (-1))) = w ↔ w.toBitVec.getLsbD j = false := by
  have ha : (-1 : Int64).toBitVec = BitVec.allOnes 64 := by decide
  rw [← Int64.toBitVec_inj, Int64.toBitVec_and, Int64.toBitVec_xor, hm, ha]
  constructor
  · intro h
    have t := congrArg (fun x => x.getLsbD j) h
    simp only [BitVec.getLsbD_and, BitVec.getLsbD_xor, BitVec.getLsbD_twoPow, BitVec.getLsbD_allOnes] at t
    simpa [hj] using t.symm
  · intro h
    apply BitVec.eq_of_getLsbD_eq
    intro i hi
    rw [BitVec.getLsbD_and, BitVec.getLsbD_xor, BitVec.getLsbD_twoPow, BitVec.getLsbD_allOnes]
    by_cases e : j = i
    · subst e; rw [h, Bool.false_and]
    · simp [e, hi]
/-! ===== lN n to 2^64: shifts, and, or, masks, one bit ===== -/
theorem wb_tb (n : Nat) : (lN n).toBitVec = BitVec.ofNat 64 n := rfl
theorem wb_inj {a b : Int64} (h : a.toBitVec = b.toBitVec) : a = b := Int64.toBitVec_inj.mp h
theorem wb_tn {n : Nat} (h : n < 2 ^ 64) : (lN n).toBitVec.toNat = n := by rw [wb_tb, BitVec.toNat_ofNat, Nat.mod_eq_of_lt h]
theorem wb_of (x : Int64) : ∃ n, n < 2 ^ 64 ∧ x = lN n := ⟨x.toBitVec.toNat, x.toBitVec.isLt, wb_inj (by rw [wb_tb]; simp)⟩
theorem wb_of32 (x : Int32) : ∃ n, n < 2 ^ 32 ∧ x = nI n := ⟨x.toBitVec.toNat, x.toBitVec.isLt, Int32.toBitVec_inj.mp (by show _ = BitVec.ofNat 32 _; simp)⟩
theorem wb_c : ∀ k, k < 64 → ((nI k).toInt64 &&& 63) = lN k := by decide +kernel
theorem wb_cu : ∀ k, k < 64 → ((nI k).toInt64.toUInt64 &&& Int64.toUInt64 63) = UInt64.ofNat k := by decide +kernel
theorem wb_sm : ∀ k, k < 64 → (BitVec.ofNat 64 k).smod 64 = BitVec.ofNat 64 k := by decide +kernel
theorem wb_pw {a b : Nat} (h : a ≤ b) : 2 ^ b = 2 ^ a * 2 ^ (b - a) := by rw [← Nat.pow_add]; congr 1; omega
theorem wb_lt2 {a b : Nat} (h : a < b) : 2 ^ a < 2 ^ b := Nat.pow_lt_pow_right (by decide) h
theorem wb_mod (n : Nat) : lN n = lN (n % 2 ^ 64) := wb_inj (by rw [wb_tb, wb_tb]; apply BitVec.eq_of_toNat_eq; rw [BitVec.toNat_ofNat, BitVec.toNat_ofNat, Nat.mod_mod])
theorem wb_shr {n k : Nat} (hn : n < 2 ^ 64) (hk : k < 64) : ((lN n).toUInt64 >>> ((nI k).toInt64.toUInt64 &&& Int64.toUInt64 63)).toInt64 = lN (n / 2 ^ k) := by
  rw [wb_cu k hk]
  apply wb_inj
  apply BitVec.eq_of_toNat_eq
  show ((lN n).toUInt64 >>> UInt64.ofNat k).toNat = (BitVec.ofNat 64 _).toNat
  have h1 : (UInt64.ofNat k).toNat = k := by
    show (BitVec.ofNat 64 k).toNat = k
    rw [BitVec.toNat_ofNat, Nat.mod_eq_of_lt (by omega)]
  have h2 : (lN n).toUInt64.toNat = n := wb_tn hn
  rw [UInt64.toNat_shiftRight, h1, h2, Nat.mod_eq_of_lt hk, Nat.shiftRight_eq_div_pow, BitVec.toNat_ofNat, Nat.mod_eq_of_lt (Nat.lt_of_le_of_lt (Nat.div_le_self _ _) hn)]
theorem wb_shl (n : Nat) {k : Nat} (hk : k < 64) : lN n <<< ((nI k).toInt64 &&& 63) = lN (n * 2 ^ k) := by
  rw [wb_c k hk]
  apply wb_inj
  rw [Int64.toBitVec_shiftLeft, wb_tb, wb_tb, wb_tb, wb_sm k hk]
  apply BitVec.eq_of_toNat_eq
  rw [BitVec.shiftLeft_eq', BitVec.toNat_shiftLeft, BitVec.toNat_ofNat, BitVec.toNat_ofNat, BitVec.toNat_ofNat, Nat.mod_eq_of_lt (show k < 2 ^ 64 by omega), Nat.shiftLeft_eq, Nat.mul_mod, Nat.mod_mod, ← Nat.mul_mod]
theorem wb_and {a b : Nat} (ha : a < 2 ^ 64) (hb : b < 2 ^ 64) : lN a &&& lN b = lN (a &&& b) := by
  apply wb_inj
  rw [Int64.toBitVec_and, wb_tb, wb_tb, wb_tb]
  apply BitVec.eq_of_toNat_eq
  rw [BitVec.toNat_and, BitVec.toNat_ofNat, BitVec.toNat_ofNat, BitVec.toNat_ofNat, Nat.mod_eq_of_lt ha, Nat.mod_eq_of_lt hb, Nat.mod_eq_of_lt (Nat.and_lt_two_pow _ hb)]
theorem wb_or {a b : Nat} (ha : a < 2 ^ 64) (hb : b < 2 ^ 64) : lN a ||| lN b = lN (a ||| b) := by
  apply wb_inj
  rw [Int64.toBitVec_or, wb_tb, wb_tb, wb_tb]
  apply BitVec.eq_of_toNat_eq
  rw [BitVec.toNat_or, BitVec.toNat_ofNat, BitVec.toNat_ofNat, BitVec.toNat_ofNat, Nat.mod_eq_of_lt ha, Nat.mod_eq_of_lt hb, Nat.mod_eq_of_lt (Nat.or_lt_two_pow ha hb)]
theorem wb_mask {n k : Nat} (hn : n < 2 ^ 64) (hk : k < 64) : lN n &&& lN (2 ^ k - 1) = lN (n % 2 ^ k) := by
  rw [wb_and hn (by have := wb_lt2 hk; omega), Nat.and_two_pow_sub_one_eq_mod]
theorem wb_a1 {n : Nat} (hn : n < 2 ^ 64) : lN n &&& 1 = lN (n % 2) := wb_mask (k := 1) hn (by decide)
theorem wb_bit {n k : Nat} (hn : n < 2 ^ 64) (hk : k < 64) : ((lN n).toUInt64 >>> ((nI k).toInt64.toUInt64 &&& Int64.toUInt64 63)).toInt64 &&& 1 = lN (n / 2 ^ k % 2) := by
  rw [wb_shr hn hk, wb_a1 (Nat.lt_of_le_of_lt (Nat.div_le_self _ _) hn)]
theorem wb_xor {q k : Nat} (hk : k < 63) (h : 2 ^ k ≤ q) (h2 : q < 2 ^ (k + 1)) : lN q ^^^ lN (2 ^ k) = lN (q - 2 ^ k) := by
  obtain ⟨r, rfl⟩ : ∃ r, q = 2 ^ k + r := ⟨q - 2 ^ k, by omega⟩
  have hr : r < 2 ^ k := by rw [Nat.pow_succ] at h2; omega
  have hx : (2 ^ k + r) ^^^ 2 ^ k = r := by
    apply Nat.eq_of_testBit_eq
    intro i
    rw [Nat.testBit_xor, Nat.testBit_two_pow]
    rcases Nat.lt_trichotomy i k with h | h | h
    · rw [Nat.testBit_two_pow_add_gt h]
      simp [show ¬ k = i by omega]
    · subst h
      rw [Nat.testBit_two_pow_add_eq]
      simp
    · have a1 : 2 ^ (k + 1) ≤ 2 ^ i := Nat.pow_le_pow_right (by decide) h
      rw [Nat.testBit_lt_two_pow (show 2 ^ k + r < 2 ^ i by omega), Nat.testBit_lt_two_pow (show r < 2 ^ i by omega)]
      simp [show ¬ k = i by omega]
  have b1 := wb_lt2 (show k + 1 < 64 by omega)
  have b2 := wb_lt2 (show k < 64 by omega)
  apply wb_inj
  rw [Int64.toBitVec_xor, wb_tb, wb_tb, wb_tb]
  apply BitVec.eq_of_toNat_eq
  rw [BitVec.toNat_xor, BitVec.toNat_ofNat, BitVec.toNat_ofNat, BitVec.toNat_ofNat, Nat.mod_eq_of_lt (by omega : 2 ^ k + r < 2 ^ 64), Nat.mod_eq_of_lt b2, hx, Nat.add_sub_cancel_left, Nat.mod_eq_of_lt (by omega)]
/-! ===== lN: masks, 'or' of parts that don't overlap is a sum ===== -/
theorem u_tn {n : Nat} (h : n < 2 ^ 64) : (UInt64.ofNat n).toNat = n := Nat.mod_eq_of_lt h
theorem g_and {a b c : Nat} (ha : a < 2 ^ 64) (hb : b < 2 ^ 64) (hc : a &&& b = c) : lN a &&& lN b = lN c := by
  subst hc
  have h : UInt64.ofNat a &&& UInt64.ofNat b = UInt64.ofNat (a &&& b) := UInt64.toNat_inj.mp (by rw [UInt64.toNat_and, u_tn ha, u_tn hb, u_tn (Nat.and_lt_two_pow a hb)])
  have h2 := congrArg UInt64.toInt64 h
  exact h2
theorem g_and1 {a : Nat} (ha : a < 2 ^ 64) : lN a &&& 1 = lN (a % 2) := g_and (b := 1) ha (by decide) (Nat.and_two_pow_sub_one_eq_mod a 1)
theorem g_mask {a s p : Nat} (hp : 2 ^ s = p) (hs : s < 64) (ha : a < 2 ^ 64) : lN a &&& lN (p - 1) = lN (a % p) := by
  subst hp
  have := Nat.pow_lt_pow_right (show 1 < 2 by decide) hs
  exact g_and ha (by omega) (Nat.and_two_pow_sub_one_eq_mod a s)
theorem g_or {k p a b : Nat} (hp : 2 ^ k = p) (ha : a < p) (h : b * p + a < 2 ^ 64) : lN (b * p) ||| lN a = lN (b * p + a) := by
  subst hp
  have h1 : b * 2 ^ k ||| a = b * 2 ^ k + a := by rw [← Nat.shiftLeft_eq, Nat.shiftLeft_add_eq_or_of_lt ha]
  have h3 : UInt64.ofNat (b * 2 ^ k) ||| UInt64.ofNat a = UInt64.ofNat (b * 2 ^ k + a) := UInt64.toNat_inj.mp (by rw [UInt64.toNat_or, u_tn (by omega), u_tn (by omega), u_tn h, h1])
  have h2 := congrArg UInt64.toInt64 h3
  exact h2
theorem g_or' {k p a b : Nat} (hp : 2 ^ k = p) (ha : a < p) (h : a + b * p < 2 ^ 64) : lN a ||| lN (b * p) = lN (a + b * p) := by
  rw [Int64.or_comm, g_or hp ha (by omega), Nat.add_comm]
theorem g_ushr {a k p : Nat} {y : UInt64} (hy : y = UInt64.ofNat k) (hk : k < 64) (hp : 2 ^ k = p) (ha : a < 2 ^ 64) : ((lN a).toUInt64 >>> y).toInt64 = lN (a / p) := by
  subst hy hp
  have h : UInt64.ofNat a >>> UInt64.ofNat k = UInt64.ofNat (a / 2 ^ k) := UInt64.toNat_inj.mp (by rw [UInt64.toNat_shiftRight, u_tn ha, u_tn (by omega), u_tn (Nat.lt_of_le_of_lt (Nat.div_le_self _ _) ha), Nat.mod_eq_of_lt hk, Nat.shiftRight_eq_div_pow])
  have h2 := congrArg UInt64.toInt64 h
  exact h2
theorem g_shl {a k p : Nat} {y : Int64} (hy : y.toBitVec.smod 64 = BitVec.ofNat 64 k) (hk : k < 64) (hp : 2 ^ k = p) (ha : a < 2 ^ 64) : lN a <<< y = lN (a * p) := by
  subst hp
  apply Int64.toBitVec_inj.mp
  rw [Int64.toBitVec_shiftLeft, hy]
  apply BitVec.eq_of_toNat_eq
  have hb : (lN a).toBitVec.toNat = a := Nat.mod_eq_of_lt ha
  have hk' : (BitVec.ofNat 64 k).toNat = k := Nat.mod_eq_of_lt (by omega)
  have h : ((lN a).toBitVec <<< BitVec.ofNat 64 k).toNat = (a * 2 ^ k) % 2 ^ 64 := by simp only [BitVec.shiftLeft_eq', BitVec.toNat_shiftLeft, hb, hk', Nat.shiftLeft_eq]
  exact h
/-! ===== lN to 2^62 under >> and >>> ===== -/
theorem pf_lI {a : Nat} (h : a < 2 ^ 63) : (lN a).toInt = (a : Int) := lg_ofNat_toInt h
theorem pf_shr {a d : Nat} {D : Int64} (hD : (D.toBitVec.smod 64).toNat = d) (h : a < 2 ^ 62) : lN a >>> D = lN (a / 2 ^ d) := by
  have hd : a / 2 ^ d ≤ a := Nat.div_le_self _ _
  apply Int64.toInt_inj.mp
  have e : (lN a >>> D).toInt = (lN a).toInt >>> d := by
    rw [← hD]
    exact BitVec.toInt_sshiftRight ..
  rw [e, Int.shiftRight_eq_div_pow, pf_lI (by omega), pf_lI (by omega)]
  rfl
theorem pf_ushr {a d : Nat} {D : UInt64} (hD : D.toNat % 64 = d) (h : a < 2 ^ 62) : ((lN a).toUInt64 >>> D).toInt64 = lN (a / 2 ^ d) := by
  have hd : a / 2 ^ d ≤ a := Nat.div_le_self _ _
  have e : (lN a).toUInt64 >>> D = UInt64.ofNat (a / 2 ^ d) := UInt64.toNat_inj.mp (by
    rw [UInt64.toNat_shiftRight, hD, Nat.shiftRight_eq_div_pow, UInt64.toNat_ofNat']
    show (UInt64.ofNat a).toNat / 2 ^ d = _
    rw [UInt64.toNat_ofNat', Nat.mod_eq_of_lt (by omega), Nat.mod_eq_of_lt (by omega)])
  rw [e]
  rfl
theorem pf_andw (x : Int64) : ∃ m, m < 2 ^ 32 ∧ x &&& 4294967295 = lN m := ⟨x.toBitVec.toNat % 2 ^ 32, Nat.mod_lt _ (by decide), Int64.toBitVec_inj.mp (BitVec.eq_of_toNat_eq (by
  show (x.toBitVec &&& 4294967295#64).toNat = (BitVec.ofNat 64 (x.toBitVec.toNat % 2 ^ 32)).toNat
  rw [BitVec.toNat_and, show (4294967295#64).toNat = 2 ^ 32 - 1 from by decide, Nat.and_two_pow_sub_one_eq_mod, BitVec.toNat_ofNat]
  omega))⟩
/-! ===== Int64 as an unsigned number: uN x ===== -/
def uN (x : Int64) : Nat := x.toUInt64.toNat
theorem uN_lt (x : Int64) : uN x < 18446744073709551616 := x.toUInt64.toNat_lt
theorem uN_inj {x y : Int64} (h : uN x = uN y) : x = y := congrArg UInt64.toInt64 (UInt64.toNat_inj.mp h)
theorem uN_add (x y : Int64) : uN (x + y) = (uN x + uN y) % 18446744073709551616 := by
  show (x.toUInt64 + y.toUInt64).toNat = _
  exact UInt64.toNat_add _ _
theorem uN_mul (x y : Int64) : uN (x * y) = (uN x * uN y) % 18446744073709551616 := by
  show (x.toUInt64 * y.toUInt64).toNat = _
  exact UInt64.toNat_mul _ _
theorem uN_shl (x : Int64) : uN (x <<< ((1 : Int32).toInt64 &&& 63)) = (2 * uN x) % 18446744073709551616 := by
  have h : (((1 : Int32).toInt64 &&& 63).toBitVec.smod 64).toNat = 1 := by decide
  show (x.toBitVec <<< (((1 : Int32).toInt64 &&& 63).toBitVec.smod 64).toNat).toNat = _
  rw [h, BitVec.toNat_shiftLeft, Nat.shiftLeft_eq, Nat.mul_comm]
  rfl
theorem uN_shr (x : Int64) (s : UInt64) : uN (x.toUInt64 >>> s).toInt64 = uN x / 2 ^ (s.toNat % 64) := by
  show (x.toUInt64 >>> s).toNat = _
  rw [UInt64.toNat_shiftRight, Nat.shiftRight_eq_div_pow]
  rfl
theorem uN_s32 (x : Int64) : uN (x.toUInt64 >>> ((32 : Int32).toInt64.toUInt64 &&& Int64.toUInt64 63)).toInt64 = uN x / 4294967296 := by
  have h : ((32 : Int32).toInt64.toUInt64 &&& Int64.toUInt64 63).toNat % 64 = 32 := by decide
  rw [uN_shr, h]
theorem uN_s63 (x : Int64) : uN (x.toUInt64 >>> ((63 : Int32).toInt64.toUInt64 &&& Int64.toUInt64 63)).toInt64 = uN x / 9223372036854775808 := by
  have h : ((63 : Int32).toInt64.toUInt64 &&& Int64.toUInt64 63).toNat % 64 = 63 := by decide
  rw [uN_shr, h]
theorem uN_lo (x : Int64) : uN (x &&& 4294967295) = uN x % 4294967296 := by
  show (x.toUInt64 &&& Int64.toUInt64 4294967295).toNat = _
  rw [UInt64.toNat_and]
  exact Nat.and_two_pow_sub_one_eq_mod _ 32
theorem uN_bit (x : Int64) : (x &&& 1) = 0 ↔ uN x % 2 = 0 := by
  have h : uN (x &&& 1) = uN x % 2 := by
    show (x.toUInt64 &&& Int64.toUInt64 1).toNat = _
    rw [UInt64.toNat_and]
    exact Nat.and_two_pow_sub_one_eq_mod _ 1
  rw [← h]
  exact ⟨fun z => by rw [z]; rfl, fun z => uN_inj (z.trans rfl)⟩
theorem uN_or {x y : Int64} (hy : uN y < 2) : uN ((x <<< ((1 : Int32).toInt64 &&& 63)) ||| y) = (2 * uN x) % 18446744073709551616 + uN y := by
  have h1 : uN ((x <<< ((1 : Int32).toInt64 &&& 63)) ||| y) = uN (x <<< ((1 : Int32).toInt64 &&& 63)) ||| uN y := UInt64.toNat_or _ _
  have h2 : (2 * uN x) % 18446744073709551616 = 2 ^ 1 * (uN x % 9223372036854775808) := by omega
  rw [h1, uN_shl, h2]
  exact (Nat.two_pow_add_eq_or_of_lt (i := 1) hy _).symm
theorem nat_xor {a : Nat} (h : a < 18446744073709551616) : a ^^^ 2 ^ 63 = (a + 9223372036854775808) % 18446744073709551616 := by
  have h1 : (a ^^^ 2 ^ 63) % 2 ^ 63 = a % 2 ^ 63 := by rw [Nat.xor_mod_two_pow, Nat.mod_self, Nat.xor_zero]
  have h2 : (a ^^^ 2 ^ 63) / 2 ^ 63 = (a / 2 ^ 63) ^^^ 1 := by rw [Nat.xor_div_two_pow, Nat.div_self (Nat.two_pow_pos 63)]
  have h3 : a / 2 ^ 63 = 0 ∨ a / 2 ^ 63 = 1 := by omega
  generalize a ^^^ 2 ^ 63 = t at h1 h2
  rcases h3 with h3 | h3
  · rw [h3] at h2
    have h2 : t / 2 ^ 63 = 1 := h2
    omega
  · rw [h3] at h2
    have h2 : t / 2 ^ 63 = 0 := h2
    omega
theorem uN_xor (x : Int64) : uN (x ^^^ (-9223372036854775808)) = (uN x + 9223372036854775808) % 18446744073709551616 := by
  rw [← nat_xor (uN_lt x)]
  exact UInt64.toNat_xor _ _
theorem uN_int (x : Int64) : x.toInt = if 2 * uN x < 18446744073709551616 then (uN x : Int) else (uN x : Int) - 18446744073709551616 := BitVec.toInt_eq_toNat_cond _
theorem uN_le (x y : Int64) : (x ^^^ (-9223372036854775808)) ≤ (y ^^^ (-9223372036854775808)) ↔ uN x ≤ uN y := by
  have hx := uN_lt x
  have hy := uN_lt y
  rw [Int64.le_iff_toInt_le, uN_int, uN_int, uN_xor, uN_xor]
  omega
theorem uN_sk (x : Int64) {k : Nat} (hk : k < 64) : uN (x.toUInt64 >>> ((nI k).toInt64.toUInt64 &&& Int64.toUInt64 63)).toInt64 = uN x / 2 ^ k := by
  have h : ((nI k).toInt64.toUInt64 &&& Int64.toUInt64 63).toNat % 64 = k := by
    rw [nI_l (by omega), UInt64.toNat_and]
    have e : (lN k).toUInt64.toNat = k % 2 ^ 64 := rfl
    have e2 : (Int64.toUInt64 63).toNat = 2 ^ 6 - 1 := by decide
    rw [e, e2, Nat.and_two_pow_sub_one_eq_mod]
    omega
  rw [uN_shr, h]
/-! ===== unsigned comparison by xor with the least ===== -/
theorem lN_bv (n : Nat) : (lN n).toBitVec = BitVec.ofNat 64 n := rfl
theorem lN_nat {n : Nat} (h : n < 2 ^ 64) : (lN n).toBitVec.toNat = n := by rw [lN_bv, BitVec.toNat_ofNat]; exact Nat.mod_eq_of_lt h
theorem lN_xor (a b : Nat) : lN a ^^^ lN b = lN (a ^^^ b) := by
  apply Int64.toBitVec_inj.mp; rw [Int64.toBitVec_xor, lN_bv, lN_bv, lN_bv]; apply BitVec.eq_of_getLsbD_eq; intro i hi; simp [BitVec.getLsbD_ofNat, Nat.testBit_xor, hi]
theorem lN_ti {m : Nat} (h : m < 2 ^ 64) : (lN m).toInt = if m < 2 ^ 63 then (m : Int) else (m : Int) - 2 ^ 64 := by
  have c := BitVec.toInt_eq_toNat_cond (lN m).toBitVec
  rw [lN_nat h] at c
  show (lN m).toBitVec.toInt = _
  rw [c]
  split <;> split <;> omega
theorem xor63 {x : Nat} (h : x < 2 ^ 63) : x ^^^ 2 ^ 63 = 2 ^ 63 + x := by
  apply Nat.eq_of_testBit_eq
  intro i
  rw [Nat.testBit_xor, Nat.testBit_two_pow]
  rcases Nat.lt_trichotomy i 63 with z | z | z
  · rw [Nat.testBit_two_pow_add_gt z, decide_eq_false (by omega)]; simp
  · subst z; rw [Nat.testBit_two_pow_add_eq]; simp
  · have hp : 2 ^ 64 ≤ 2 ^ i := Nat.pow_le_pow_right (by decide) z
    rw [Nat.testBit_lt_two_pow (show x < 2 ^ i by omega), Nat.testBit_lt_two_pow (show 2 ^ 63 + x < 2 ^ i by omega), decide_eq_false (by omega)]; rfl
theorem xorS {a : Nat} (h : a < 2 ^ 64) : (lN a ^^^ (-9223372036854775808)).toInt = (a : Int) - 2 ^ 63 := by
  rw [show (-9223372036854775808 : Int64) = lN (2 ^ 63) from by decide +kernel, lN_xor]
  rcases Nat.lt_or_ge a (2 ^ 63) with z | z
  · rw [xor63 z, lN_ti (by omega), if_neg (by omega)]; omega
  · obtain ⟨x, rfl⟩ : ∃ x, a = 2 ^ 63 + x := ⟨a - 2 ^ 63, by omega⟩
    rw [← xor63 (by omega), Nat.xor_assoc, Nat.xor_self, Nat.xor_zero, lN_ti (by omega), if_pos (by omega), xor63 (by omega)]; omega
theorem ultL {a b : Nat} (ha : a < 2 ^ 64) (hb : b < 2 ^ 64) : ((lN b ^^^ (-9223372036854775808)) ≤ (lN a ^^^ (-9223372036854775808))) ↔ b ≤ a := by
  rw [Int64.le_iff_toInt_le, xorS ha, xorS hb]; omega
/-! ===== Int64 masks of n low bits ===== -/
theorem cr_bits (W U M : BitVec 64) : ((W &&& U) &&& (U &&& (M ^^^ BitVec.allOnes 64))) = 0#64 ↔ (W &&& U) &&& M = W &&& U := by
  constructor
  · intro h
    apply BitVec.eq_of_getLsbD_eq
    intro i hi
    have e := congrArg (fun x => BitVec.getLsbD x i) h
    simp only [BitVec.getLsbD_and, BitVec.getLsbD_xor, BitVec.getLsbD_allOnes, BitVec.getLsbD_zero, hi, decide_true] at e ⊢
    revert e
    cases W.getLsbD i <;> cases U.getLsbD i <;> cases M.getLsbD i <;> decide
  · intro h
    apply BitVec.eq_of_getLsbD_eq
    intro i hi
    have e := congrArg (fun x => BitVec.getLsbD x i) h
    simp only [BitVec.getLsbD_and, BitVec.getLsbD_xor, BitVec.getLsbD_allOnes, BitVec.getLsbD_zero, hi, decide_true] at e ⊢
    revert e
    cases W.getLsbD i <;> cases U.getLsbD i <;> cases M.getLsbD i <;> decide
theorem cr_mask (w U m : Int64) (n : Nat) (hm : m.toBitVec.toNat = 2 ^ n - 1) : ((w &&& U) &&& (U &&& (m ^^^ (-1)))) = 0 ↔ (w &&& U).toBitVec.toNat < 2 ^ n := by
  have e0 : (-1 : Int64).toBitVec = BitVec.allOnes 64 := by decide
  have z0 : (0 : Int64).toBitVec = 0#64 := by decide
  rw [← Int64.toBitVec_inj, z0, Int64.toBitVec_and, Int64.toBitVec_and, Int64.toBitVec_and, Int64.toBitVec_xor, e0, cr_bits]
  generalize w.toBitVec &&& U.toBitVec = T
  rw [← BitVec.toNat_inj, BitVec.toNat_and, hm, Nat.and_two_pow_sub_one_eq_mod]
  constructor
  · intro h
    have t := Nat.mod_lt T.toNat (Nat.two_pow_pos n)
    rw [h] at t
    exact t
  · exact Nat.mod_eq_of_lt
theorem cr_shr (t : Int64) (x : UInt64) (n : Nat) (hx : x.toNat % 64 = n) : (t.toUInt64 >>> x).toInt64 = 0 ↔ t.toBitVec.toNat < 2 ^ n := by
  rw [← Int64.toBitVec_inj, ← BitVec.toNat_inj]
  show (t.toUInt64 >>> x).toNat = 0 ↔ t.toUInt64.toNat < 2 ^ n
  rw [UInt64.toNat_shiftRight, hx, Nat.shiftRight_eq_div_pow]
  constructor
  · intro h
    have d : t.toUInt64.toNat / 2 ^ n < 1 := by
      rw [h]
      decide
    have e := (Nat.div_lt_iff_lt_mul (Nat.two_pow_pos n)).mp d
    rw [Nat.one_mul] at e
    exact e
  · exact Nat.div_eq_of_lt
theorem cr_amt (s : Int64) : ∃ n, n < 64 ∧ s &&& 63 = lN n ∧ (s.toUInt64 &&& Int64.toUInt64 63).toNat % 64 = n := by
  have e : (s.toUInt64 &&& Int64.toUInt64 63).toNat = s.toUInt64.toNat % 2 ^ 6 := by
    rw [UInt64.toNat_and, show (Int64.toUInt64 63).toNat = 2 ^ 6 - 1 from by decide, Nat.and_two_pow_sub_one_eq_mod]
  refine ⟨s.toUInt64.toNat % 2 ^ 6, by omega, ?_, by omega⟩
  rw [← Int64.toBitVec_inj, ← BitVec.toNat_inj]
  show (s.toUInt64 &&& Int64.toUInt64 63).toNat = (BitVec.ofNat 64 (s.toUInt64.toNat % 2 ^ 6)).toNat
  rw [e, BitVec.toNat_ofNat]
  omega
end
section
/-! lists: neighbours, groupings by a relation of neighbours, weighted occurrences -/
def rl_ch {α : Type} (S : α → α → Prop) : List α → Prop
  | [] => True
  | a :: l => (∀ b, l.head? = some b → S a b) ∧ rl_ch S l
theorem rl_ch_app {α : Type} {S : α → α → Prop} {l m : List α} : rl_ch S (l ++ m) ↔ rl_ch S l ∧ rl_ch S m ∧ (∀ a b, l.getLast? = some a → m.head? = some b → S a b) := by
  induction l with
  | nil => exact ⟨fun h => ⟨trivial, h, fun a b q => by cases q⟩, fun h => h.2.1⟩
  | cons a l ih =>
    cases l with
    | nil =>
      constructor
      · rintro ⟨h, k⟩
        exact ⟨⟨fun b hb => (by cases hb), trivial⟩, k, fun x y hx hy => by cases hx; exact h y hy⟩
      · rintro ⟨_, k, h⟩
        exact ⟨fun b hb => h a b rfl hb, k⟩
    | cons c l =>
      have e : (a :: c :: l).getLast? = (c :: l).getLast? := List.getLast?_cons_cons
      rw [e]
      constructor
      · rintro ⟨h, k⟩
        obtain ⟨k1, k2, k3⟩ := ih.mp k
        exact ⟨⟨fun b hb => h b hb, k1⟩, k2, k3⟩
      · rintro ⟨⟨h, k1⟩, k2, k3⟩
        exact ⟨fun b hb => h b hb, ih.mpr ⟨k1, k2, k3⟩⟩
theorem rl_ch_mono {α : Type} {S S' : α → α → Prop} {l : List α} (h : ∀ a b, S a b → S' a b) (k : rl_ch S l) : rl_ch S' l := by
  induction l with
  | nil => trivial
  | cons a l ih => exact ⟨fun b hb => h _ _ (k.1 b hb), ih k.2⟩
theorem rl_ch_map {α β : Type} {S : β → β → Prop} {f : α → β} {l : List α} : rl_ch S (l.map f) ↔ rl_ch (fun a b => S (f a) (f b)) l := by
  induction l with
  | nil => exact Iff.rfl
  | cons a l ih =>
    constructor
    · rintro ⟨h, k⟩
      refine ⟨fun b hb => h (f b) ?_, ih.mp k⟩
      rw [List.head?_map, hb]; rfl
    · rintro ⟨h, k⟩
      refine ⟨fun b hb => ?_, ih.mpr k⟩
      rw [List.head?_map] at hb
      cases hl : l.head? with
      | none => rw [hl] at hb; cases hb
      | some c => rw [hl] at hb; cases hb; exact h c hl
/-- no join at the border of two groups -/
def rl_nb (R : Nat → Nat → Prop) (g h : List Nat) : Prop := ∀ a b, g.getLast? = some a → h.head? = some b → ¬ R a b
def rl_gr (R : Nat → Nat → Prop) (l : List Nat) (gs : List (List Nat)) : Prop :=
  gs.flatten = l ∧ (∀ g, g ∈ gs → g ≠ [] ∧ rl_ch R g) ∧ rl_ch (rl_nb R) gs
theorem rl_snoc {α : Type} (l : List α) : l = [] ∨ ∃ m b, l = m ++ [b] := by
  rcases List.eq_nil_or_concat l with h | ⟨m, b, h⟩
  · exact Or.inl h
  · exact Or.inr ⟨m, b, by rw [h, List.concat_eq_append]⟩
theorem rl_last_ne {α : Type} {l : List α} (h : l ≠ []) : ∃ a, l.getLast? = some a := by
  rcases rl_snoc l with e | ⟨m, b, e⟩
  · exact absurd e h
  · exact ⟨b, by rw [e, List.getLast?_concat]⟩
theorem rl_head_ne {α : Type} {l : List α} (h : l ≠ []) : ∃ a, l.head? = some a := by
  cases l with
  | nil => exact absurd rfl h
  | cons a l => exact ⟨a, rfl⟩
theorem rl_last_app {α : Type} {l m : List α} (h : m ≠ []) : (l ++ m).getLast? = m.getLast? := by
  obtain ⟨a, ha⟩ := rl_last_ne h
  rw [List.getLast?_append, ha]; rfl
theorem rl_head_app {α : Type} {l m : List α} (h : l ≠ []) : (l ++ m).head? = l.head? := by
  cases l with
  | nil => exact absurd rfl h
  | cons a l => rfl
theorem rl_fl_last {gs : List (List Nat)} (h : ∀ g, g ∈ gs → g ≠ []) {a : Nat} : gs.flatten.getLast? = some a ↔ ∃ g, gs.getLast? = some g ∧ g.getLast? = some a := by
  rcases rl_snoc gs with e | ⟨m, b, e⟩
  · subst e
    exact ⟨fun q => (by cases q), fun q => by obtain ⟨g, q, _⟩ := q; cases q⟩
  · subst e
    have hb : b ≠ [] := h b (by simp)
    have e1 : (m ++ [b]).flatten = m.flatten ++ b := by simp
    rw [e1, rl_last_app hb, List.getLast?_concat]
    exact ⟨fun q => ⟨b, rfl, q⟩, fun q => by obtain ⟨g, q, r⟩ := q; cases q; exact r⟩
theorem rl_fl_head {gs : List (List Nat)} (h : ∀ g, g ∈ gs → g ≠ []) {a : Nat} : gs.flatten.head? = some a ↔ ∃ g, gs.head? = some g ∧ g.head? = some a := by
  cases gs with
  | nil => exact ⟨fun q => (by cases q), fun q => by obtain ⟨g, q, _⟩ := q; cases q⟩
  | cons b m =>
    have hb : b ≠ [] := h b (by simp)
    have e1 : (b :: m).flatten = b ++ m.flatten := by simp
    rw [e1, rl_head_app hb]
    exact ⟨fun q => ⟨b, rfl, q⟩, fun q => by obtain ⟨g, q, r⟩ := q; cases q; exact r⟩
theorem rl_gr_nil {R : Nat → Nat → Prop} : rl_gr R [] [] := ⟨rfl, fun g hg => (by cases hg), trivial⟩
theorem rl_gr_one {R : Nat → Nat → Prop} {g : List Nat} (h : g ≠ []) (k : rl_ch R g) : rl_gr R g [g] :=
  ⟨by simp, fun x hx => by rw [List.mem_singleton] at hx; subst hx; exact ⟨h, k⟩, ⟨fun b hb => (by cases hb), trivial⟩⟩
theorem rl_gr_app {R : Nat → Nat → Prop} {l m : List Nat} {gs hs : List (List Nat)} (h : rl_gr R l gs) (k : rl_gr R m hs) (q : ∀ a b, l.getLast? = some a → m.head? = some b → ¬ R a b) : rl_gr R (l ++ m) (gs ++ hs) := by
  refine ⟨by rw [List.flatten_append, h.1, k.1], fun g hg => ?_, rl_ch_app.mpr ⟨h.2.2, k.2.2, fun x y hx hy a b ha hb => q a b ?_ ?_⟩⟩
  · rcases List.mem_append.mp hg with z | z
    · exact h.2.1 g z
    · exact k.2.1 g z
  · rw [← h.1]; exact (rl_fl_last fun g hg => (h.2.1 g hg).1).mpr ⟨x, hx, ha⟩
  · rw [← k.1]; exact (rl_fl_head fun g hg => (k.2.1 g hg).1).mpr ⟨y, hy, hb⟩
theorem rl_gr_spl {R : Nat → Nat → Prop} {l : List Nat} {gs hs : List (List Nat)} (h : rl_gr R l (gs ++ hs)) : rl_gr R gs.flatten gs ∧ rl_gr R hs.flatten hs ∧ l = gs.flatten ++ hs.flatten ∧ ∀ a b, gs.flatten.getLast? = some a → hs.flatten.head? = some b → ¬ R a b := by
  obtain ⟨h1, h2, h3⟩ := h
  obtain ⟨c1, c2, c3⟩ := rl_ch_app.mp h3
  have g1 : ∀ g, g ∈ gs → g ≠ [] ∧ rl_ch R g := fun g hg => h2 g (List.mem_append.mpr (Or.inl hg))
  have g2 : ∀ g, g ∈ hs → g ≠ [] ∧ rl_ch R g := fun g hg => h2 g (List.mem_append.mpr (Or.inr hg))
  refine ⟨⟨rfl, g1, c1⟩, ⟨rfl, g2, c2⟩, by rw [← h1, List.flatten_append], fun a b ha hb => ?_⟩
  obtain ⟨x, hx, ha⟩ := (rl_fl_last fun g hg => (g1 g hg).1).mp ha
  obtain ⟨y, hy, hb⟩ := (rl_fl_head fun g hg => (g2 g hg).1).mp hb
  exact c3 x y hx hy a b ha hb
theorem rl_gr_join {R : Nat → Nat → Prop} {l : List Nat} {gs : List (List Nat)} {g m : List Nat} (h : rl_gr R l (gs ++ [g])) (hm : m ≠ []) (km : rl_ch R m) (q : ∀ a b, g.getLast? = some a → m.head? = some b → R a b) : rl_gr R (l ++ m) (gs ++ [g ++ m]) := by
  obtain ⟨h1, h2, h3⟩ := h
  obtain ⟨c1, c2, c3⟩ := rl_ch_app.mp h3
  have hg := h2 g (by simp)
  refine ⟨?_, fun x hx => ?_, rl_ch_app.mpr ⟨c1, ⟨fun b hb => (by cases hb), trivial⟩, fun x y hx hy a b ha hb => ?_⟩⟩
  · rw [← h1]; simp
  · rcases List.mem_append.mp hx with z | z
    · exact h2 x (List.mem_append.mpr (Or.inl z))
    · rw [List.mem_singleton] at z; subst z
      refine ⟨fun e => hg.1 (List.append_eq_nil_iff.mp e).1, rl_ch_app.mpr ⟨hg.2, km, q⟩⟩
  · cases hy
    rw [rl_head_app hg.1] at hb
    exact c3 x g hx rfl a b ha hb
/-- weighted sums -/
def rl_sw (w : Nat → Nat) (l : List Nat) : Nat := (l.map w).sum
theorem rl_sw_nil {w : Nat → Nat} : rl_sw w [] = 0 := rfl
theorem rl_sw_cons {w : Nat → Nat} {a : Nat} {l : List Nat} : rl_sw w (a :: l) = w a + rl_sw w l := by simp [rl_sw]
theorem rl_sw_app {w : Nat → Nat} {l m : List Nat} : rl_sw w (l ++ m) = rl_sw w l + rl_sw w m := by simp [rl_sw]
theorem rl_sw_rep {w : Nat → Nat} {a e : Nat} : rl_sw w (List.replicate e a) = e * w a := by
  induction e with
  | zero => simp [rl_sw]
  | succ e ih => rw [List.replicate_succ, rl_sw_cons, ih, Nat.succ_mul]; omega
theorem rl_sw_congr {w w' : Nat → Nat} {l : List Nat} (h : ∀ a, a ∈ l → w a = w' a) : rl_sw w l = rl_sw w' l := by
  unfold rl_sw; rw [List.map_congr_left h]
theorem rl_sw_flat {w w' : Nat → Nat} {dec : Nat → List Nat} {l : List Nat} (h : ∀ a, a ∈ l → w' a = rl_sw w (dec a)) : rl_sw w (l.map dec).flatten = rl_sw w' l := by
  induction l with
  | nil => rfl
  | cons a l ih =>
    rw [List.map_cons, List.flatten_cons, rl_sw_app, rl_sw_cons, h a (by simp), ih fun b hb => h b (by simp [hb])]
/-- the weighted places of P in a list, from left to right -/
def rl_oc (P : List Nat) (w : Nat → Nat) : List Nat → Nat → List Nat
  | [], _ => []
  | t :: T, s => (if P <+: (t :: T) then [s] else []) ++ rl_oc P w T (s + w t)
theorem rl_oc_skip {P : List Nat} {w : Nat → Nat} {p : Nat} {Q : List Nat} (hP : P = p :: Q) : ∀ (u r : List Nat) (s : Nat), (∀ x, x ∈ u → x ≠ p) → rl_oc P w (u ++ r) s = rl_oc P w r (s + rl_sw w u) := by
  intro u
  induction u with
  | nil => intro r s _; rw [rl_sw_nil]; rfl
  | cons a u ih =>
    intro r s h
    have hn : ¬ P <+: (a :: (u ++ r)) := by
      intro q
      rw [hP, List.cons_prefix_cons] at q
      exact h a (by simp) q.1.symm
    show (if P <+: (a :: (u ++ r)) then [s] else []) ++ rl_oc P w (u ++ r) (s + w a) = _
    rw [if_neg hn, ih r _ (fun x hx => h x (by simp [hx])), rl_sw_cons, List.nil_append, Nat.add_assoc]
end
section
/-! occurrences under grouping, splitting, renaming -/
/-- closed grouping: P is a head of T if and only if its letters are -/
theorem ro_pre {R : Nat → Nat → Prop} {dec : Nat → List Nat} : ∀ (P' T' : List Nat), rl_gr R (P'.map dec).flatten (P'.map dec) → rl_gr R (T'.map dec).flatten (T'.map dec) → (∀ a b, (P'.map dec).flatten.getLast? = some a → ¬ R a b) → (∀ i j, i ∈ T' → j ∈ P' → dec i = dec j → i = j) → ((P'.map dec).flatten <+: (T'.map dec).flatten ↔ P' <+: T') := by
  intro P'
  induction P' with
  | nil => intro T' _ _ _ _; simp
  | cons p P' ih =>
    intro T' hP hT cr inj
    constructor
    · intro h
      cases T' with
      | nil =>
        exfalso
        have h0 := List.prefix_nil.mp h
        have := (hP.2.1 (dec p) (by simp)).1
        rw [List.map_cons, List.flatten_cons] at h0
        exact this (List.append_eq_nil_iff.mp h0).1
      | cons t T' =>
        have hP' : rl_gr R ((p :: P').map dec).flatten ([dec p] ++ P'.map dec) := hP
        have hT' : rl_gr R ((t :: T').map dec).flatten ([dec t] ++ T'.map dec) := hT
        obtain ⟨hp1, hp2, hp3, hp4⟩ := rl_gr_spl hP'
        obtain ⟨ht1, ht2, ht3, ht4⟩ := rl_gr_spl hT'
        have np := (hP.2.1 (dec p) (by simp))
        have nt := (hT.2.1 (dec t) (by simp))
        have e1 : [dec p].flatten = dec p := by simp
        have e2 : [dec t].flatten = dec t := by simp
        rw [e1] at hp3 hp4
        rw [e2] at ht3 ht4
        rw [hp3, ht3] at h
        rw [hp3] at cr
        obtain ⟨Z, hZ⟩ := h
        rw [List.append_assoc] at hZ
        have key : dec p = dec t := by
          rcases List.append_eq_append_iff.mp hZ with ⟨as, h1, h2⟩ | ⟨bs, h1, h2⟩
          · -- dec t = dec p ++ as
            cases as with
            | nil => rw [List.append_nil] at h1; exact h1.symm
            | cons c as =>
              exfalso
              obtain ⟨a, ha⟩ := rl_last_ne np.1
              have hR : R a c := by
                have := nt.2
                rw [h1] at this
                exact (rl_ch_app.mp this).2.2 a c ha rfl
              cases hX : (P'.map dec).flatten with
              | nil =>
                rw [hX, List.append_nil] at cr
                exact cr a c ha hR
              | cons d X =>
                rw [hX, List.cons_append, List.cons_append] at h2
                have : c = d := (List.cons.inj h2).1.symm
                subst this
                exact hp4 a c ha (by rw [hX]; rfl) hR
          · -- dec p = dec t ++ bs
            cases bs with
            | nil => rw [List.append_nil] at h1; exact h1
            | cons c bs =>
              exfalso
              obtain ⟨a, ha⟩ := rl_last_ne nt.1
              have hR : R a c := by
                have := np.2
                rw [h1] at this
                exact (rl_ch_app.mp this).2.2 a c ha rfl
              have : ((T'.map dec).flatten).head? = some c := by rw [h2]; rfl
              exact ht4 a c ha this hR
        have ept : t = p := inj t p (by simp) (by simp) key.symm
        subst ept
        have hZ2 := List.append_cancel_left hZ
        have : (P'.map dec).flatten <+: (T'.map dec).flatten := ⟨Z, hZ2⟩
        rw [List.cons_prefix_cons]
        refine ⟨rfl, (ih T' hp2 ht2 (fun a b ha => ?_) (fun i j hi hj => inj i j (by simp [hi]) (by simp [hj]))).mp this⟩
        refine cr a b ?_
        have : (P'.map dec).flatten ≠ [] := by intro z; rw [z] at ha; cases ha
        rw [rl_last_app this]; exact ha
    · rintro ⟨Z, hZ⟩
      rw [← hZ, List.map_append, List.flatten_append]
      exact List.prefix_append _ _
theorem ro_in {P : List Nat} {w : Nat → Nat} {R : Nat → Nat → Prop} (hP : P ≠ []) (cl : ∀ a b, P.head? = some b → ¬ R a b) : ∀ (cs : List Nat) (c : Nat) (T : List Nat) (s : Nat), rl_ch R (c :: cs) → rl_oc P w (cs ++ T) s = rl_oc P w T (s + rl_sw w cs) := by
  intro cs
  induction cs with
  | nil => intro c T s _; rw [rl_sw_nil]; rfl
  | cons d cs ih =>
    intro c T s h
    have hn : ¬ P <+: (d :: (cs ++ T)) := by
      intro q
      cases P with
      | nil => exact hP rfl
      | cons p P =>
        rw [List.cons_prefix_cons] at q
        exact cl c d (by rw [q.1]; rfl) (h.1 d rfl)
    show (if P <+: (d :: (cs ++ T)) then [s] else []) ++ rl_oc P w (cs ++ T) (s + w d) = _
    rw [if_neg hn, ih d T _ h.2, rl_sw_cons, List.nil_append, Nat.add_assoc]
/-- occurrences under a grouping that is closed at the pattern's ends -/
theorem ro_gr {R : Nat → Nat → Prop} {dec : Nat → List Nat} {w w' : Nat → Nat} {P' : List Nat} (hP : rl_gr R (P'.map dec).flatten (P'.map dec)) (hne : P' ≠ []) (cl : ∀ a b, (P'.map dec).flatten.head? = some b → ¬ R a b) (cr : ∀ a b, (P'.map dec).flatten.getLast? = some a → ¬ R a b) : ∀ (T' : List Nat) (s : Nat), rl_gr R (T'.map dec).flatten (T'.map dec) → (∀ i j, i ∈ T' → j ∈ P' → dec i = dec j → i = j) → (∀ i, i ∈ T' → w' i = rl_sw w (dec i)) → rl_oc (P'.map dec).flatten w (T'.map dec).flatten s = rl_oc P' w' T' s := by
  have hPne : (P'.map dec).flatten ≠ [] := by
    cases P' with
    | nil => exact absurd rfl hne
    | cons p P' =>
      intro z
      rw [List.map_cons, List.flatten_cons] at z
      exact (hP.2.1 (dec p) (by simp)).1 (List.append_eq_nil_iff.mp z).1
  intro T'
  induction T' with
  | nil => intro s _ _ _; rfl
  | cons t T' ih =>
    intro s hT inj hw
    have hT' : rl_gr R ((t :: T').map dec).flatten ([dec t] ++ T'.map dec) := hT
    obtain ⟨_, ht2, _, _⟩ := rl_gr_spl hT'
    have nt := hT.2.1 (dec t) (by simp)
    have hpre := ro_pre P' (t :: T') hP hT cr inj
    show _ = (if P' <+: (t :: T') then [s] else []) ++ rl_oc P' w' T' (s + w' t)
    rw [← ih (s + w' t) ht2 (fun i j hi hj => inj i j (by simp [hi]) hj) (fun i hi => hw i (by simp [hi]))]
    rw [List.map_cons, List.flatten_cons] at hpre ⊢
    rw [hw t (by simp)]
    cases hd : dec t with
    | nil => exact absurd hd nt.1
    | cons c cs =>
      rw [hd] at hpre nt
      rw [List.cons_append] at hpre
      have hin := ro_in (w := w) hPne cl cs c (T'.map dec).flatten (s + w c) nt.2
      show (if (P'.map dec).flatten <+: (c :: (cs ++ (T'.map dec).flatten)) then [s] else []) ++ rl_oc _ w (cs ++ (T'.map dec).flatten) (s + w c) = _
      rw [hin, rl_sw_cons, Nat.add_assoc]
      congr 1
      by_cases h : P' <+: (t :: T')
      · rw [if_pos h, if_pos (hpre.mpr h)]
      · rw [if_neg h, if_neg (fun z => h (hpre.mp z))]
/-- runs of one key: a head that goes on behind the run fixes it -/
theorem ro_run {κ : Nat → Nat} {x y : Nat} {U V X Y : List Nat} (hU : ∀ z, z ∈ U → κ z = x) (hV : ∀ z, z ∈ V → κ z = y) (nU : U ≠ []) (nV : V ≠ []) (hX : X ≠ []) (kX : ∀ z, X.head? = some z → κ z ≠ x) (kY : ∀ z, Y.head? = some z → κ z ≠ y) (h : U ++ X <+: V ++ Y) : U = V ∧ X <+: Y := by
  obtain ⟨Z, hZ⟩ := h
  have hxy : x = y := by
    cases U with
    | nil => exact absurd rfl nU
    | cons u U =>
      cases V with
      | nil => exact absurd rfl nV
      | cons v V =>
        rw [List.cons_append, List.cons_append, List.cons_append] at hZ
        have : u = v := (List.cons.inj hZ).1
        rw [← hU u (by simp), ← hV v (by simp), this]
  rw [List.append_assoc] at hZ
  have key : U = V := by
    rcases List.append_eq_append_iff.mp hZ with ⟨as, h1, h2⟩ | ⟨bs, h1, h2⟩
    · cases as with
      | nil => rw [List.append_nil] at h1; exact h1.symm
      | cons c as =>
        exfalso
        cases X with
        | nil => exact hX rfl
        | cons d X =>
          have : d = c := (List.cons.inj h2).1
          subst this
          exact kX d rfl (by rw [hxy]; exact hV d (by rw [h1]; simp))
    · cases bs with
      | nil => rw [List.append_nil] at h1; exact h1
      | cons c bs =>
        exfalso
        exact kY c (by rw [h2]; rfl) (by rw [← hxy]; exact hU c (by rw [h1]; simp))
  subst key
  exact ⟨rfl, Z, List.append_cancel_left hZ⟩
/-- a block of x in the list of letters -/
theorem ro_rep_mem {e x : Nat} : ∀ z, z ∈ List.replicate e x → id z = x := fun z hz => (List.mem_replicate.mp hz).2
theorem ro_rep_ne {e x : Nat} (h : 1 ≤ e) : List.replicate e x ≠ [] := by
  cases e with
  | zero => omega
  | succ e => rw [List.replicate_succ]; exact fun z => by cases z
theorem ro_repQ {m e a x : Nat} {Q r : List Nat} (hm : 1 ≤ m) (he : 1 ≤ e) (hQ : Q ≠ []) (kQ : ∀ z, Q.head? = some z → z ≠ a) (kr : ∀ z, r.head? = some z → z ≠ x) : (List.replicate m a ++ Q <+: List.replicate e x ++ r) ↔ (x = a ∧ e = m ∧ Q <+: r) := by
  constructor
  · intro h
    obtain ⟨h1, h2⟩ := ro_run (κ := id) ro_rep_mem ro_rep_mem (ro_rep_ne hm) (ro_rep_ne he) hQ kQ kr h
    have hl : m = e := by have := congrArg List.length h1; simpa using this
    subst hl
    refine ⟨?_, rfl, h2⟩
    cases m with
    | zero => omega
    | succ m => rw [List.replicate_succ, List.replicate_succ] at h1; exact (List.cons.inj h1).1.symm
  · rintro ⟨rfl, rfl, h⟩
    exact (List.prefix_append_right_inj _).mpr h
theorem ro_blk {m a x : Nat} {w : Nat → Nat} {Q r : List Nat} (hm : 1 ≤ m) (hQ : Q ≠ []) (kQ : ∀ z, Q.head? = some z → z ≠ a) (kr : ∀ z, r.head? = some z → z ≠ x) : ∀ (e s : Nat), rl_oc (List.replicate m a ++ Q) w (List.replicate e x ++ r) s = (if x = a ∧ m ≤ e ∧ Q <+: r then [s + (e - m) * w a] else []) ++ rl_oc (List.replicate m a ++ Q) w r (s + e * w x) := by
  intro e
  induction e with
  | zero =>
    intro s
    rw [if_neg (fun z => by omega)]
    simp
  | succ e ih =>
    intro s
    have hq := ro_repQ (x := x) (r := r) hm (by omega : 1 ≤ e + 1) hQ kQ kr
    rw [List.replicate_succ, List.cons_append] at hq
    show rl_oc (List.replicate m a ++ Q) w (x :: (List.replicate e x ++ r)) s = _
    show (if List.replicate m a ++ Q <+: (x :: (List.replicate e x ++ r)) then [s] else []) ++ rl_oc _ w (List.replicate e x ++ r) (s + w x) = _
    rw [ih (s + w x)]
    have e1 : s + w x + e * w x = s + (e + 1) * w x := by rw [Nat.succ_mul]; omega
    rw [e1, ← List.append_assoc]
    congr 1
    by_cases hx : x = a ∧ Q <+: r
    · obtain ⟨hx, hr⟩ := hx
      subst hx
      rcases Nat.lt_trichotomy (e + 1) m with h | h | h
      · rw [if_neg (fun z => by have := (hq.mp z).2.1; omega), if_neg (fun z => by omega), if_neg (fun z => by omega)]; rfl
      · rw [if_pos (hq.mpr ⟨rfl, h, hr⟩), if_neg (fun z => by omega), if_pos ⟨rfl, by omega, hr⟩]
        have : e + 1 - m = 0 := by omega
        rw [this]; simp
      · rw [if_neg (fun z => by have := (hq.mp z).2.1; omega), if_pos ⟨rfl, by omega, hr⟩, if_pos ⟨rfl, by omega, hr⟩]
        have : e + 1 - m = (e - m) + 1 := by omega
        rw [this, Nat.succ_mul, List.nil_append]
        congr 1; omega
    · rw [if_neg (fun z => hx ⟨(hq.mp z).1, (hq.mp z).2.2⟩), if_neg (fun z => hx ⟨z.1, z.2.2⟩), if_neg (fun z => hx ⟨z.1, z.2.2⟩)]; rfl
end
section
/-! occurrences under the split of blocks; the last block; renaming; the first list -/
def ro_dec (ka kb : Nat → Nat) (t : Nat) : List Nat := List.replicate (kb t) (ka t)
/-- what the split of a block must be -/
def ro_rs (ok : Nat → Prop) (ka kb κ χ : Nat → Nat) (S : Nat → List Nat) (a m b n H Tl : Nat) (w w2 : Nat → Nat) : Prop :=
  (∀ t, ok t → 1 ≤ kb t) ∧ (∀ t, ok t → S t ≠ []) ∧ (∀ t, ok t → ∀ z, z ∈ S t → κ z = ka t) ∧ (∀ t, ok t → rl_sw χ (S t) = kb t) ∧
  (∀ t, ok t → ((S t).head? = some Tl ↔ ka t = b ∧ n ≤ kb t)) ∧
  (∀ t, ok t → ka t = a → m ≤ kb t → ∃ u, S t = u ++ [H] ∧ (∀ x, x ∈ u → x ≠ H) ∧ rl_sw w2 u = (kb t - m) * w a) ∧
  (∀ t, ok t → ¬ (ka t = a ∧ m ≤ kb t) → ∀ x, x ∈ S t → x ≠ H) ∧ (∀ t, ok t → rl_sw w2 (S t) = kb t * w (ka t)) ∧
  (∀ s t, ok s → ok t → ka s = ka t → kb s = kb t → s = t) ∧ κ Tl = b ∧ 1 ≤ m ∧ 1 ≤ n
theorem ro_dec_ne {ok : Nat → Prop} {ka kb : Nat → Nat} (h : ∀ t, ok t → 1 ≤ kb t) {l : List Nat} (hl : ∀ t, t ∈ l → ok t) : ∀ g, g ∈ l.map (ro_dec ka kb) → g ≠ [] := by
  intro g hg
  obtain ⟨t, ht, e⟩ := List.mem_map.mp hg
  rw [← e]
  exact ro_rep_ne (h t (hl t ht))
theorem ro_dec_head {ok : Nat → Prop} {ka kb : Nat → Nat} (h : ∀ t, ok t → 1 ≤ kb t) {l : List Nat} (hl : ∀ t, t ∈ l → ok t) {z : Nat} (hz : (l.map (ro_dec ka kb)).flatten.head? = some z) : ∃ t, l.head? = some t ∧ z = ka t := by
  cases l with
  | nil => cases hz
  | cons t l =>
    have h1 : ro_dec ka kb t ≠ [] := ro_rep_ne (h t (hl t (by simp)))
    rw [List.map_cons, List.flatten_cons, rl_head_app h1] at hz
    refine ⟨t, rfl, ?_⟩
    have h2 := h t (hl t (by simp))
    unfold ro_dec at hz
    cases hk : kb t with
    | zero => omega
    | succ e => rw [hk, List.replicate_succ] at hz; cases hz; rfl
theorem ro_c1 {ok : Nat → Prop} {ka kb : Nat → Nat} {b n : Nat} (hk : ∀ t, ok t → 1 ≤ kb t) (hi : ∀ s t, ok s → ok t → ka s = ka t → kb s = kb t → s = t) (hn : 1 ≤ n) : ∀ (M TB : List Nat), (∀ t, t ∈ M → ok t) → (∀ t, t ∈ TB → ok t) → rl_ch (fun s t => ka s ≠ ka t) TB → rl_ch (fun s t => ka s ≠ ka t) M → (∀ z, M.getLast? = some z → ka z ≠ b) → ((M.map (ro_dec ka kb)).flatten ++ List.replicate n b <+: (TB.map (ro_dec ka kb)).flatten ↔ ∃ t R2, TB = M ++ t :: R2 ∧ ka t = b ∧ n ≤ kb t) := by
  intro M
  induction M with
  | nil =>
    intro TB _ hT cT _ _
    rw [List.map_nil, List.flatten_nil, List.nil_append]
    cases TB with
    | nil =>
      constructor
      · intro h
        exact absurd (List.prefix_nil.mp h) (ro_rep_ne hn)
      · rintro ⟨t, R2, h, _⟩
        cases h
    | cons t TB =>
      rw [List.map_cons, List.flatten_cons]
      constructor
      · intro h
        refine ⟨t, TB, rfl, ?_⟩
        have hkt := hk t (hT t (by simp))
        have e1 : ka t = b := by
          unfold ro_dec at h
          cases hkk : kb t with
          | zero => omega
          | succ e =>
            cases n with
            | zero => omega
            | succ n => rw [hkk, List.replicate_succ, List.replicate_succ, List.cons_append, List.cons_prefix_cons] at h; exact h.1.symm
        refine ⟨e1, ?_⟩
        rcases Nat.lt_or_ge (kb t) n with hlt | hge
        · exfalso
          have en : List.replicate n b = List.replicate (kb t) b ++ List.replicate (n - kb t) b := by
            rw [List.replicate_append_replicate]; congr 1; omega
          rw [en] at h
          unfold ro_dec at h
          rw [e1, List.prefix_append_right_inj] at h
          have hne : List.replicate (n - kb t) b ≠ [] := ro_rep_ne (by omega)
          obtain ⟨Z, hZ⟩ := h
          have hh : (TB.map (fun t => List.replicate (kb t) (ka t))).flatten.head? = some b := by
            rw [← hZ, rl_head_app hne]
            obtain ⟨q, hq⟩ : ∃ q, n - kb t = q + 1 := ⟨n - kb t - 1, by omega⟩
            rw [hq, List.replicate_succ]; rfl
          obtain ⟨t', h1, h2⟩ := ro_dec_head (ok := ok) hk (fun x hx => hT x (by simp [hx])) hh
          exact cT.1 t' h1 (by rw [e1, h2])
        · exact hge
      · rintro ⟨t', R2, h, h1, h2⟩
        cases h
        have en : ro_dec ka kb t = List.replicate n b ++ List.replicate (kb t - n) b := by
          unfold ro_dec
          rw [List.replicate_append_replicate, h1]; congr 1; omega
        rw [en, List.append_assoc]
        exact List.prefix_append _ _
  | cons p M ih =>
    intro TB hM hT cT cM hl
    rw [List.map_cons, List.flatten_cons, List.append_assoc]
    cases TB with
    | nil =>
      constructor
      · intro h
        have h0 := List.append_eq_nil_iff.mp (List.prefix_nil.mp h)
        exact absurd h0.1 (ro_rep_ne (hk p (hM p (by simp))))
      · rintro ⟨t, R2, h, _⟩
        cases h
    | cons t TB =>
      rw [List.map_cons, List.flatten_cons]
      have hQ : (M.map (ro_dec ka kb)).flatten ++ List.replicate n b ≠ [] := fun z => ro_rep_ne hn (List.append_eq_nil_iff.mp z).2
      have kQ : ∀ z, ((M.map (ro_dec ka kb)).flatten ++ List.replicate n b).head? = some z → z ≠ ka p := by
        intro z hz
        cases M with
        | nil =>
          obtain ⟨q, hq⟩ : ∃ q, n = q + 1 := ⟨n - 1, by omega⟩
          rw [hq, List.replicate_succ] at hz
          cases hz
          exact fun e => hl p rfl e.symm
        | cons p' M =>
          have h1 : ((p' :: M).map (ro_dec ka kb)).flatten ≠ [] := by
            rw [List.map_cons, List.flatten_cons]
            exact fun z => ro_rep_ne (hk p' (hM p' (by simp))) (List.append_eq_nil_iff.mp z).1
          rw [rl_head_app h1] at hz
          obtain ⟨t', h2, h3⟩ := ro_dec_head (ok := ok) hk (fun x hx => hM x (by simp at hx ⊢; rcases hx with hx | hx <;> simp [hx])) hz
          have := cM.1 t' h2
          rw [h3]; exact fun e => this e.symm
      have kr : ∀ z, (TB.map (ro_dec ka kb)).flatten.head? = some z → z ≠ ka t := by
        intro z hz
        obtain ⟨t', h2, h3⟩ := ro_dec_head (ok := ok) hk (fun x hx => hT x (by simp [hx])) hz
        have := cT.1 t' h2
        rw [h3]; exact fun e => this e.symm
      have hm := ro_repQ (hk p (hM p (by simp))) (hk t (hT t (by simp))) hQ kQ kr
      have hih := ih TB (fun x hx => hM x (by simp [hx])) (fun x hx => hT x (by simp [hx])) cT.2 cM.2 (fun z hz => hl z (by
        cases M with
        | nil => cases hz
        | cons c M => rw [List.getLast?_cons_cons]; exact hz))
      show (List.replicate (kb p) (ka p) ++ _ <+: List.replicate (kb t) (ka t) ++ _) ↔ _
      rw [hm, hih]
      constructor
      · rintro ⟨h1, h2, t', R2, h3, h4⟩
        have : t = p := hi t p (hT t (by simp)) (hM p (by simp)) h1 h2
        exact ⟨t', R2, by rw [this, h3]; rfl, h4⟩
      · rintro ⟨t', R2, h3, h4⟩
        rw [List.cons_append] at h3
        obtain ⟨h5, h6⟩ := List.cons.inj h3
        rw [h5]
        exact ⟨rfl, rfl, t', R2, h6, h4⟩
theorem ro_S_head {ok : Nat → Prop} {ka : Nat → Nat} {κ : Nat → Nat} {S : Nat → List Nat} (h1 : ∀ t, ok t → S t ≠ []) (h2 : ∀ t, ok t → ∀ z, z ∈ S t → κ z = ka t) {l : List Nat} (hl : ∀ t, t ∈ l → ok t) {z : Nat} (hz : (l.map S).flatten.head? = some z) : ∃ t, l.head? = some t ∧ κ z = ka t := by
  cases l with
  | nil => cases hz
  | cons t l =>
    rw [List.map_cons, List.flatten_cons, rl_head_app (h1 t (hl t (by simp)))] at hz
    exact ⟨t, rfl, h2 t (hl t (by simp)) z (List.mem_of_mem_head? hz)⟩
theorem ro_c2 {ok : Nat → Prop} {ka kb κ χ : Nat → Nat} {S : Nat → List Nat} {a m b n H Tl : Nat} {w w2 : Nat → Nat} (hr : ro_rs ok ka kb κ χ S a m b n H Tl w w2) : ∀ (M TB : List Nat), (∀ t, t ∈ M → ok t) → (∀ t, t ∈ TB → ok t) → rl_ch (fun s t => ka s ≠ ka t) TB → rl_ch (fun s t => ka s ≠ ka t) M → (∀ z, M.getLast? = some z → ka z ≠ b) → ((M.map S).flatten ++ [Tl] <+: (TB.map S).flatten ↔ ∃ t R2, TB = M ++ t :: R2 ∧ ka t = b ∧ n ≤ kb t) := by
  obtain ⟨r1, r2, r3, r4, r5, r6, r7, r8, r9, r10, r11, r12⟩ := hr
  intro M
  induction M with
  | nil =>
    intro TB _ hT cT _ _
    rw [List.map_nil, List.flatten_nil, List.nil_append]
    cases TB with
    | nil =>
      constructor
      · intro h
        have := List.prefix_nil.mp h
        cases this
      · rintro ⟨t, R2, h, _⟩
        cases h
    | cons t TB =>
      rw [List.map_cons, List.flatten_cons]
      have ok1 := hT t (by simp)
      have e5 := r5 t ok1
      constructor
      · rintro ⟨Z, hZ⟩
        refine ⟨t, TB, rfl, e5.mp ?_⟩
        have := congrArg List.head? hZ
        rw [rl_head_app (r2 t ok1)] at this
        rw [← this]; rfl
      · rintro ⟨t', R2, h, h1⟩
        cases h
        have := e5.mpr h1
        cases hS : S t with
        | nil => rw [hS] at this; cases this
        | cons c cs =>
          rw [hS] at this; cases this
          rw [List.cons_append]
          exact ⟨cs ++ (TB.map S).flatten, rfl⟩
  | cons p M ih =>
    intro TB hM hT cT cM hl
    rw [List.map_cons, List.flatten_cons, List.append_assoc]
    have okp := hM p (by simp)
    cases TB with
    | nil =>
      constructor
      · intro h
        have h0 := List.append_eq_nil_iff.mp (List.prefix_nil.mp h)
        exact absurd h0.1 (r2 p okp)
      · rintro ⟨t, R2, h, _⟩
        cases h
    | cons t TB =>
      have okt := hT t (by simp)
      rw [List.map_cons, List.flatten_cons]
      have hih := ih TB (fun x hx => hM x (by simp [hx])) (fun x hx => hT x (by simp [hx])) cT.2 cM.2 (fun z hz => hl z (by
        cases M with
        | nil => cases hz
        | cons c M => rw [List.getLast?_cons_cons]; exact hz))
      constructor
      · intro h
        have hX : (M.map S).flatten ++ [Tl] ≠ [] := fun z => by
          have := (List.append_eq_nil_iff.mp z).2
          cases this
        have kX : ∀ z, ((M.map S).flatten ++ [Tl]).head? = some z → κ z ≠ ka p := by
          intro z hz
          cases M with
          | nil => cases hz; rw [r10]; exact fun e => hl p rfl e.symm
          | cons p' M =>
            have h1 : ((p' :: M).map S).flatten ≠ [] := by
              rw [List.map_cons, List.flatten_cons]
              exact fun z => r2 p' (hM p' (by simp)) (List.append_eq_nil_iff.mp z).1
            rw [rl_head_app h1] at hz
            obtain ⟨t', h2, h3⟩ := ro_S_head (ok := ok) r2 r3 (fun x hx => hM x (by simp at hx ⊢; rcases hx with hx | hx <;> simp [hx])) hz
            have := cM.1 t' h2
            rw [h3]; exact fun e => this e.symm
        have kY : ∀ z, (TB.map S).flatten.head? = some z → κ z ≠ ka t := by
          intro z hz
          obtain ⟨t', h2, h3⟩ := ro_S_head (ok := ok) r2 r3 (fun x hx => hT x (by simp [hx])) hz
          have := cT.1 t' h2
          rw [h3]; exact fun e => this e.symm
        obtain ⟨e1, e2⟩ := ro_run (κ := κ) (r3 p okp) (r3 t okt) (r2 p okp) (r2 t okt) hX kX kY h
        have ekb : kb p = kb t := by rw [← r4 p okp, ← r4 t okt, e1]
        have eka : ka p = ka t := by
          obtain ⟨c, hc⟩ := rl_head_ne (r2 p okp)
          have m1 := List.mem_of_mem_head? hc
          rw [← r3 p okp c m1]
          rw [e1] at m1
          exact r3 t okt c m1
        have : p = t := r9 p t okp okt eka ekb
        subst this
        obtain ⟨t', R2, h3, h4⟩ := hih.mp e2
        exact ⟨t', R2, by rw [h3]; rfl, h4⟩
      · rintro ⟨t', R2, h3, h4⟩
        rw [List.cons_append] at h3
        obtain ⟨h5, h6⟩ := List.cons.inj h3
        rw [h5]
        exact (List.prefix_append_right_inj _).mpr (hih.mpr ⟨t', R2, h6, h4⟩)
end
section
theorem ro_split {ok : Nat → Prop} {ka kb κ χ : Nat → Nat} {S : Nat → List Nat} {a m b n H Tl : Nat} {w w2 : Nat → Nat} (hr : ro_rs ok ka kb κ χ S a m b n H Tl w w2) {M : List Nat} (hM : ∀ t, t ∈ M → ok t) (cM : rl_ch (fun s t => ka s ≠ ka t) M) (hl : ∀ z, M.getLast? = some z → ka z ≠ b) (hf : ∀ z, M.head? = some z → ka z ≠ a) (hab : M = [] → a ≠ b) : ∀ (TB : List Nat) (s : Nat), (∀ t, t ∈ TB → ok t) → rl_ch (fun s t => ka s ≠ ka t) TB → rl_oc (List.replicate m a ++ ((M.map (ro_dec ka kb)).flatten ++ List.replicate n b)) w (TB.map (ro_dec ka kb)).flatten s = rl_oc (H :: ((M.map S).flatten ++ [Tl])) w2 (TB.map S).flatten s := by
  obtain ⟨r1, r2, r3, r4, r5, r6, r7, r8, r9, r10, r11, r12⟩ := id hr
  have hQ : (M.map (ro_dec ka kb)).flatten ++ List.replicate n b ≠ [] := fun z => ro_rep_ne r12 (List.append_eq_nil_iff.mp z).2
  have kQ : ∀ z, ((M.map (ro_dec ka kb)).flatten ++ List.replicate n b).head? = some z → z ≠ a := by
    intro z hz
    cases M with
    | nil =>
      obtain ⟨q, hq⟩ : ∃ q, n = q + 1 := ⟨n - 1, by omega⟩
      rw [hq, List.replicate_succ] at hz
      cases hz
      exact fun e => hab rfl e.symm
    | cons p' M =>
      have h1 : ((p' :: M).map (ro_dec ka kb)).flatten ≠ [] := by
        rw [List.map_cons, List.flatten_cons]
        exact fun z => ro_rep_ne (r1 p' (hM p' (by simp))) (List.append_eq_nil_iff.mp z).1
      rw [rl_head_app h1] at hz
      obtain ⟨t', h2, h3⟩ := ro_dec_head (ok := ok) r1 hM hz
      rw [h3]; exact hf t' h2
  intro TB
  induction TB with
  | nil => intro s _ _; rfl
  | cons t TB ih =>
    intro s hT cT
    have okt := hT t (by simp)
    have hT' : ∀ x, x ∈ TB → ok x := fun x hx => hT x (by simp [hx])
    have c1 := ro_c1 (b := b) (n := n) r1 r9 r12 M TB hM hT' cT.2 cM hl
    have c2 := ro_c2 hr M TB hM hT' cT.2 cM hl
    have kr : ∀ z, (TB.map (ro_dec ka kb)).flatten.head? = some z → z ≠ ka t := by
      intro z hz
      obtain ⟨t', h2, h3⟩ := ro_dec_head (ok := ok) r1 hT' hz
      have := cT.1 t' h2
      rw [h3]; exact fun e => this e.symm
    rw [List.map_cons, List.flatten_cons, List.map_cons, List.flatten_cons]
    have hb := ro_blk (w := w) r11 hQ kQ kr (kb t) s
    have e0 : ro_dec ka kb t = List.replicate (kb t) (ka t) := rfl
    rw [e0, hb, ih (s + kb t * w (ka t)) hT' cT.2]
    by_cases hc : ka t = a ∧ m ≤ kb t
    · obtain ⟨u, hu1, hu2, hu3⟩ := r6 t okt hc.1 hc.2
      have h8 := r8 t okt
      rw [hu1, rl_sw_app, hu3] at h8
      rw [hu1, List.append_assoc, rl_oc_skip rfl u _ s hu2, hu3]
      show _ = (if H :: ((M.map S).flatten ++ [Tl]) <+: (H :: (TB.map S).flatten) then [s + (kb t - m) * w a] else []) ++ rl_oc _ w2 (TB.map S).flatten (s + (kb t - m) * w a + w2 H)
      have e1 : s + (kb t - m) * w a + w2 H = s + kb t * w (ka t) := by
        rw [← h8, rl_sw_cons, rl_sw_nil]; omega
      rw [e1]
      congr 1
      by_cases hq : (M.map (ro_dec ka kb)).flatten ++ List.replicate n b <+: (TB.map (ro_dec ka kb)).flatten
      · rw [if_pos ⟨hc.1, hc.2, hq⟩, if_pos (List.cons_prefix_cons.mpr ⟨rfl, c2.mpr (c1.mp hq)⟩)]
      · rw [if_neg (fun z => hq z.2.2), if_neg (fun z => hq (c1.mpr (c2.mp (List.cons_prefix_cons.mp z).2)))]
    · rw [if_neg (fun z => hc ⟨z.1, z.2.1⟩), List.nil_append, rl_oc_skip rfl (S t) _ s (r7 t okt hc), r8 t okt]
/-- the last list: the pattern is one block -/
def ro_fin (ka kb w : Nat → Nat) (a m : Nat) : List Nat → Nat → List Nat
  | [], _ => []
  | t :: TB, s => (if ka t = a ∧ m ≤ kb t then (List.range (kb t - m + 1)).map (fun j => s + j * w a) else []) ++ ro_fin ka kb w a m TB (s + kb t * w (ka t))
theorem ro_repN {m e a x : Nat} {r : List Nat} (hm : 1 ≤ m) (he : 1 ≤ e) (kr : ∀ z, r.head? = some z → z ≠ x) : (List.replicate m a <+: List.replicate e x ++ r) ↔ (x = a ∧ m ≤ e) := by
  constructor
  · intro h
    have e1 : x = a := by
      cases e with
      | zero => omega
      | succ e =>
        cases m with
        | zero => omega
        | succ m => rw [List.replicate_succ, List.replicate_succ, List.cons_append, List.cons_prefix_cons] at h; exact h.1.symm
    subst e1
    refine ⟨rfl, ?_⟩
    rcases Nat.lt_or_ge e m with hlt | hge
    · exfalso
      have en : List.replicate m x = List.replicate e x ++ List.replicate (m - e) x := by
        rw [List.replicate_append_replicate]; congr 1; omega
      rw [en, List.prefix_append_right_inj] at h
      have hne : List.replicate (m - e) x ≠ [] := ro_rep_ne (by omega)
      obtain ⟨Z, hZ⟩ := h
      refine kr x ?_ rfl
      rw [← hZ, rl_head_app hne]
      obtain ⟨q, hq⟩ : ∃ q, m - e = q + 1 := ⟨m - e - 1, by omega⟩
      rw [hq, List.replicate_succ]; rfl
    · exact hge
  · rintro ⟨rfl, h⟩
    have en : List.replicate e x = List.replicate m x ++ List.replicate (e - m) x := by
      rw [List.replicate_append_replicate]; congr 1; omega
    rw [en, List.append_assoc]
    exact List.prefix_append _ _
theorem ro_fin1 {m a x : Nat} {w : Nat → Nat} {r : List Nat} (hm : 1 ≤ m) (kr : ∀ z, r.head? = some z → z ≠ x) : ∀ (e s : Nat), rl_oc (List.replicate m a) w (List.replicate e x ++ r) s = (if x = a ∧ m ≤ e then (List.range (e - m + 1)).map (fun j => s + j * w a) else []) ++ rl_oc (List.replicate m a) w r (s + e * w x) := by
  intro e
  induction e with
  | zero =>
    intro s
    rw [if_neg (fun z => by omega)]
    simp
  | succ e ih =>
    intro s
    have hq := ro_repN (a := a) hm (by omega : 1 ≤ e + 1) kr
    rw [List.replicate_succ, List.cons_append] at hq
    show (if List.replicate m a <+: (x :: (List.replicate e x ++ r)) then [s] else []) ++ rl_oc _ w (List.replicate e x ++ r) (s + w x) = _
    rw [ih (s + w x)]
    have e1 : s + w x + e * w x = s + (e + 1) * w x := by rw [Nat.succ_mul]; omega
    rw [e1, ← List.append_assoc]
    congr 1
    by_cases hx : x = a ∧ m ≤ e + 1
    · obtain ⟨hx, hr⟩ := hx
      subst hx
      rw [if_pos (hq.mpr ⟨rfl, hr⟩), if_pos (c := x = x ∧ m ≤ e + 1) ⟨rfl, hr⟩]
      rcases Nat.lt_or_ge e m with h | h
      · rw [if_neg (c := x = x ∧ m ≤ e) (fun z => by omega)]
        have : e + 1 - m = 0 := by omega
        rw [this]; simp
      · rw [if_pos (c := x = x ∧ m ≤ e) ⟨rfl, h⟩]
        have : e + 1 - m + 1 = (e - m + 1) + 1 := by omega
        rw [this, List.range_succ_eq_map (n := e - m + 1), List.map_cons, List.map_map]
        rw [List.singleton_append]
        congr 1
        · simp
        · refine List.map_congr_left (fun j _ => ?_)
          show s + w x + j * w x = s + (j + 1) * w x
          rw [Nat.succ_mul]; omega
    · rw [if_neg (fun z => hx (hq.mp z)), if_neg (fun z => hx ⟨z.1, by omega⟩), if_neg hx]; rfl
theorem ro_fin_eq {ok : Nat → Prop} {ka kb w : Nat → Nat} {a m : Nat} (hk : ∀ t, ok t → 1 ≤ kb t) (hm : 1 ≤ m) : ∀ (TB : List Nat) (s : Nat), (∀ t, t ∈ TB → ok t) → rl_ch (fun s t => ka s ≠ ka t) TB → rl_oc (List.replicate m a) w (TB.map (ro_dec ka kb)).flatten s = ro_fin ka kb w a m TB s := by
  intro TB
  induction TB with
  | nil => intro s _ _; rfl
  | cons t TB ih =>
    intro s hT cT
    have hT' : ∀ x, x ∈ TB → ok x := fun x hx => hT x (by simp [hx])
    have kr : ∀ z, (TB.map (ro_dec ka kb)).flatten.head? = some z → z ≠ ka t := by
      intro z hz
      obtain ⟨t', h2, h3⟩ := ro_dec_head (ok := ok) hk hT' hz
      have := cT.1 t' h2
      rw [h3]; exact fun e => this e.symm
    rw [List.map_cons, List.flatten_cons]
    show rl_oc _ w (List.replicate (kb t) (ka t) ++ _) s = _
    rw [ro_fin1 hm kr (kb t) s, ih _ hT' cT.2]
    rfl
theorem ro_fin_app {ka kb w : Nat → Nat} {a m : Nat} : ∀ (u v : List Nat) (s : Nat), ro_fin ka kb w a m (u ++ v) s = ro_fin ka kb w a m u s ++ ro_fin ka kb w a m v (s + rl_sw (fun t => kb t * w (ka t)) u) := by
  intro u
  induction u with
  | nil => intro v s; rw [rl_sw_nil]; rfl
  | cons t u ih =>
    intro v s
    show _ ++ ro_fin ka kb w a m (u ++ v) _ = (_ ++ ro_fin ka kb w a m u _) ++ _
    rw [ih, List.append_assoc, rl_sw_cons, Nat.add_assoc]
/-- renaming -/
theorem ro_map_pre {ρ : Nat → Nat} : ∀ (P T : List Nat), (∀ i j, i ∈ T → j ∈ P → ρ i = ρ j → i = j) → (P.map ρ <+: T.map ρ ↔ P <+: T) := by
  intro P
  induction P with
  | nil => intro T _; simp
  | cons p P ih =>
    intro T inj
    cases T with
    | nil => simp
    | cons t T =>
      rw [List.map_cons, List.map_cons, List.cons_prefix_cons, List.cons_prefix_cons, ih T (fun i j hi hj => inj i j (by simp [hi]) (by simp [hj]))]
      constructor
      · rintro ⟨h1, h2⟩
        exact ⟨(inj t p (by simp) (by simp) h1.symm).symm, h2⟩
      · rintro ⟨h1, h2⟩
        exact ⟨by rw [h1], h2⟩
theorem ro_map {ρ : Nat → Nat} {w w' : Nat → Nat} {P : List Nat} : ∀ (T : List Nat) (s : Nat), (∀ i j, i ∈ T → j ∈ P → ρ i = ρ j → i = j) → (∀ i, i ∈ T → w' (ρ i) = w i) → rl_oc (P.map ρ) w' (T.map ρ) s = rl_oc P w T s := by
  intro T
  induction T with
  | nil => intro s _ _; rfl
  | cons t T ih =>
    intro s inj hw
    have hp := ro_map_pre P (t :: T) inj
    rw [List.map_cons] at hp
    show (if P.map ρ <+: (ρ t :: T.map ρ) then [s] else []) ++ rl_oc (P.map ρ) w' (T.map ρ) (s + w' (ρ t)) = (if P <+: (t :: T) then [s] else []) ++ rl_oc P w T (s + w t)
    rw [hw t (by simp), ih _ (fun i j hi hj => inj i j (by simp [hi]) hj) (fun i hi => hw i (by simp [hi]))]
    congr 1
    by_cases h : P <+: (t :: T)
    · rw [if_pos h, if_pos (hp.mpr h)]
    · rw [if_neg h, if_neg (fun z => h (hp.mp z))]
/-- the places as a filtered range -/
def ro_L0 (P T : List Nat) : List Nat := (List.range T.length).filter (fun p => decide (P <+: T.drop p))
theorem ro_L0_eq {P : List Nat} : ∀ (T : List Nat) (s : Nat), rl_oc P (fun _ => 1) T s = (ro_L0 P T).map (fun p => s + p) := by
  intro T
  induction T with
  | nil => intro s; rfl
  | cons t T ih =>
    intro s
    show (if P <+: (t :: T) then [s] else []) ++ rl_oc P (fun _ => 1) T (s + 1) = _
    rw [ih]
    unfold ro_L0
    rw [List.length_cons, List.range_succ_eq_map, List.filter_cons, List.filter_map]
    have e1 : (List.map (fun p => s + 1 + p) (List.filter (fun p => decide (P <+: T.drop p)) (List.range T.length))) = List.map (fun p => s + p) (List.map Nat.succ (List.filter ((fun p => decide (P <+: (t :: T).drop p)) ∘ Nat.succ) (List.range T.length))) := by
      rw [List.map_map]
      refine List.map_congr_left (fun j _ => ?_)
      show s + 1 + j = s + (j + 1)
      omega
    rw [e1]
    by_cases h : P <+: (t :: T)
    · rw [if_pos h, if_pos (by simpa using h)]; simp
    · rw [if_neg h, if_neg (by simpa using h)]; simp
end
section
/-! cells of 16 bits in longs -/
def rc_c (a : Nat → Int64) (k : Nat) : Nat := (a (k / 4)).toBitVec.toNat / 2 ^ (16 * (k % 4)) % 65536
theorem rc_lt (a : Nat → Int64) (k : Nat) : rc_c a k < 65536 := Nat.mod_lt _ (by decide)
theorem rc_ix {k : Nat} (h : k < 1024) : (nI k >>> ((2 : Int32) &&& 31)) &&& 255 = nI (k / 4) := by
  rw [pk_shrN (by omega) _ 2 (by decide), pk_andN (by omega) 8 (by decide)]
  congr 1; omega
theorem rc_sh (k : Nat) (h : k < 1024) : (nI k &&& 3) <<< ((4 : Int32) &&& 31) = nI (16 * (k % 4)) := by
  rw [pk_andN (by omega) 2 (by decide), pk_shlN _ 4 (by decide) (by omega)]
  congr 1; omega
theorem rc_rd (x : Int64) {s : Nat} (hs : s < 64) : ((x.toUInt64 >>> ((nI s).toInt64.toUInt64 &&& Int64.toUInt64 63)).toInt64).toInt32 &&& 65535 = nI (x.toBitVec.toNat / 2 ^ s % 65536) := by
  obtain ⟨n, hn, rfl⟩ := wb_of x
  rw [wb_shr hn hs, lN_i, nx_mod, wb_tn hn]
theorem rc_bit {x a i : Nat} : (x / 2 ^ a % 65536).testBit i = (decide (i < 16) && x.testBit (a + i)) := by
  have : (65536 : Nat) = 2 ^ 16 := by decide
  rw [this, Nat.testBit_mod_two_pow, Nat.testBit_div_two_pow]
  congr 2; omega
theorem rc_new (W : Int64) {q c : Nat} (hq : q < 4) (hc : c < 65536) {j : Nat} (hj : j < 64) : ((W &&& (((65535 : Int64) <<< ((nI (16 * q)).toInt64 &&& 63)) ^^^ (-1))) ||| ((nI c).toInt64 <<< ((nI (16 * q)).toInt64 &&& 63))).toBitVec.toNat.testBit j = if 16 * q ≤ j ∧ j < 16 * q + 16 then c.testBit (j - 16 * q) else W.toBitVec.toNat.testBit j := by
  have h1 : (65535 : Int64) = lN (2 ^ 16 - 1) := by decide +kernel
  have h2 : (-1 : Int64).toBitVec = BitVec.allOnes 64 := by decide +kernel
  rw [h1, wb_shl _ (by omega), nI_l (by omega), wb_shl _ (by omega), BitVec.testBit_toNat, Int64.toBitVec_or, Int64.toBitVec_and, Int64.toBitVec_xor, h2, wb_tb, wb_tb, BitVec.getLsbD_or, BitVec.getLsbD_and, BitVec.getLsbD_xor, BitVec.getLsbD_ofNat, BitVec.getLsbD_ofNat, BitVec.getLsbD_allOnes, Nat.testBit_mul_two_pow, Nat.testBit_mul_two_pow, Nat.testBit_two_pow_sub_one, ← BitVec.testBit_toNat]
  have dj : decide (j < 64) = true := by simpa using hj
  rw [dj]
  by_cases h : 16 * q ≤ j
  · by_cases h' : j < 16 * q + 16
    · rw [if_pos ⟨h, h'⟩]
      have d1 : decide (j - 16 * q < 16) = true := by simp; omega
      have d2 : decide (16 * q ≤ j) = true := by simpa using h
      simp [d1, d2, h]
    · rw [if_neg (fun z => h' z.2)]
      have d1 : decide (j - 16 * q < 16) = false := by simp; omega
      have d3 : c.testBit (j - 16 * q) = false := Nat.testBit_lt_two_pow (Nat.lt_of_lt_of_le hc (Nat.pow_le_pow_right (n := 2) (by decide) (by omega : 16 ≤ j - 16 * q)))
      simp [d1, d3]
  · rw [if_neg (fun z => h z.1)]
    simp [h]
def rc_pu (a : Nat → Int64) (k c : Nat) : Nat → Int64 := vp_updL a (k / 4) ((a (k / 4) &&& (((65535 : Int64) <<< ((nI (16 * (k % 4))).toInt64 &&& 63)) ^^^ (-1))) ||| ((nI c).toInt64 <<< ((nI (16 * (k % 4))).toInt64 &&& 63)))
theorem rc_pu_s (a : Nat → Int64) {k c : Nat} (hc : c < 65536) : rc_c (rc_pu a k c) k = c := by
  unfold rc_c rc_pu
  rw [pk_uLs]
  apply Nat.eq_of_testBit_eq
  intro i
  rw [rc_bit]
  by_cases h : i < 16
  · have d : decide (i < 16) = true := by simpa using h
    rw [d, Bool.true_and, rc_new _ (by omega) hc (by omega), if_pos (by omega)]
    congr 1; omega
  · have d : decide (i < 16) = false := by simpa using h
    rw [d, Bool.false_and]
    exact (Nat.testBit_lt_two_pow (Nat.lt_of_lt_of_le hc (Nat.pow_le_pow_right (n := 2) (by decide) (by omega : 16 ≤ i)))).symm
theorem rc_pu_n (a : Nat → Int64) {k c j : Nat} (hc : c < 65536) (hj : j ≠ k) : rc_c (rc_pu a k c) j = rc_c a j := by
  unfold rc_c rc_pu
  by_cases h4 : j / 4 = k / 4
  · rw [h4, pk_uLs]
    apply Nat.eq_of_testBit_eq
    intro i
    rw [rc_bit, rc_bit]
    by_cases h : i < 16
    · rw [rc_new _ (by omega) hc (by omega), if_neg (by omega)]
    · have d : decide (i < 16) = false := by simpa using h
      rw [d, Bool.false_and, Bool.false_and]
  · rw [pk_uLn h4]
/-- the cells from i below j -/
def rc_sg (a : Nat → Int64) (i j : Nat) : List Nat := (List.range (j - i)).map (fun t => rc_c a (i + t))
theorem rc_sg_nil {a : Nat → Int64} {i j : Nat} (h : j ≤ i) : rc_sg a i j = [] := by
  unfold rc_sg
  have : j - i = 0 := by omega
  rw [this]; rfl
theorem rc_sg_snoc {a : Nat → Int64} {i j : Nat} (h : i ≤ j) : rc_sg a i (j + 1) = rc_sg a i j ++ [rc_c a j] := by
  unfold rc_sg
  have e : j + 1 - i = (j - i) + 1 := by omega
  rw [e, List.range_succ, List.map_append]
  have e2 : i + (j - i) = j := by omega
  simp [e2]
theorem rc_sg_cons {a : Nat → Int64} {i j : Nat} (h : i < j) : rc_sg a i j = rc_c a i :: rc_sg a (i + 1) j := by
  unfold rc_sg
  have e : j - i = (j - (i + 1)) + 1 := by omega
  rw [e, List.range_succ_eq_map, List.map_cons, List.map_map]
  congr 1
  refine List.map_congr_left (fun t _ => ?_)
  show rc_c a (i + (t + 1)) = rc_c a (i + 1 + t)
  congr 1; omega
theorem rc_sg_congr {a a' : Nat → Int64} {i j : Nat} (h : ∀ k, i ≤ k → k < j → rc_c a k = rc_c a' k) : rc_sg a i j = rc_sg a' i j := by
  unfold rc_sg
  refine List.map_congr_left (fun t ht => h _ (by omega) ?_)
  rw [List.mem_range] at ht
  omega
theorem rc_sg_len {a : Nat → Int64} {i j : Nat} : (rc_sg a i j).length = j - i := by
  unfold rc_sg; simp
theorem rc_sg_mem {a : Nat → Int64} {i j c : Nat} (h : c ∈ rc_sg a i j) : ∃ k, i ≤ k ∧ k < j ∧ c = rc_c a k := by
  unfold rc_sg at h
  obtain ⟨t, ht, e⟩ := List.mem_map.mp h
  rw [List.mem_range] at ht
  exact ⟨i + t, by omega, by omega, e.symm⟩
theorem rc_sg_in {a : Nat → Int64} {i j k : Nat} (h : i ≤ k) (h' : k < j) : rc_c a k ∈ rc_sg a i j := by
  unfold rc_sg
  exact List.mem_map.mpr ⟨k - i, List.mem_range.mpr (by omega), by congr 1; omega⟩
theorem rc_sg_shift {a a' : Nat → Int64} {i j i' j' : Nat} (e : j - i = j' - i') (h : ∀ t, t < j - i → rc_c a (i + t) = rc_c a' (i' + t)) : rc_sg a i j = rc_sg a' i' j' := by
  unfold rc_sg
  rw [← e]
  refine List.map_congr_left (fun t ht => h t ?_)
  rw [List.mem_range] at ht
  omega
section
variable {f_maxRules f_maxLength f_letters f_ref f_room f_out f_head f_rootP f_rootT f_broken f_inLeft f_inRight f_size f_fresh f_blocking f_headBase f_headExp f_headMark f_tailBase f_tailExp f_tailCut f_tailMark : Int32} {a_used a_kinds a_partA a_partB a_lens a_begin a_popL a_popR a_need a_keyA a_keyB a_weight a_part a_remap a_hits a_span : Nat → Int32} {a_cur a_next : Nat → Int64}
theorem rx_get {post : Int32 → Prop} {k : Nat} (hk : k < 1024) (h : post (nI (rc_c a_cur k))) : wpX_get post (f_maxRules, f_maxLength, f_letters, f_ref, f_room, f_out, f_head, f_rootP, f_rootT, f_broken, f_inLeft, f_inRight, f_size, f_fresh, f_blocking, f_headBase, f_headExp, f_headMark, f_tailBase, f_tailExp, f_tailCut, f_tailMark, a_used, a_kinds, a_partA, a_partB, a_lens, a_cur, a_next, a_begin, a_popL, a_popR, a_need, a_keyA, a_keyB, a_weight, a_part, a_remap, a_hits, a_span) (nI k) := by
  unfold wpX_get
  dsimp only
  rw [rc_ix hk, rc_sh k hk, nI_clamp (by omega), rc_rd _ (by omega)]
  exact ⟨vp_in_nI (by omega) (by omega), h⟩
theorem rx_peek {post : Int32 → Prop} {k : Nat} (hk : k < 1024) (h : post (nI (rc_c a_next k))) : wpX_peek post (f_maxRules, f_maxLength, f_letters, f_ref, f_room, f_out, f_head, f_rootP, f_rootT, f_broken, f_inLeft, f_inRight, f_size, f_fresh, f_blocking, f_headBase, f_headExp, f_headMark, f_tailBase, f_tailExp, f_tailCut, f_tailMark, a_used, a_kinds, a_partA, a_partB, a_lens, a_cur, a_next, a_begin, a_popL, a_popR, a_need, a_keyA, a_keyB, a_weight, a_part, a_remap, a_hits, a_span) (nI k) := by
  unfold wpX_peek
  dsimp only
  rw [rc_ix hk, rc_sh k hk, nI_clamp (by omega), rc_rd _ (by omega)]
  exact ⟨vp_in_nI (by omega) (by omega), h⟩
theorem rx_put {post : SX → Prop} {k c : Nat} (hk : k < 1024) (h : post (f_maxRules, f_maxLength, f_letters, f_ref, f_room, f_out, f_head, f_rootP, f_rootT, f_broken, f_inLeft, f_inRight, f_size, f_fresh, f_blocking, f_headBase, f_headExp, f_headMark, f_tailBase, f_tailExp, f_tailCut, f_tailMark, a_used, a_kinds, a_partA, a_partB, a_lens, a_cur, rc_pu a_next k c, a_begin, a_popL, a_popR, a_need, a_keyA, a_keyB, a_weight, a_part, a_remap, a_hits, a_span)) : wpX_put post (f_maxRules, f_maxLength, f_letters, f_ref, f_room, f_out, f_head, f_rootP, f_rootT, f_broken, f_inLeft, f_inRight, f_size, f_fresh, f_blocking, f_headBase, f_headExp, f_headMark, f_tailBase, f_tailExp, f_tailCut, f_tailMark, a_used, a_kinds, a_partA, a_partB, a_lens, a_cur, a_next, a_begin, a_popL, a_popR, a_need, a_keyA, a_keyB, a_weight, a_part, a_remap, a_hits, a_span) (nI k) (nI c) := by
  unfold wpX_put
  refine nm_r (rc_ix hk) (nm_r (rc_sh k hk) ?_)
  have hi : vp_in (nI (k / 4)) 256 := vp_in_nI (by omega) (by omega)
  refine ⟨hi, hi, nm_r (e' := rc_pu a_next k c) ?_ h⟩
  rw [nI_clamp (by omega)]
  rfl
theorem rx_append {post : SX → Prop} {o c : Nat} (ho : o ≤ 1024) (h1 : o < 1024 → post (f_maxRules, f_maxLength, f_letters, f_ref, f_room, nI (o + 1), f_head, f_rootP, f_rootT, f_broken, f_inLeft, f_inRight, f_size, f_fresh, f_blocking, f_headBase, f_headExp, f_headMark, f_tailBase, f_tailExp, f_tailCut, f_tailMark, a_used, a_kinds, a_partA, a_partB, a_lens, a_cur, rc_pu a_next o c, a_begin, a_popL, a_popR, a_need, a_keyA, a_keyB, a_weight, a_part, a_remap, a_hits, a_span)) (h2 : post (f_maxRules, f_maxLength, f_letters, f_ref, f_room, nI o, f_head, f_rootP, f_rootT, 1, f_inLeft, f_inRight, f_size, f_fresh, f_blocking, f_headBase, f_headExp, f_headMark, f_tailBase, f_tailExp, f_tailCut, f_tailMark, a_used, a_kinds, a_partA, a_partB, a_lens, a_cur, a_next, a_begin, a_popL, a_popR, a_need, a_keyA, a_keyB, a_weight, a_part, a_remap, a_hits, a_span)) : wpX_append post (f_maxRules, f_maxLength, f_letters, f_ref, f_room, nI o, f_head, f_rootP, f_rootT, f_broken, f_inLeft, f_inRight, f_size, f_fresh, f_blocking, f_headBase, f_headExp, f_headMark, f_tailBase, f_tailExp, f_tailCut, f_tailMark, a_used, a_kinds, a_partA, a_partB, a_lens, a_cur, a_next, a_begin, a_popL, a_popR, a_need, a_keyA, a_keyB, a_weight, a_part, a_remap, a_hits, a_span) (nI c) := by
  unfold wpX_append
  refine pk_lt o 1024 (fun h => ?_) (fun h => h2)
  refine rx_put h ?_
  exact nm_r (nI_1 o) (h1 h)
end
end
section
/-! create, intern, join, commit -/
def rj_b (bl : Bool) : Int32 := if bl then 1 else 0
def rj_ok (bl : Bool) (kA pt : Nat → Int32) (a b : Nat) : Prop := (bl = true → kA a = kA b) ∧ (bl = false → pt a = 1 ∧ pt b = 2)
def rj_x (bl : Bool) (kA : Nat → Int32) (a : Nat) : Int32 := if bl then kA a else nI a
def rj_y (bl : Bool) (kB : Nat → Int32) (a b : Nat) : Int32 := if bl then kB a + kB b else nI b
section
variable {f_maxRules f_maxLength f_letters f_ref f_room f_out f_head f_rootP f_rootT f_broken f_inLeft f_inRight f_size f_fresh f_blocking f_headBase f_headExp f_headMark f_tailBase f_tailExp f_tailCut f_tailMark : Int32} {a_used a_kinds a_partA a_partB a_lens a_begin a_popL a_popR a_need a_keyA a_keyB a_weight a_part a_remap a_hits a_span : Nat → Int32} {a_cur a_next : Nat → Int64}
theorem rx_create {post : Int32 → SX → Prop} {n : Nat} {x y z : Int32} (hn : n ≤ 256) (h1 : n < 256 → post (nI n) (f_maxRules, f_maxLength, f_letters, f_ref, f_room, f_out, f_head, f_rootP, f_rootT, f_broken, f_inLeft, f_inRight, nI (n + 1), f_fresh, f_blocking, f_headBase, f_headExp, f_headMark, f_tailBase, f_tailExp, f_tailCut, f_tailMark, a_used, a_kinds, a_partA, a_partB, a_lens, a_cur, a_next, a_begin, a_popL, a_popR, a_need, upd a_keyA n x, upd a_keyB n y, upd a_weight n z, upd a_part n 0, a_remap, a_hits, a_span)) (h2 : post 0 (f_maxRules, f_maxLength, f_letters, f_ref, f_room, f_out, f_head, f_rootP, f_rootT, 1, f_inLeft, f_inRight, nI n, f_fresh, f_blocking, f_headBase, f_headExp, f_headMark, f_tailBase, f_tailExp, f_tailCut, f_tailMark, a_used, a_kinds, a_partA, a_partB, a_lens, a_cur, a_next, a_begin, a_popL, a_popR, a_need, a_keyA, a_keyB, a_weight, a_part, a_remap, a_hits, a_span)) : wpX_create post (f_maxRules, f_maxLength, f_letters, f_ref, f_room, f_out, f_head, f_rootP, f_rootT, f_broken, f_inLeft, f_inRight, nI n, f_fresh, f_blocking, f_headBase, f_headExp, f_headMark, f_tailBase, f_tailExp, f_tailCut, f_tailMark, a_used, a_kinds, a_partA, a_partB, a_lens, a_cur, a_next, a_begin, a_popL, a_popR, a_need, a_keyA, a_keyB, a_weight, a_part, a_remap, a_hits, a_span) x y z := by
  unfold wpX_create
  dsimp only
  refine pk_lt n 256 (fun h => ?_) (fun h => h2)
  have hi : vp_in (nI n) 256 := vp_in_nI h (by omega)
  rw [nI_clamp (by omega)]
  refine ⟨hi, nm_e ⟨hi, nm_e ⟨hi, nm_e ⟨hi, nm_e (nm_r (nI_1 n) ?_)⟩⟩⟩⟩
  rw [nI_pred]
  exact h1 h
theorem rx_intern_6 {post : Int32 → SX → Prop} {n fr : Nat} {x y z : Int32} (hn : n ≤ 256) (hF : ∀ id, fr ≤ id → id < n → a_keyA id = x → a_keyB id = y → post (nI id) (f_maxRules, f_maxLength, f_letters, f_ref, f_room, f_out, f_head, f_rootP, f_rootT, f_broken, f_inLeft, f_inRight, nI n, f_fresh, f_blocking, f_headBase, f_headExp, f_headMark, f_tailBase, f_tailExp, f_tailCut, f_tailMark, a_used, a_kinds, a_partA, a_partB, a_lens, a_cur, a_next, a_begin, a_popL, a_popR, a_need, a_keyA, a_keyB, a_weight, a_part, a_remap, a_hits, a_span)) (hC : (∀ id, fr ≤ id → id < n → ¬ (a_keyA id = x ∧ a_keyB id = y)) → n < 256 → post (nI n) (f_maxRules, f_maxLength, f_letters, f_ref, f_room, f_out, f_head, f_rootP, f_rootT, f_broken, f_inLeft, f_inRight, nI (n + 1), f_fresh, f_blocking, f_headBase, f_headExp, f_headMark, f_tailBase, f_tailExp, f_tailCut, f_tailMark, a_used, a_kinds, a_partA, a_partB, a_lens, a_cur, a_next, a_begin, a_popL, a_popR, a_need, upd a_keyA n x, upd a_keyB n y, upd a_weight n z, upd a_part n 0, a_remap, a_hits, a_span)) (hB : post 0 (f_maxRules, f_maxLength, f_letters, f_ref, f_room, f_out, f_head, f_rootP, f_rootT, 1, f_inLeft, f_inRight, nI n, f_fresh, f_blocking, f_headBase, f_headExp, f_headMark, f_tailBase, f_tailExp, f_tailCut, f_tailMark, a_used, a_kinds, a_partA, a_partB, a_lens, a_cur, a_next, a_begin, a_popL, a_popR, a_need, a_keyA, a_keyB, a_weight, a_part, a_remap, a_hits, a_span)) : ∀ d i, i + d = n → fr ≤ i → (∀ id, fr ≤ id → id < i → ¬ (a_keyA id = x ∧ a_keyB id = y)) → wX_intern_6 post x y z f_maxRules f_maxLength f_letters f_ref f_room f_out f_head f_rootP f_rootT f_broken f_inLeft f_inRight (nI n) f_fresh f_blocking f_headBase f_headExp f_headMark f_tailBase f_tailExp f_tailCut f_tailMark a_used a_kinds a_partA a_partB a_lens a_cur a_next a_begin a_popL a_popR a_need a_keyA a_keyB a_weight a_part a_remap a_hits a_span (d + 1) (nI i) := by
  intro d
  induction d with
  | zero =>
    intro i hi hf hno
    refine pk_le n i (fun _ => ?_) (fun h => by omega)
    refine rx_create hn (fun h => hC (fun id h1 h2 => hno id h1 (by omega)) h) hB
  | succ d ih =>
    intro i hi hf hno
    refine pk_le n i (fun h => by omega) (fun _ => ?_)
    have hv : vp_in (nI i) 256 := vp_in_nI (by omega) (by omega)
    rw [nI_clamp (by omega)]
    have hnext : ∀ h : ¬ (a_keyA i = x ∧ a_keyB i = y), ∀ q, q = nI i + 1 → wX_intern_6 post x y z f_maxRules f_maxLength f_letters f_ref f_room f_out f_head f_rootP f_rootT f_broken f_inLeft f_inRight (nI n) f_fresh f_blocking f_headBase f_headExp f_headMark f_tailBase f_tailExp f_tailCut f_tailMark a_used a_kinds a_partA a_partB a_lens a_cur a_next a_begin a_popL a_popR a_need a_keyA a_keyB a_weight a_part a_remap a_hits a_span (d + 1) q := by
      intro h
      refine nm_r (nI_1 i) (ih (i + 1) (by omega) (by omega) (fun id h1 h2 => ?_))
      rcases Nat.lt_or_ge id i with h3 | h3
      · exact hno id h1 h3
      · have : id = i := by omega
        subst this; exact h
    refine ⟨hv, br_c (fun e1 => ⟨hv, br_c (fun e2 => hF i hf (by omega) e1 e2) (fun e2 => hnext fun z => e2 z.2)⟩) (fun e1 => hnext fun z => e1 z.1)⟩
theorem rx_intern {post : Int32 → SX → Prop} {n fr : Nat} {x y z : Int32} (hn : n ≤ 256) (hfr : fr ≤ n) (hF : ∀ id, fr ≤ id → id < n → a_keyA id = x → a_keyB id = y → post (nI id) (f_maxRules, f_maxLength, f_letters, f_ref, f_room, f_out, f_head, f_rootP, f_rootT, f_broken, f_inLeft, f_inRight, nI n, nI fr, f_blocking, f_headBase, f_headExp, f_headMark, f_tailBase, f_tailExp, f_tailCut, f_tailMark, a_used, a_kinds, a_partA, a_partB, a_lens, a_cur, a_next, a_begin, a_popL, a_popR, a_need, a_keyA, a_keyB, a_weight, a_part, a_remap, a_hits, a_span)) (hC : (∀ id, fr ≤ id → id < n → ¬ (a_keyA id = x ∧ a_keyB id = y)) → n < 256 → post (nI n) (f_maxRules, f_maxLength, f_letters, f_ref, f_room, f_out, f_head, f_rootP, f_rootT, f_broken, f_inLeft, f_inRight, nI (n + 1), nI fr, f_blocking, f_headBase, f_headExp, f_headMark, f_tailBase, f_tailExp, f_tailCut, f_tailMark, a_used, a_kinds, a_partA, a_partB, a_lens, a_cur, a_next, a_begin, a_popL, a_popR, a_need, upd a_keyA n x, upd a_keyB n y, upd a_weight n z, upd a_part n 0, a_remap, a_hits, a_span)) (hB : post 0 (f_maxRules, f_maxLength, f_letters, f_ref, f_room, f_out, f_head, f_rootP, f_rootT, 1, f_inLeft, f_inRight, nI n, nI fr, f_blocking, f_headBase, f_headExp, f_headMark, f_tailBase, f_tailExp, f_tailCut, f_tailMark, a_used, a_kinds, a_partA, a_partB, a_lens, a_cur, a_next, a_begin, a_popL, a_popR, a_need, a_keyA, a_keyB, a_weight, a_part, a_remap, a_hits, a_span)) : wpX_intern post (f_maxRules, f_maxLength, f_letters, f_ref, f_room, f_out, f_head, f_rootP, f_rootT, f_broken, f_inLeft, f_inRight, nI n, nI fr, f_blocking, f_headBase, f_headExp, f_headMark, f_tailBase, f_tailExp, f_tailCut, f_tailMark, a_used, a_kinds, a_partA, a_partB, a_lens, a_cur, a_next, a_begin, a_popL, a_popR, a_need, a_keyA, a_keyB, a_weight, a_part, a_remap, a_hits, a_span) x y z :=
  ⟨n - fr + 1, rx_intern_6 hn hF hC hB (n - fr) fr (by omega) (Nat.le_refl _) (fun id h1 h2 => by omega)⟩
theorem rx_join {post : Int32 → SX → Prop} {bl : Bool} {n fr a b : Nat} (hn : n ≤ 256) (hfr : fr ≤ n) (ha : a < 256) (hb : b < 256) (hN : ¬ rj_ok bl a_keyA a_part a b → post (-1) (f_maxRules, f_maxLength, f_letters, f_ref, f_room, f_out, f_head, f_rootP, f_rootT, f_broken, f_inLeft, f_inRight, nI n, nI fr, rj_b bl, f_headBase, f_headExp, f_headMark, f_tailBase, f_tailExp, f_tailCut, f_tailMark, a_used, a_kinds, a_partA, a_partB, a_lens, a_cur, a_next, a_begin, a_popL, a_popR, a_need, a_keyA, a_keyB, a_weight, a_part, a_remap, a_hits, a_span)) (hF : rj_ok bl a_keyA a_part a b → ∀ id, fr ≤ id → id < n → a_keyA id = rj_x bl a_keyA a → a_keyB id = rj_y bl a_keyB a b → post (nI id) (f_maxRules, f_maxLength, f_letters, f_ref, f_room, f_out, f_head, f_rootP, f_rootT, f_broken, f_inLeft, f_inRight, nI n, nI fr, rj_b bl, f_headBase, f_headExp, f_headMark, f_tailBase, f_tailExp, f_tailCut, f_tailMark, a_used, a_kinds, a_partA, a_partB, a_lens, a_cur, a_next, a_begin, a_popL, a_popR, a_need, a_keyA, a_keyB, a_weight, a_part, a_remap, a_hits, a_span)) (hC : rj_ok bl a_keyA a_part a b → (∀ id, fr ≤ id → id < n → ¬ (a_keyA id = rj_x bl a_keyA a ∧ a_keyB id = rj_y bl a_keyB a b)) → n < 256 → post (nI n) (f_maxRules, f_maxLength, f_letters, f_ref, f_room, f_out, f_head, f_rootP, f_rootT, f_broken, f_inLeft, f_inRight, nI (n + 1), nI fr, rj_b bl, f_headBase, f_headExp, f_headMark, f_tailBase, f_tailExp, f_tailCut, f_tailMark, a_used, a_kinds, a_partA, a_partB, a_lens, a_cur, a_next, a_begin, a_popL, a_popR, a_need, upd a_keyA n (rj_x bl a_keyA a), upd a_keyB n (rj_y bl a_keyB a b), upd a_weight n (a_weight a + a_weight b), upd a_part n 0, a_remap, a_hits, a_span)) (hB : post 0 (f_maxRules, f_maxLength, f_letters, f_ref, f_room, f_out, f_head, f_rootP, f_rootT, 1, f_inLeft, f_inRight, nI n, nI fr, rj_b bl, f_headBase, f_headExp, f_headMark, f_tailBase, f_tailExp, f_tailCut, f_tailMark, a_used, a_kinds, a_partA, a_partB, a_lens, a_cur, a_next, a_begin, a_popL, a_popR, a_need, a_keyA, a_keyB, a_weight, a_part, a_remap, a_hits, a_span)) : wpX_join post (f_maxRules, f_maxLength, f_letters, f_ref, f_room, f_out, f_head, f_rootP, f_rootT, f_broken, f_inLeft, f_inRight, nI n, nI fr, rj_b bl, f_headBase, f_headExp, f_headMark, f_tailBase, f_tailExp, f_tailCut, f_tailMark, a_used, a_kinds, a_partA, a_partB, a_lens, a_cur, a_next, a_begin, a_popL, a_popR, a_need, a_keyA, a_keyB, a_weight, a_part, a_remap, a_hits, a_span) (nI a) (nI b) := by
  unfold wpX_join
  dsimp only
  have va : vp_in (nI a) 256 := vp_in_nI ha (by omega)
  have vb : vp_in (nI b) 256 := vp_in_nI hb (by omega)
  rw [nI_clamp (n := a) (by omega), nI_clamp (n := b) (by omega)]
  refine ⟨va, vb, nm_e ?_⟩
  cases bl with
  | false =>
    refine br_t rfl ⟨va, br_c (fun e1 => ⟨vb, br_c (fun e2 => ?_) (fun e2 => hN fun z => e2 (z.2 rfl).2)⟩) (fun e1 => hN fun z => e1 (z.2 rfl).1)⟩
    have ok : rj_ok false a_keyA a_part a b := ⟨fun z => (by cases z), fun _ => ⟨e1, e2⟩⟩
    exact rx_intern hn hfr (hF ok) (hC ok) hB
  | true =>
    refine br_f (by decide) ⟨va, vb, br_c (fun e1 => ⟨va, va, vb, ?_⟩) (fun e1 => hN fun z => e1 (z.1 rfl))⟩
    have ok : rj_ok true a_keyA a_part a b := ⟨fun _ => e1, fun z => by cases z⟩
    exact rx_intern hn hfr (hF ok) (hC ok) hB
theorem rx_commit_2 {post : SX → Prop} (h : ∀ cur' : Nat → Int64, (∀ j, j < 256 → cur' j = a_next j) → post (f_maxRules, f_maxLength, f_letters, f_ref, f_room, f_out, f_head, f_rootP, f_rootT, f_broken, f_inLeft, f_inRight, f_size, f_fresh, f_blocking, f_headBase, f_headExp, f_headMark, f_tailBase, f_tailExp, f_tailCut, f_tailMark, a_used, a_kinds, a_partA, a_partB, a_lens, cur', a_next, a_begin, a_popL, a_popR, a_need, a_keyA, a_keyB, a_weight, a_part, a_remap, a_hits, a_span)) : ∀ d i (cur' : Nat → Int64), i + d = 256 → (∀ j, j < i → cur' j = a_next j) → wX_commit_2 post f_maxRules f_maxLength f_letters f_ref f_room f_out f_head f_rootP f_rootT f_broken f_inLeft f_inRight f_size f_fresh f_blocking f_headBase f_headExp f_headMark f_tailBase f_tailExp f_tailCut f_tailMark (d + 1) (nI i) a_used a_kinds a_partA a_partB a_lens cur' a_next a_begin a_popL a_popR a_need a_keyA a_keyB a_weight a_part a_remap a_hits a_span := by
  intro d
  induction d with
  | zero =>
    intro i cur' hi hc
    exact pk_le 256 i (fun _ => h cur' (fun j hj => hc j (by omega))) (fun z => by omega)
  | succ d ih =>
    intro i cur' hi hc
    refine pk_le 256 i (fun z => by omega) (fun _ => ?_)
    have hv : vp_in (nI i) 256 := vp_in_nI (by omega) (by omega)
    rw [nI_clamp (by omega)]
    refine ⟨hv, hv, nm_e (nm_r (nI_1 i) (ih (i + 1) _ (by omega) (fun j hj => ?_)))⟩
    by_cases e : j = i
    · subst e; rw [pk_uLs]
    · rw [pk_uLn e]; exact hc j (by omega)
theorem rx_commit {post : SX → Prop} (h : ∀ cur' : Nat → Int64, (∀ k, k < 1024 → rc_c cur' k = rc_c a_next k) → post (f_maxRules, f_maxLength, f_letters, f_ref, f_room, f_out, f_head, f_rootP, f_rootT, f_broken, f_inLeft, f_inRight, f_size, f_fresh, f_blocking, f_headBase, f_headExp, f_headMark, f_tailBase, f_tailExp, f_tailCut, f_tailMark, a_used, a_kinds, a_partA, a_partB, a_lens, cur', a_next, a_begin, a_popL, a_popR, a_need, a_keyA, a_keyB, a_weight, a_part, a_remap, a_hits, a_span)) : wpX_commit post (f_maxRules, f_maxLength, f_letters, f_ref, f_room, f_out, f_head, f_rootP, f_rootT, f_broken, f_inLeft, f_inRight, f_size, f_fresh, f_blocking, f_headBase, f_headExp, f_headMark, f_tailBase, f_tailExp, f_tailCut, f_tailMark, a_used, a_kinds, a_partA, a_partB, a_lens, a_cur, a_next, a_begin, a_popL, a_popR, a_need, a_keyA, a_keyB, a_weight, a_part, a_remap, a_hits, a_span) := by
  refine ⟨257, ?_⟩
  have h' : ∀ cur' : Nat → Int64, (∀ j, j < 256 → cur' j = a_next j) → post (f_maxRules, f_maxLength, f_letters, f_ref, f_room, f_out, f_head, f_rootP, f_rootT, f_broken, f_inLeft, f_inRight, f_size, f_fresh, f_blocking, f_headBase, f_headExp, f_headMark, f_tailBase, f_tailExp, f_tailCut, f_tailMark, a_used, a_kinds, a_partA, a_partB, a_lens, cur', a_next, a_begin, a_popL, a_popR, a_need, a_keyA, a_keyB, a_weight, a_part, a_remap, a_hits, a_span) := by
    intro cur' hc
    refine h cur' (fun k hk => ?_)
    unfold rc_c
    rw [hc (k / 4) (by omega)]
  exact rx_commit_2 h' 256 0 a_cur (by omega) (fun j hj => by omega)
end
end
section
/-! the table of letters in a sweep: what a letter stands for, and when two are joined -/
def rs_R (bl : Bool) (pt0 : Nat → Int32) (a b : Nat) : Prop := (bl = true → a = b) ∧ (bl = false → pt0 a = 1 ∧ pt0 b = 2)
def rs_dec (bl : Bool) (fr : Nat) (kA kB : Nat → Int32) (i : Nat) : List Nat :=
  if bl = true then List.replicate (kB i).toNatClampNeg (kA i).toNatClampNeg else if i < fr then [i] else [(kA i).toNatClampNeg, (kB i).toNatClampNeg]
def rs_TB (bl : Bool) (fr n0 : Nat) (pt0 : Nat → Int32) (wt : Nat → Nat) (n : Nat) (kA kB w pt : Nat → Int32) : Prop :=
  n0 ≤ n ∧ n ≤ 256 ∧ (bl = false → fr = n0) ∧ (bl = true → fr = 0) ∧
  (∀ i, i < n0 → rs_dec bl fr kA kB i = [i]) ∧
  (∀ i, i < n → rs_dec bl fr kA kB i ≠ [] ∧ rl_ch (rs_R bl pt0) (rs_dec bl fr kA kB i) ∧ ∀ c, c ∈ rs_dec bl fr kA kB i → c < n0) ∧
  (∀ i, i < n → w i = nI (rl_sw wt (rs_dec bl fr kA kB i))) ∧
  (∀ i j, i < n → j < n → rs_dec bl fr kA kB i = rs_dec bl fr kA kB j → i = j) ∧
  (bl = true → ∀ i, i < n → ∃ a e, kA i = nI a ∧ kB i = nI e ∧ a < n0 ∧ 1 ≤ e ∧ e ≤ 2 ^ 20) ∧
  (bl = false → ∀ i, i < n → (i < n0 → pt i = pt0 i) ∧ (n0 ≤ i → pt i = 0 ∧ ∃ a b, kA i = nI a ∧ kB i = nI b ∧ a < n0 ∧ b < n0 ∧ pt0 a = 1 ∧ pt0 b = 2))
theorem rs_decB {fr : Nat} {kA kB : Nat → Int32} {i a e : Nat} (h1 : kA i = nI a) (h2 : kB i = nI e) (ha : a < 2 ^ 31) (he : e < 2 ^ 31) : rs_dec true fr kA kB i = List.replicate e a := by
  unfold rs_dec
  rw [if_pos rfl, h1, h2, nI_clamp ha, nI_clamp he]
theorem rs_decP {fr : Nat} {kA kB : Nat → Int32} {i a b : Nat} (hi : fr ≤ i) (h1 : kA i = nI a) (h2 : kB i = nI b) (ha : a < 2 ^ 31) (he : b < 2 ^ 31) : rs_dec false fr kA kB i = [a, b] := by
  unfold rs_dec
  rw [if_neg (by decide), if_neg (by omega), h1, h2, nI_clamp ha, nI_clamp he]
theorem rs_decP0 {fr : Nat} {kA kB : Nat → Int32} {i : Nat} (hi : i < fr) : rs_dec false fr kA kB i = [i] := by
  unfold rs_dec
  rw [if_neg (by decide), if_pos hi]
theorem rs_dec_congr {bl : Bool} {fr : Nat} {kA kB kA' kB' : Nat → Int32} {i : Nat} (h1 : kA' i = kA i) (h2 : kB' i = kB i) : rs_dec bl fr kA' kB' i = rs_dec bl fr kA kB i := by
  unfold rs_dec; rw [h1, h2]
theorem rs_last_rep {e a : Nat} (h : 1 ≤ e) : (List.replicate e a).getLast? = some a := by
  obtain ⟨q, rfl⟩ : ∃ q, e = q + 1 := ⟨e - 1, by omega⟩
  rw [List.replicate_succ', List.getLast?_concat]
theorem rs_head_rep {e a : Nat} (h : 1 ≤ e) : (List.replicate e a).head? = some a := by
  obtain ⟨q, rfl⟩ : ∃ q, e = q + 1 := ⟨e - 1, by omega⟩
  rw [List.replicate_succ]; rfl
/-- the test of join is the relation at the border -/
theorem rs_ok {bl : Bool} {fr n0 : Nat} {pt0 : Nat → Int32} {wt : Nat → Nat} {n : Nat} {kA kB w pt : Nat → Int32} (h : rs_TB bl fr n0 pt0 wt n kA kB w pt) {a b : Nat} (ha : a < n) (hb : b < n) {u v : Nat} (hu : (rs_dec bl fr kA kB a).getLast? = some u) (hv : (rs_dec bl fr kA kB b).head? = some v) : rj_ok bl kA pt a b ↔ rs_R bl pt0 u v := by
  obtain ⟨t1, t2, t3, t4, t5, t6, t7, t8, t9, t10⟩ := h
  cases bl with
  | true =>
    obtain ⟨a1, e1, h1, h2, h3, h4, h5⟩ := t9 rfl a ha
    obtain ⟨b1, e2, k1, k2, k3, k4, k5⟩ := t9 rfl b hb
    rw [rs_decB h1 h2 (by omega) (by omega), rs_last_rep h4] at hu
    rw [rs_decB k1 k2 (by omega) (by omega), rs_head_rep k4] at hv
    cases hu; cases hv
    constructor
    · rintro ⟨z, _⟩
      have := z rfl
      rw [h1, k1, nI_eq (by omega) (by omega)] at this
      exact ⟨fun _ => this, fun z => by cases z⟩
    · rintro ⟨z, _⟩
      refine ⟨fun _ => ?_, fun z => by cases z⟩
      rw [h1, k1, z rfl]
  | false =>
    have e0 := t3 rfl
    subst e0
    have L : (pt a = 1 ↔ pt0 u = 1) := by
      rcases Nat.lt_or_ge a fr with q | q
      · rw [rs_decP0 q] at hu
        have hu' : some a = some u := hu
        cases hu'
        rw [(t10 rfl a ha).1 q]
      · obtain ⟨q1, a1, b1, h1, h2, h3, h4, h5, h6⟩ := (t10 rfl a ha).2 q
        rw [rs_decP q h1 h2 (by omega) (by omega)] at hu
        have hu' : some b1 = some u := hu
        cases hu'
        rw [q1, h6]; decide
    have Rr : (pt b = 2 ↔ pt0 v = 2) := by
      rcases Nat.lt_or_ge b fr with q | q
      · rw [rs_decP0 q] at hv; cases hv
        rw [(t10 rfl b hb).1 q]
      · obtain ⟨q1, a1, b1, h1, h2, h3, h4, h5, h6⟩ := (t10 rfl b hb).2 q
        rw [rs_decP q h1 h2 (by omega) (by omega)] at hv; cases hv
        rw [q1, h5]; decide
    constructor
    · rintro ⟨_, z⟩
      exact ⟨fun z => (by cases z), fun _ => ⟨L.mp (z rfl).1, Rr.mp (z rfl).2⟩⟩
    · rintro ⟨_, z⟩
      exact ⟨fun z => (by cases z), fun _ => ⟨L.mpr (z rfl).1, Rr.mpr (z rfl).2⟩⟩
theorem rs_found {bl : Bool} {fr n0 : Nat} {pt0 : Nat → Int32} {wt : Nat → Nat} {n : Nat} {kA kB w pt : Nat → Int32} (h : rs_TB bl fr n0 pt0 wt n kA kB w pt) {a b i : Nat} (ha : a < n) (hb : b < n) (ok : rj_ok bl kA pt a b) (hl : (rs_dec bl fr kA kB a).length + (rs_dec bl fr kA kB b).length ≤ 2 ^ 20) {kA' kB' : Nat → Int32} (hi : fr ≤ i) (e1 : kA' i = rj_x bl kA a) (e2 : kB' i = rj_y bl kB a b) : rs_dec bl fr kA' kB' i = rs_dec bl fr kA kB a ++ rs_dec bl fr kA kB b := by
  obtain ⟨t1, t2, t3, t4, t5, t6, t7, t8, t9, t10⟩ := h
  cases bl with
  | true =>
    obtain ⟨a1, x1, h1, h2, h3, h4, h5⟩ := t9 rfl a ha
    obtain ⟨b1, x2, k1, k2, k3, k4, k5⟩ := t9 rfl b hb
    have eab : a1 = b1 := by
      have := ok.1 rfl
      rw [h1, k1, nI_eq (by omega) (by omega)] at this
      exact this
    subst eab
    rw [rs_decB h1 h2 (by omega) (by omega), rs_decB k1 k2 (by omega) (by omega), List.replicate_append_replicate]
    refine rs_decB (e1.trans h1) ?_ (by omega) (by omega)
    rw [e2]
    show kB a + kB b = _
    rw [h2, k2, nI_add]
  | false =>
    have e0 := t3 rfl
    subst e0
    have z := ok.2 rfl
    have qa : a < fr := by
      rcases Nat.lt_or_ge a fr with q | q
      · exact q
      · have := ((t10 rfl a ha).2 q).1
        rw [this] at z; exact absurd z.1 (by decide)
    have qb : b < fr := by
      rcases Nat.lt_or_ge b fr with q | q
      · exact q
      · have := ((t10 rfl b hb).2 q).1
        rw [this] at z; exact absurd z.2 (by decide)
    rw [rs_decP0 qa, rs_decP0 qb]
    exact rs_decP hi e1 e2 (by omega) (by omega)
theorem rs_new {bl : Bool} {fr n0 : Nat} {pt0 : Nat → Int32} {wt : Nat → Nat} {n : Nat} {kA kB w pt : Nat → Int32} (h : rs_TB bl fr n0 pt0 wt n kA kB w pt) {a b : Nat} (ha : a < n) (hb : b < n) (ok : rj_ok bl kA pt a b) (hl : (rs_dec bl fr kA kB a).length + (rs_dec bl fr kA kB b).length ≤ 2 ^ 20) (hn : n < 256) (hno : ∀ i, fr ≤ i → i < n → ¬ (kA i = rj_x bl kA a ∧ kB i = rj_y bl kB a b)) : rs_TB bl fr n0 pt0 wt (n + 1) (upd kA n (rj_x bl kA a)) (upd kB n (rj_y bl kB a b)) (upd w n (w a + w b)) (upd pt n 0) := by
  have hfr : fr ≤ n := by
    obtain ⟨t1, t2, t3, t4, _⟩ := h
    cases bl with
    | true => rw [t4 rfl]; omega
    | false => rw [t3 rfl]; exact t1
  have hd : rs_dec bl fr (upd kA n (rj_x bl kA a)) (upd kB n (rj_y bl kB a b)) n = rs_dec bl fr kA kB a ++ rs_dec bl fr kA kB b := rs_found h ha hb ok hl hfr pk_us pk_us
  have hk : ∀ i, i < n → rs_dec bl fr (upd kA n (rj_x bl kA a)) (upd kB n (rj_y bl kB a b)) i = rs_dec bl fr kA kB i := fun i hi => rs_dec_congr (pk_un (by omega)) (pk_un (by omega))
  have hok := @rs_ok bl fr n0 pt0 wt n kA kB w pt h a b ha hb
  obtain ⟨t1, t2, t3, t4, t5, t6, t7, t8, t9, t10⟩ := h
  -- a letter below n that stands for the same list would have been found
  have hne : ∀ i, i < n → rs_dec bl fr kA kB i ≠ rs_dec bl fr kA kB a ++ rs_dec bl fr kA kB b := by
    intro i hi q
    cases bl with
    | true =>
      obtain ⟨a1, x1, h1, h2, h3, h4, h5⟩ := t9 rfl a ha
      obtain ⟨b1, x2, k1, k2, k3, k4, k5⟩ := t9 rfl b hb
      obtain ⟨c1, x3, l1, l2, l3, l4, l5⟩ := t9 rfl i hi
      have eab : a1 = b1 := by
        have := ok.1 rfl
        rw [h1, k1, nI_eq (by omega) (by omega)] at this
        exact this
      subst eab
      rw [rs_decB h1 h2 (by omega) (by omega), rs_decB k1 k2 (by omega) (by omega), rs_decB l1 l2 (by omega) (by omega), List.replicate_append_replicate] at q
      have ql := congrArg List.length q
      rw [List.length_replicate, List.length_replicate] at ql
      have qh := congrArg List.head? q
      rw [rs_head_rep l4, rs_head_rep (by omega)] at qh
      cases qh
      refine hno i (by rw [t4 rfl]; omega) hi ⟨l1.trans h1.symm, ?_⟩
      show kB i = kB a + kB b
      rw [l2, h2, k2, nI_add, ql]
    | false =>
      have e0 := t3 rfl
      subst e0
      have z := ok.2 rfl
      have qa : a < fr := by
        rcases Nat.lt_or_ge a fr with q | q
        · exact q
        · have := ((t10 rfl a ha).2 q).1
          rw [this] at z; exact absurd z.1 (by decide)
      have qb : b < fr := by
        rcases Nat.lt_or_ge b fr with q | q
        · exact q
        · have := ((t10 rfl b hb).2 q).1
          rw [this] at z; exact absurd z.2 (by decide)
      rw [rs_decP0 qa, rs_decP0 qb] at q
      rcases Nat.lt_or_ge i fr with qi | qi
      · rw [rs_decP0 qi] at q
        have := congrArg List.length q
        simp at this
      · obtain ⟨q1, c1, d1, l1, l2, l3, l4, l5, l6⟩ := (t10 rfl i hi).2 qi
        rw [rs_decP qi l1 l2 (by omega) (by omega)] at q
        obtain ⟨qq1, qq2⟩ := List.cons.inj q
        obtain ⟨qq3, _⟩ := List.cons.inj qq2
        subst qq1; subst qq3
        exact hno i qi hi ⟨l1, l2⟩
  refine ⟨by omega, by omega, t3, t4, fun i hi => ?_, fun i hi => ?_, fun i hi => ?_, fun i j hi hj q => ?_, fun hbl i hi => ?_, fun hbl i hi => ?_⟩
  · rw [hk i (by omega)]; exact t5 i hi
  · rcases Nat.lt_or_ge i n with q | q
    · rw [hk i q]; exact t6 i q
    · have : i = n := by omega
      subst this
      rw [hd]
      have ta := t6 a ha
      have tb := t6 b hb
      refine ⟨fun z => ta.1 (List.append_eq_nil_iff.mp z).1, rl_ch_app.mpr ⟨ta.2.1, tb.2.1, fun u v hu hv => (hok hu hv).mp ok⟩, fun c hc => ?_⟩
      rcases List.mem_append.mp hc with q | q
      · exact ta.2.2 c q
      · exact tb.2.2 c q
  · rcases Nat.lt_or_ge i n with q | q
    · rw [hk i q, pk_un (by omega)]; exact t7 i q
    · have : i = n := by omega
      subst this
      rw [hd, pk_us, t7 a ha, t7 b hb, nI_add, rl_sw_app]
  · rcases Nat.lt_or_ge i n with p | p
    · rcases Nat.lt_or_ge j n with r | r
      · rw [hk i p, hk j r] at q; exact t8 i j p r q
      · have : j = n := by omega
        subst this
        rw [hk i p, hd] at q
        exact absurd q (hne i p)
    · have : i = n := by omega
      subst this
      rcases Nat.lt_or_ge j i with r | r
      · rw [hk j r, hd] at q
        exact absurd q.symm (hne j r)
      · omega
  · rcases Nat.lt_or_ge i n with q | q
    · rw [pk_un (by omega), pk_un (by omega)]; exact t9 hbl i q
    · have : i = n := by omega
      subst this
      subst hbl
      rw [pk_us, pk_us]
      obtain ⟨a1, x1, h1, h2, h3, h4, h5⟩ := t9 rfl a ha
      obtain ⟨b1, x2, k1, k2, k3, k4, k5⟩ := t9 rfl b hb
      rw [rs_decB h1 h2 (by omega) (by omega), rs_decB k1 k2 (by omega) (by omega), List.length_replicate, List.length_replicate] at hl
      refine ⟨a1, x1 + x2, h1, ?_, h3, by omega, hl⟩
      show kB a + kB b = _
      rw [h2, k2, nI_add]
  · rcases Nat.lt_or_ge i n with q | q
    · rw [pk_un (by omega), pk_un (by omega), pk_un (by omega)]; exact t10 hbl i q
    · have : i = n := by omega
      subst this
      subst hbl
      have e0 := t3 rfl
      subst e0
      refine ⟨fun z => by omega, fun _ => ⟨pk_us, ?_⟩⟩
      rw [pk_us, pk_us]
      have z := ok.2 rfl
      have qa : a < fr := by
        rcases Nat.lt_or_ge a fr with q | q
        · exact q
        · have := ((t10 rfl a ha).2 q).1
          rw [this] at z; exact absurd z.1 (by decide)
      have qb : b < fr := by
        rcases Nat.lt_or_ge b fr with q | q
        · exact q
        · have := ((t10 rfl b hb).2 q).1
          rw [this] at z; exact absurd z.2 (by decide)
      refine ⟨a, b, rfl, rfl, qa, qb, ?_, ?_⟩
      · rw [← (t10 rfl a ha).1 qa]; exact z.1
      · rw [← (t10 rfl b hb).1 qb]; exact z.2
end
section
/-! the rule under construction, and the rules that are done -/
def rs_cx (E : Nat → List Nat) (c : Nat) : List Nat := if c < 256 then [c] else E (c - 256)
def rs_fl (E : Nat → List Nat) (l : List Nat) : List Nat := (l.map (rs_cx E)).flatten
theorem rs_fl_nil {E : Nat → List Nat} : rs_fl E [] = [] := rfl
theorem rs_fl_app {E : Nat → List Nat} {l m : List Nat} : rs_fl E (l ++ m) = rs_fl E l ++ rs_fl E m := by
  unfold rs_fl; rw [List.map_append, List.flatten_append]
theorem rs_fl_cons {E : Nat → List Nat} {c : Nat} {l : List Nat} : rs_fl E (c :: l) = rs_cx E c ++ rs_fl E l := by
  unfold rs_fl; rw [List.map_cons, List.flatten_cons]
theorem rs_fl_one {E : Nat → List Nat} {c : Nat} : rs_fl E [c] = rs_cx E c := by
  rw [rs_fl_cons, rs_fl_nil, List.append_nil]
theorem rs_cx_l {E : Nat → List Nat} {c : Nat} (h : c < 256) : rs_cx E c = [c] := if_pos h
theorem rs_cx_r {E : Nat → List Nat} {z : Nat} : rs_cx E (256 + z) = E z := by
  unfold rs_cx
  rw [if_neg (by omega), Nat.add_sub_cancel_left]
theorem rs_fl_congr {E E' : Nat → List Nat} {l : List Nat} (h : ∀ c, c ∈ l → 256 ≤ c → E (c - 256) = E' (c - 256)) : rs_fl E l = rs_fl E' l := by
  unfold rs_fl
  congr 1
  refine List.map_congr_left (fun c hc => ?_)
  unfold rs_cx
  by_cases q : c < 256
  · rw [if_pos q, if_pos q]
  · rw [if_neg q, if_neg q, h c hc (by omega)]
theorem rs_fl_let {E : Nat → List Nat} {l : List Nat} (h : ∀ c, c ∈ l → c < 256) : rs_fl E l = l := by
  induction l with
  | nil => rfl
  | cons c l ih => rw [rs_fl_cons, rs_cx_l (h c (by simp)), ih fun d hd => h d (by simp [hd])]; rfl
def rs_up (E : Nat → List Nat) (x : Nat) (l : List Nat) : Nat → List Nat := fun y => if y = x then l else E y
theorem rs_up_s {E : Nat → List Nat} {x : Nat} {l : List Nat} : rs_up E x l x = l := if_pos rfl
theorem rs_up_n {E : Nat → List Nat} {x y : Nat} {l : List Nat} (h : y ≠ x) : rs_up E x l y = E y := if_neg h
def rs_cell (rp rt n x : Nat) (E : Nat → List Nat) (c : Nat) : Prop := c < n ∨ ∃ z, c = 256 + z ∧ z < x ∧ E z ≠ [] ∧ (16 ≤ x → 16 ≤ z) ∧ z ≠ rp ∧ z ≠ rt
theorem rs_cell_lt {rp rt n x : Nat} {E : Nat → List Nat} {c : Nat} (hn : n ≤ 256) (h : rs_cell rp rt n x E c) : c < 256 + x := by
  rcases h with h | ⟨z, h1, h2, _⟩
  · omega
  · omega
theorem rs_cx_ne {rp rt n x : Nat} {E : Nat → List Nat} {c : Nat} (hn : n ≤ 256) (h : rs_cell rp rt n x E c) : rs_cx E c ≠ [] := by
  rcases h with h | ⟨z, rfl, h2, h3, _⟩
  · rw [rs_cx_l (by omega)]; exact fun z => by cases z
  · rw [rs_cx_r]; exact h3
theorem rs_fl_ne {rp rt n x : Nat} {E : Nat → List Nat} {l : List Nat} (hn : n ≤ 256) (h : ∀ c, c ∈ l → rs_cell rp rt n x E c) (hl : l ≠ []) : rs_fl E l ≠ [] := by
  cases l with
  | nil => exact absurd rfl hl
  | cons c l =>
    rw [rs_fl_cons]
    exact fun z => rs_cx_ne hn (h c (by simp)) (List.append_eq_nil_iff.mp z).1
theorem rs_cell_mono {rp rt n n' x : Nat} {E : Nat → List Nat} {c : Nat} (hn : n ≤ n') (h : rs_cell rp rt n x E c) : rs_cell rp rt n' x E c := by
  rcases h with h | h
  · exact Or.inl (by omega)
  · exact Or.inr h
theorem rs_cell_E {rp rt n x : Nat} {E E' : Nat → List Nat} {c : Nat} (he : ∀ z, z < x → E' z = E z) (h : rs_cell rp rt n x E c) : rs_cell rp rt n x E' c := by
  rcases h with h | ⟨z, h1, h2, h3, h4⟩
  · exact Or.inl h
  · exact Or.inr ⟨z, h1, h2, by rw [he z h2]; exact h3, h4⟩
theorem rl_gr_ne {R : Nat → Nat → Prop} {l : List Nat} {gs : List (List Nat)} (h : rl_gr R l gs) (hg : gs ≠ []) : l ≠ [] := by
  cases gs with
  | nil => exact absurd rfl hg
  | cons g gs =>
    rw [← h.1, List.flatten_cons]
    exact fun z => (h.2.1 g (by simp)).1 (List.append_eq_nil_iff.mp z).1
section
variable {R : Nat → Nat → Prop} {dec dec' : Nat → List Nat} {n n' rp rt x : Nat} {E E' : Nat → List Nat} {p D : List Nat} {o o1 : List Nat} {a i z : Nat}
def rs_CurW (R : Nat → Nat → Prop) (dec : Nat → List Nat) (n rp rt x : Nat) (E : Nat → List Nat) (p o : List Nat) : Prop :=
  rl_gr R p ((rs_fl E o).map dec) ∧ (∀ c, c ∈ o → rs_cell rp rt n x E c) ∧ (∀ i, i ∈ rs_fl E o → i < n) ∧ (∀ z, o.head? = some (256 + z) → ∀ a b, p.head? = some b → ¬ R a b)
def rs_Cur (R : Nat → Nat → Prop) (dec : Nat → List Nat) (n rp rt x : Nat) (E : Nat → List Nat) (p o : List Nat) : Prop :=
  rs_CurW R dec n rp rt x E p o ∧ (∀ z, o.getLast? = some (256 + z) → ∀ a b, p.getLast? = some a → ¬ R a b)
theorem rs_cur_nil : rs_Cur R dec n rp rt x E [] [] :=
  ⟨⟨rl_gr_nil, fun c hc => (by cases hc), fun c hc => (by cases hc), fun z hz => by cases hz⟩, fun z hz => by cases hz⟩
theorem rs_curW_mono (h : rs_CurW R dec n rp rt x E p o) (hn : n ≤ n') (hd : ∀ i, i < n → dec' i = dec i) : rs_CurW R dec' n' rp rt x E p o := by
  obtain ⟨h1, h2, h3, h4⟩ := h
  refine ⟨?_, fun c hc => rs_cell_mono hn (h2 c hc), fun i hi => Nat.lt_of_lt_of_le (h3 i hi) hn, h4⟩
  have : (rs_fl E o).map dec' = (rs_fl E o).map dec := List.map_congr_left (fun i hi => hd i (h3 i hi))
  rw [this]; exact h1
theorem rs_curW_ne (h : rs_CurW R dec n rp rt x E p o) (hn : n ≤ 256) (ho : o ≠ []) : p ≠ [] := by
  refine rl_gr_ne h.1 (fun q => ?_)
  exact rs_fl_ne hn h.2.1 ho (List.map_eq_nil_iff.mp q)
theorem rs_curW_nil (h : rs_CurW R dec n rp rt x E p []) : p = [] := by
  have := h.1.1
  rw [rs_fl_nil] at this
  exact this.symm
/-- the last letter of what is done, if the last cell is a letter -/
theorem rs_curW_last (h : rs_CurW R dec n rp rt x E p (o1 ++ [a])) (ha : a < 256) : dec a ≠ [] ∧ p.getLast? = (dec a).getLast? ∧ a < n := by
  obtain ⟨h1, h2, h3, h4⟩ := h
  have e : rs_fl E (o1 ++ [a]) = rs_fl E o1 ++ [a] := by rw [rs_fl_app, rs_fl_one, rs_cx_l ha]
  rw [e] at h1 h3
  have hg := h1.2.1 (dec a) (List.mem_map.mpr ⟨a, by simp, rfl⟩)
  refine ⟨hg.1, ?_, h3 a (by simp)⟩
  have := h1.1
  rw [List.map_append, List.flatten_append] at this
  rw [← this]
  have e2 : ([a].map dec).flatten = dec a := by simp
  rw [e2, rl_last_app hg.1]
theorem rs_curW_first (h : rs_CurW R dec n rp rt x E p (a :: o1)) (ha : a < 256) : dec a ≠ [] ∧ p.head? = (dec a).head? ∧ a < n := by
  obtain ⟨h1, h2, h3, h4⟩ := h
  have e : rs_fl E (a :: o1) = a :: rs_fl E o1 := by rw [rs_fl_cons, rs_cx_l ha]; rfl
  rw [e] at h1 h3
  have hg := h1.2.1 (dec a) (List.mem_map.mpr ⟨a, by simp, rfl⟩)
  refine ⟨hg.1, ?_, h3 a (by simp)⟩
  have := h1.1
  rw [List.map_cons, List.flatten_cons] at this
  rw [← this, rl_head_app hg.1]
theorem rs_emit_app (h : rs_CurW R dec n rp rt x E p o) (hn : n ≤ 256) (hi : i < n) (hD : dec i = D) (nD : D ≠ []) (cD : rl_ch R D) (hb : ∀ a b, p.getLast? = some a → D.head? = some b → ¬ R a b) : rs_Cur R dec n rp rt x E (p ++ D) (o ++ [i]) := by
  obtain ⟨h1, h2, h3, h4⟩ := id h
  have e : rs_fl E (o ++ [i]) = rs_fl E o ++ [i] := by rw [rs_fl_app, rs_fl_one, rs_cx_l (by omega)]
  refine ⟨⟨?_, fun c hc => ?_, fun c hc => ?_, fun z hz a b hh => ?_⟩, fun z hz => ?_⟩
  · rw [e, List.map_append, List.map_cons, List.map_nil, hD]
    exact rl_gr_app h1 (rl_gr_one nD cD) hb
  · rcases List.mem_append.mp hc with q | q
    · exact h2 c q
    · rw [List.mem_singleton] at q; subst q; exact Or.inl hi
  · rw [e] at hc
    rcases List.mem_append.mp hc with q | q
    · exact h3 c q
    · rw [List.mem_singleton] at q; subst q; exact hi
  · cases o with
    | nil => have hz' : i = 256 + z := by cases hz; rfl
             omega
    | cons c o =>
      have hne := rs_curW_ne h hn (fun q => by cases q)
      rw [rl_head_app hne] at hh
      exact h4 z hz a b hh
  · rw [List.getLast?_concat] at hz
    have hz' : i = 256 + z := by cases hz; rfl
    omega
theorem rs_emit_join (h : rs_CurW R dec n rp rt x E p (o1 ++ [a])) (hn : n ≤ 256) (ha : a < 256) (hi : i < n) (hD : dec i = dec a ++ D) (nD : D ≠ []) (cD : rl_ch R D) (hb : ∀ u v, (dec a).getLast? = some u → D.head? = some v → R u v) : rs_Cur R dec n rp rt x E (p ++ D) (o1 ++ [i]) := by
  have hne := rs_curW_ne h hn (fun q => by have := (List.append_eq_nil_iff.mp q).2; cases this)
  obtain ⟨h1, h2, h3, h4⟩ := id h
  have e1 : rs_fl E (o1 ++ [a]) = rs_fl E o1 ++ [a] := by rw [rs_fl_app, rs_fl_one, rs_cx_l ha]
  have e2 : rs_fl E (o1 ++ [i]) = rs_fl E o1 ++ [i] := by rw [rs_fl_app, rs_fl_one, rs_cx_l (by omega)]
  rw [e1] at h1 h3
  refine ⟨⟨?_, fun c hc => ?_, fun c hc => ?_, fun z hz a' b hh => ?_⟩, fun z hz => ?_⟩
  · rw [e2, List.map_append, List.map_cons, List.map_nil, hD]
    rw [List.map_append, List.map_cons, List.map_nil] at h1
    exact rl_gr_join h1 nD cD hb
  · rcases List.mem_append.mp hc with q | q
    · exact h2 c (List.mem_append.mpr (Or.inl q))
    · rw [List.mem_singleton] at q; subst q; exact Or.inl hi
  · rw [e2] at hc
    rcases List.mem_append.mp hc with q | q
    · exact h3 c (List.mem_append.mpr (Or.inl q))
    · rw [List.mem_singleton] at q; subst q; exact hi
  · cases o1 with
    | nil => have hz' : i = 256 + z := by cases hz; rfl
             omega
    | cons c o =>
      rw [rl_head_app hne] at hh
      exact h4 z hz a' b hh
  · rw [List.getLast?_concat] at hz
    have hz' : i = 256 + z := by cases hz; rfl
    omega
theorem rs_app_ref (h : rs_CurW R dec n rp rt x E p o) (hn : n ≤ 256) (hz : z < x) (he : E z ≠ []) (hs : 16 ≤ x → 16 ≤ z) (hp : z ≠ rp) (ht : z ≠ rt) (hl : ∀ i, i ∈ E z → i < n) (hg : rl_gr R ((E z).map dec).flatten ((E z).map dec)) (hb : ∀ a b, p.getLast? = some a → ((E z).map dec).flatten.head? = some b → ¬ R a b) (h0 : o = [] → ∀ a b, ((E z).map dec).flatten.head? = some b → ¬ R a b) : rs_CurW R dec n rp rt x E (p ++ ((E z).map dec).flatten) (o ++ [256 + z]) := by
  obtain ⟨h1, h2, h3, h4⟩ := id h
  have e : rs_fl E (o ++ [256 + z]) = rs_fl E o ++ E z := by rw [rs_fl_app, rs_fl_one, rs_cx_r]
  refine ⟨?_, fun c hc => ?_, fun c hc => ?_, fun y hy a b hh => ?_⟩
  · rw [e, List.map_append]
    exact rl_gr_app h1 hg hb
  · rcases List.mem_append.mp hc with q | q
    · exact h2 c q
    · rw [List.mem_singleton] at q; subst q; exact Or.inr ⟨z, rfl, hz, he, hs, hp, ht⟩
  · rw [e] at hc
    rcases List.mem_append.mp hc with q | q
    · exact h3 c q
    · exact hl c q
  · cases o with
    | nil =>
      rw [rs_curW_nil h, List.nil_append] at hh
      exact h0 rfl a b hh
    | cons c o =>
      have hne := rs_curW_ne h hn (fun q => by cases q)
      rw [rl_head_app hne] at hh
      exact h4 y hy a b hh
/-- a rule that is done: its word is cut into pl, its new word, pr -/
def rs_Dn (R : Nat → Nat → Prop) (dec : Nat → List Nat) (n rp rt : Nat) (E : Nat → List Nat) (y : Nat) (W Cy pl pr : List Nat) : Prop :=
  E y = rs_fl E Cy ∧ (∀ c, c ∈ Cy → rs_cell rp rt n y E c) ∧ (∀ i, i ∈ E y → i < n) ∧ (∀ i, i ∈ pl → i < n) ∧ (∀ i, i ∈ pr → i < n) ∧
  rl_gr R W ((pl ++ E y ++ pr).map dec) ∧
  (y ≠ rp → y ≠ rt → (pl = [] → ∀ a b, W.head? = some b → ¬ R a b) ∧ (pr = [] → E y ≠ [] → ∀ a b, W.getLast? = some a → ¬ R a b)) ∧
  ((y = rp ∨ y = rt) → pl = [] ∧ pr = [] ∧ (∀ z, Cy.head? = some (256 + z) → ∀ a b, W.head? = some b → ¬ R a b) ∧ (∀ z, Cy.getLast? = some (256 + z) → ∀ a b, W.getLast? = some a → ¬ R a b))
theorem rs_Dn_mono {y : Nat} {W Cy pl pr : List Nat} (h : rs_Dn R dec n rp rt E y W Cy pl pr) (hn : n ≤ n') (hd : ∀ i, i < n → dec' i = dec i) : rs_Dn R dec' n' rp rt E y W Cy pl pr := by
  obtain ⟨h1, h2, h3, h4, h5, h6, h7, h8⟩ := h
  refine ⟨h1, fun c hc => rs_cell_mono hn (h2 c hc), fun i hi => Nat.lt_of_lt_of_le (h3 i hi) hn, fun i hi => Nat.lt_of_lt_of_le (h4 i hi) hn, fun i hi => Nat.lt_of_lt_of_le (h5 i hi) hn, ?_, h7, h8⟩
  have : (pl ++ E y ++ pr).map dec' = (pl ++ E y ++ pr).map dec := List.map_congr_left (fun i hi => hd i (by
    rcases List.mem_append.mp hi with q | q
    · rcases List.mem_append.mp q with q | q
      · exact h4 i q
      · exact h3 i q
    · exact h5 i q))
  rw [this]; exact h6
theorem rs_Dn_E {y : Nat} {W Cy pl pr : List Nat} (h : rs_Dn R dec n rp rt E y W Cy pl pr) (hn : n ≤ 256) (he : ∀ z, z ≤ y → E' z = E z) : rs_Dn R dec n rp rt E' y W Cy pl pr := by
  obtain ⟨h1, h2, h3, h4, h5, h6, h7, h8⟩ := h
  have hy := he y (Nat.le_refl _)
  refine ⟨?_, fun c hc => rs_cell_E (fun z hz => he z (by omega)) (h2 c hc), by rw [hy]; exact h3, h4, h5, by rw [hy]; exact h6, by rw [hy]; exact h7, h8⟩
  rw [hy, h1]
  refine rs_fl_congr (fun c hc q => (he _ ?_).symm)
  have := rs_cell_lt hn (h2 c hc)
  omega
/-- trimming: the letters at the ends go to the users -/
theorem rs_trim {W o2 pl pr : List Nat} (h : rs_Cur R dec n rp rt x E W (pl ++ o2 ++ pr)) (hn : n ≤ 256) (hp : x ≠ rp) (ht : x ≠ rt) (hl : ∀ i, i ∈ pl → i < n) (hr : ∀ i, i ∈ pr → i < n) (cl : pl = [] → ∀ a b, W.head? = some b → ¬ R a b) (cr : pr = [] → o2 ≠ [] → ∀ a b, W.getLast? = some a → ¬ R a b) : rs_Dn R dec n rp rt (rs_up E x (rs_fl E o2)) x W o2 pl pr := by
  obtain ⟨⟨h1, h2, h3, h4⟩, h5⟩ := h
  have e : rs_fl E (pl ++ o2 ++ pr) = pl ++ rs_fl E o2 ++ pr := by
    rw [rs_fl_app, rs_fl_app, rs_fl_let (l := pl) (fun c hc => by have := hl c hc; omega), rs_fl_let (l := pr) (fun c hc => by have := hr c hc; omega)]
  rw [e] at h1 h3
  have h2' : ∀ c, c ∈ o2 → rs_cell rp rt n x E c := fun c hc => h2 c (by simp [hc])
  refine ⟨?_, fun c hc => rs_cell_E (fun z hz => rs_up_n (by omega)) (h2' c hc), fun i hi => ?_, hl, hr, ?_, fun _ _ => ⟨cl, fun q1 q2 => cr q1 (fun q3 => q2 ?_)⟩, fun q => ?_⟩
  · rw [rs_up_s]
    refine rs_fl_congr (fun c hc q => (rs_up_n ?_).symm)
    have := rs_cell_lt hn (h2' c hc)
    omega
  · rw [rs_up_s] at hi
    exact h3 i (by simp [hi])
  · rw [rs_up_s]; exact h1
  · rw [rs_up_s, q3]; rfl
  · rcases q with q | q
    · exact absurd q hp
    · exact absurd q ht
theorem rs_root {W o : List Nat} (h : rs_Cur R dec n rp rt x E W o) (hn : n ≤ 256) (hx : x = rp ∨ x = rt) : rs_Dn R dec n rp rt (rs_up E x (rs_fl E o)) x W o [] [] := by
  obtain ⟨⟨h1, h2, h3, h4⟩, h5⟩ := h
  refine ⟨?_, fun c hc => rs_cell_E (fun z hz => rs_up_n (by omega)) (h2 c hc), fun i hi => ?_, fun i hi => (by cases hi), fun i hi => (by cases hi), ?_, fun q1 q2 => ?_, fun _ => ⟨rfl, rfl, h4, h5⟩⟩
  · rw [rs_up_s]
    refine rs_fl_congr (fun c hc q => (rs_up_n ?_).symm)
    have := rs_cell_lt hn (h2 c hc)
    omega
  · rw [rs_up_s] at hi
    exact h3 i hi
  · rw [rs_up_s, List.nil_append, List.append_nil]; exact h1
  · rcases hx with q | q
    · exact absurd q q1
    · exact absurd q q2
end
/-- what the test of pops says of a letter that stays -/
theorem rs_keepL {bl : Bool} {fr n0 : Nat} {pt0 : Nat → Int32} {wt : Nat → Nat} {n : Nat} {kA kB w pt : Nat → Int32} (h : rs_TB bl fr n0 pt0 wt n kA kB w pt) {c : Nat} (hc : c < n) (hbl : bl = false) (hp : ¬ pt c = 2) {b : Nat} (hb : (rs_dec bl fr kA kB c).head? = some b) (a : Nat) : ¬ rs_R bl pt0 a b := by
  obtain ⟨t1, t2, t3, t4, t5, t6, t7, t8, t9, t10⟩ := h
  subst hbl
  have e0 := t3 rfl
  subst e0
  intro z
  have z2 := (z.2 rfl).2
  rcases Nat.lt_or_ge c fr with q | q
  · rw [rs_decP0 q] at hb; cases hb
    exact hp (by rw [(t10 rfl c hc).1 q]; exact z2)
  · obtain ⟨q1, a1, b1, h1, h2, h3, h4, h5, h6⟩ := (t10 rfl c hc).2 q
    rw [rs_decP q h1 h2 (by omega) (by omega)] at hb; cases hb
    rw [h5] at z2; exact absurd z2 (by decide)
theorem rs_keepR {bl : Bool} {fr n0 : Nat} {pt0 : Nat → Int32} {wt : Nat → Nat} {n : Nat} {kA kB w pt : Nat → Int32} (h : rs_TB bl fr n0 pt0 wt n kA kB w pt) {c : Nat} (hc : c < n) (hbl : bl = false) (hp : ¬ pt c = 1) {a : Nat} (hb : (rs_dec bl fr kA kB c).getLast? = some a) (b : Nat) : ¬ rs_R bl pt0 a b := by
  obtain ⟨t1, t2, t3, t4, t5, t6, t7, t8, t9, t10⟩ := h
  subst hbl
  have e0 := t3 rfl
  subst e0
  intro z
  have z2 := (z.2 rfl).1
  rcases Nat.lt_or_ge c fr with q | q
  · rw [rs_decP0 q] at hb
    have hb' : some c = some a := hb
    cases hb'
    exact hp (by rw [(t10 rfl c hc).1 q]; exact z2)
  · obtain ⟨q1, a1, b1, h1, h2, h3, h4, h5, h6⟩ := (t10 rfl c hc).2 q
    rw [rs_decP q h1 h2 (by omega) (by omega)] at hb
    have hb' : some b1 = some a := hb
    cases hb'
    rw [h6] at z2; exact absurd z2 (by decide)
end
section
/-! emit -/
def rs_Wk (x h n0 : Nat) (next0 : Nat → Int64) (o n : Nat) (next : Nat → Int64) : Prop :=
  h ≤ o ∧ o ≤ 1024 ∧ n0 ≤ n ∧ n ≤ 256 ∧ (∀ k, h ≤ k → k < o → rc_c next k < 256 + x) ∧ (∀ k, k < h → rc_c next k = rc_c next0 k)
def rs_St (bl : Bool) (fr n0 : Nat) (pt0 : Nat → Int32) (wt : Nat → Nat) (rp rt x : Nat) (G W Cs PLs PRs : Nat → List Nat) (n : Nat) (kA kB w pt : Nat → Int32) : Prop :=
  rs_TB bl fr n0 pt0 wt n kA kB w pt ∧ ∀ y, y < x → rs_Dn (rs_R bl pt0) (rs_dec bl fr kA kB) n rp rt G y (W y) (Cs y) (PLs y) (PRs y)
theorem rs_St_new {bl : Bool} {fr n0 : Nat} {pt0 : Nat → Int32} {wt : Nat → Nat} {rp rt x : Nat} {G W Cs PLs PRs : Nat → List Nat} {n : Nat} {kA kB w pt : Nat → Int32} (h : rs_St bl fr n0 pt0 wt rp rt x G W Cs PLs PRs n kA kB w pt) {a b : Nat} (ha : a < n) (hb : b < n) (ok : rj_ok bl kA pt a b) (hl : (rs_dec bl fr kA kB a).length + (rs_dec bl fr kA kB b).length ≤ 2 ^ 20) (hn : n < 256) (hno : ∀ i, fr ≤ i → i < n → ¬ (kA i = rj_x bl kA a ∧ kB i = rj_y bl kB a b)) : rs_St bl fr n0 pt0 wt rp rt x G W Cs PLs PRs (n + 1) (upd kA n (rj_x bl kA a)) (upd kB n (rj_y bl kB a b)) (upd w n (w a + w b)) (upd pt n 0) :=
  ⟨rs_new h.1 ha hb ok hl hn hno, fun y hy => rs_Dn_mono (h.2 y hy) (by omega) (fun i hi => rs_dec_congr (pk_un (by omega)) (pk_un (by omega)))⟩
theorem rc_sg_pu {a : Nat → Int64} {h o c : Nat} (ho : h ≤ o) (hc : c < 65536) : rc_sg (rc_pu a o c) h (o + 1) = rc_sg a h o ++ [c] := by
  rw [rc_sg_snoc ho, rc_pu_s a hc]
  congr 1
  exact rc_sg_congr (fun k h1 h2 => rc_pu_n a hc (by omega))
theorem rs_Wk_app {x h n0 : Nat} {next0 : Nat → Int64} {o n : Nat} {next : Nat → Int64} (hw : rs_Wk x h n0 next0 o n next) {c : Nat} (hc : c < 256 + x) (hx : x < 32) (ho : o < 1024) : rs_Wk x h n0 next0 (o + 1) n (rc_pu next o c) := by
  obtain ⟨w1, w2, w3, w4, w5, w6⟩ := hw
  refine ⟨by omega, by omega, w3, w4, fun k h1 h2 => ?_, fun k hk => ?_⟩
  · by_cases e : k = o
    · subst e; rw [rc_pu_s _ (by omega)]; exact hc
    · rw [rc_pu_n _ (by omega) e]; exact w5 k h1 (by omega)
  · rw [rc_pu_n _ (by omega) (by omega)]; exact w6 k hk
theorem rs_Wk_put {x h n0 : Nat} {next0 : Nat → Int64} {q n n' : Nat} {next : Nat → Int64} (hw : rs_Wk x h n0 next0 (q + 1) n next) (hq : h ≤ q) {c : Nat} (hc : c < 256 + x) (hx : x < 32) (hn : n ≤ n') (hn' : n' ≤ 256) : rs_Wk x h n0 next0 (q + 1) n' (rc_pu next q c) := by
  obtain ⟨w1, w2, w3, w4, w5, w6⟩ := hw
  refine ⟨by omega, by omega, by omega, hn', fun k h1 h2 => ?_, fun k hk => ?_⟩
  · by_cases e : k = q
    · subst e; rw [rc_pu_s _ (by omega)]; exact hc
    · rw [rc_pu_n _ (by omega) e]; exact w5 k h1 (by omega)
  · rw [rc_pu_n _ (by omega) (by omega)]; exact w6 k hk
section
variable {f_maxRules f_maxLength f_letters f_ref f_room f_out f_head f_rootP f_rootT f_broken f_inLeft f_inRight f_size f_fresh f_blocking f_headBase f_headExp f_headMark f_tailBase f_tailExp f_tailCut f_tailMark : Int32} {a_used a_kinds a_partA a_partB a_lens a_begin a_popL a_popR a_need a_keyA a_keyB a_weight a_part a_remap a_hits a_span : Nat → Int32} {a_cur a_next : Nat → Int64}
variable {bl : Bool} {fr n0 : Nat} {pt0 : Nat → Int32} {wt : Nat → Nat} {rp rt x h : Nat} {next0 : Nat → Int64} {G W Cs PLs PRs : Nat → List Nat}
theorem rx_emit_no {post : SX → Prop} {o n i : Nat} {p D : List Nat} (hx : x < 32) (hi : i < 256) (hw : rs_Wk x h n0 next0 o n a_next)
    (hs : f_broken = 0 → rs_St bl fr n0 pt0 wt rp rt x G W Cs PLs PRs n a_keyA a_keyB a_weight a_part ∧ rs_CurW (rs_R bl pt0) (rs_dec bl fr a_keyA a_keyB) n rp rt x G p (rc_sg a_next h o) ∧ (∀ a b, p.getLast? = some a → D.head? = some b → ¬ rs_R bl pt0 a b) ∧ i < n ∧ rs_dec bl fr a_keyA a_keyB i = D)
    (K : ∀ (o' n' : Nat) (a_next' : Nat → Int64) (f_broken' : Int32) (a_keyA' : Nat → Int32) (a_keyB' : Nat → Int32) (a_weight' : Nat → Int32) (a_part' : Nat → Int32), rs_Wk x h n0 next0 o' n' a_next' → n ≤ n' → (f_broken' = 0 → f_broken = 0 ∧ rs_St bl fr n0 pt0 wt rp rt x G W Cs PLs PRs n' a_keyA' a_keyB' a_weight' a_part' ∧ rs_Cur (rs_R bl pt0) (rs_dec bl fr a_keyA' a_keyB') n' rp rt x G (p ++ D) (rc_sg a_next' h o') ∧ (∀ j, j < n → rs_dec bl fr a_keyA' a_keyB' j = rs_dec bl fr a_keyA a_keyB j)) → post (f_maxRules, f_maxLength, f_letters, f_ref, f_room, nI o', nI h, f_rootP, f_rootT, f_broken', f_inLeft, f_inRight, nI n', nI fr, rj_b bl, f_headBase, f_headExp, f_headMark, f_tailBase, f_tailExp, f_tailCut, f_tailMark, a_used, a_kinds, a_partA, a_partB, a_lens, a_cur, a_next', a_begin, a_popL, a_popR, a_need, a_keyA', a_keyB', a_weight', a_part', a_remap, a_hits, a_span)) :
    wX_emit_45 post (nI i) (-1) f_maxRules f_maxLength f_letters f_ref f_room (nI o) (nI h) f_rootP f_rootT f_broken f_inLeft f_inRight (nI n) (nI fr) (rj_b bl) f_headBase f_headExp f_headMark f_tailBase f_tailExp f_tailCut f_tailMark a_used a_kinds a_partA a_partB a_lens a_cur a_next a_begin a_popL a_popR a_need a_keyA a_keyB a_weight a_part a_remap a_hits a_span := by
  unfold wX_emit_45
  refine br_t (by decide) (rx_append hw.2.1 (fun ho => ?_) ?_)
  · refine K (o + 1) n (rc_pu a_next o i) f_broken a_keyA a_keyB a_weight a_part (rs_Wk_app hw (by omega) hx ho) (Nat.le_refl _) (fun hb => ?_)
    obtain ⟨s1, s2, s3, s4, s5⟩ := hs hb
    have t6 := s1.1.2.2.2.2.2.1 i s4
    rw [s5] at t6
    refine ⟨hb, s1, ?_, fun j _ => rfl⟩
    rw [rc_sg_pu hw.1 (by omega)]
    exact rs_emit_app s2 hw.2.2.2.1 s4 s5 t6.1 t6.2.1 s3
  · exact K o n a_next 1 a_keyA a_keyB a_weight a_part hw (Nat.le_refl _) (fun hb => absurd hb (by decide))
theorem rx_emit {post : SX → Prop} {o n i : Nat} {p D : List Nat} (hx : x < 32) (hi : i < 256) (hw : rs_Wk x h n0 next0 o n a_next) (hfr : fr ≤ n0)
    (hs : f_broken = 0 → rs_St bl fr n0 pt0 wt rp rt x G W Cs PLs PRs n a_keyA a_keyB a_weight a_part ∧ rs_CurW (rs_R bl pt0) (rs_dec bl fr a_keyA a_keyB) n rp rt x G p (rc_sg a_next h o) ∧ (∀ z, (rc_sg a_next h o).getLast? = some (256 + z) → ∀ a b, p.getLast? = some a → D.head? = some b → ¬ rs_R bl pt0 a b) ∧ i < n ∧ rs_dec bl fr a_keyA a_keyB i = D ∧ p.length + D.length ≤ 2 ^ 20)
    (K : ∀ (o' n' : Nat) (a_next' : Nat → Int64) (f_broken' : Int32) (a_keyA' : Nat → Int32) (a_keyB' : Nat → Int32) (a_weight' : Nat → Int32) (a_part' : Nat → Int32), rs_Wk x h n0 next0 o' n' a_next' → n ≤ n' → (f_broken' = 0 → f_broken = 0 ∧ rs_St bl fr n0 pt0 wt rp rt x G W Cs PLs PRs n' a_keyA' a_keyB' a_weight' a_part' ∧ rs_Cur (rs_R bl pt0) (rs_dec bl fr a_keyA' a_keyB') n' rp rt x G (p ++ D) (rc_sg a_next' h o') ∧ (∀ j, j < n → rs_dec bl fr a_keyA' a_keyB' j = rs_dec bl fr a_keyA a_keyB j)) → post (f_maxRules, f_maxLength, f_letters, f_ref, f_room, nI o', nI h, f_rootP, f_rootT, f_broken', f_inLeft, f_inRight, nI n', nI fr, rj_b bl, f_headBase, f_headExp, f_headMark, f_tailBase, f_tailExp, f_tailCut, f_tailMark, a_used, a_kinds, a_partA, a_partB, a_lens, a_cur, a_next', a_begin, a_popL, a_popR, a_need, a_keyA', a_keyB', a_weight', a_part', a_remap, a_hits, a_span)) :
    wpX_emit post (f_maxRules, f_maxLength, f_letters, f_ref, f_room, nI o, nI h, f_rootP, f_rootT, f_broken, f_inLeft, f_inRight, nI n, nI fr, rj_b bl, f_headBase, f_headExp, f_headMark, f_tailBase, f_tailExp, f_tailCut, f_tailMark, a_used, a_kinds, a_partA, a_partB, a_lens, a_cur, a_next, a_begin, a_popL, a_popR, a_need, a_keyA, a_keyB, a_weight, a_part, a_remap, a_hits, a_span) (nI i) := by
  obtain ⟨w1, w2, w3, w4, w5, w6⟩ := id hw
  unfold wpX_emit
  dsimp only
  refine pk_le o h (fun hoh => ?_) (fun hoh => ?_)
  · unfold wX_emit_27
    refine br_t (by decide) (rx_emit_no (p := p) (D := D) hx hi hw (fun hb => ?_) K)
    obtain ⟨s1, s2, s3, s4, s5, s6⟩ := hs hb
    refine ⟨s1, s2, fun a b ha => ?_, s4, s5⟩
    have e : rc_sg a_next h o = [] := rc_sg_nil hoh
    rw [e] at s2
    rw [rs_curW_nil s2] at ha
    cases ha
  · obtain ⟨q, rfl⟩ : ∃ q, o = q + 1 := ⟨o - 1, by omega⟩
    have hq : h ≤ q := by omega
    rw [nI_pred]
    refine rx_peek (by omega) ?_
    have ec : rc_sg a_next h (q + 1) = rc_sg a_next h q ++ [rc_c a_next q] := rc_sg_snoc hq
    have hcl := w5 q hq (by omega)
    generalize hcc : rc_c a_next q = c at ec hcl
    unfold wX_emit_27
    refine pk_le 256 c (fun hc => ?_) (fun hc => ?_)
    · refine rx_emit_no (p := p) (D := D) hx hi hw (fun hb => ?_) K
      obtain ⟨s1, s2, s3, s4, s5, s6⟩ := hs hb
      refine ⟨s1, s2, s3 (c - 256) ?_, s4, s5⟩
      rw [ec, List.getLast?_concat]
      congr 1; omega
    · refine rx_join w4 (by omega) hc hi (fun hno => ?_) (fun ok j h1 h2 h3 h4 => ?_) (fun ok hno hn => ?_) ?_
      · refine rx_emit_no (p := p) (D := D) hx hi hw (fun hb => ?_) K
        obtain ⟨s1, s2, s3, s4, s5, s6⟩ := hs hb
        have s2' := s2
        rw [ec] at s2'
        obtain ⟨l1, l2, l3⟩ := rs_curW_last s2' hc
        refine ⟨s1, s2, fun a b ha hb' => ?_, s4, s5⟩
        rw [l2] at ha
        rw [← s5] at hb'
        exact fun z => hno ((rs_ok s1.1 l3 s4 ha hb').mpr z)
      · dsimp only
        unfold wX_emit_45
        rw [nI_pred]
        refine br_f (nI_pos (by omega)) (rx_put (by omega) ?_)
        refine K (q + 1) n (rc_pu a_next q j) f_broken a_keyA a_keyB a_weight a_part (rs_Wk_put hw hq (by omega) hx (Nat.le_refl _) w4) (Nat.le_refl _) (fun hb => ?_)
        obtain ⟨s1, s2, s3, s4, s5, s6⟩ := hs hb
        have s2' := s2
        rw [ec] at s2'
        obtain ⟨l1, l2, l3⟩ := rs_curW_last s2' hc
        refine ⟨hb, s1, ?_, fun j _ => rfl⟩
        rw [rc_sg_pu hq (by omega)]
        have t6 := s1.1.2.2.2.2.2.1 i s4
        have hl : (rs_dec bl fr a_keyA a_keyB c).length ≤ p.length := by
          have e2 := s2'.1.1
          rw [rs_fl_app, rs_fl_one, rs_cx_l hc, List.map_append, List.flatten_append] at e2
          have e3 := congrArg List.length e2
          rw [List.length_append] at e3
          simp at e3
          omega
        have hd := rs_found s1.1 l3 s4 ok (by rw [s5]; omega) h1 h3 h4
        rw [s5] at t6 hd
        refine rs_emit_join s2' w4 hc h2 hd t6.1 t6.2.1 (fun u v hu hv => ?_)
        rw [← s5] at hv
        exact (rs_ok s1.1 l3 s4 hu hv).mp ok
      · dsimp only
        unfold wX_emit_45
        rw [nI_pred]
        refine br_f (nI_pos (by omega)) (rx_put (by omega) ?_)
        refine K (q + 1) (n + 1) (rc_pu a_next q n) f_broken (upd a_keyA n (rj_x bl a_keyA c)) (upd a_keyB n (rj_y bl a_keyB c i)) (upd a_weight n (a_weight c + a_weight i)) (upd a_part n 0) (rs_Wk_put hw hq (by omega) hx (by omega) (by omega)) (by omega) (fun hb => ?_)
        obtain ⟨s1, s2, s3, s4, s5, s6⟩ := hs hb
        have s2' := s2
        rw [ec] at s2'
        obtain ⟨l1, l2, l3⟩ := rs_curW_last s2' hc
        have t6 := s1.1.2.2.2.2.2.1 i s4
        have hl : (rs_dec bl fr a_keyA a_keyB c).length ≤ p.length := by
          have e2 := s2'.1.1
          rw [rs_fl_app, rs_fl_one, rs_cx_l hc, List.map_append, List.flatten_append] at e2
          have e3 := congrArg List.length e2
          rw [List.length_append] at e3
          simp at e3
          omega
        have hll : (rs_dec bl fr a_keyA a_keyB c).length + (rs_dec bl fr a_keyA a_keyB i).length ≤ 2 ^ 20 := by rw [s5]; omega
        have hext : ∀ j, j < n → rs_dec bl fr (upd a_keyA n (rj_x bl a_keyA c)) (upd a_keyB n (rj_y bl a_keyB c i)) j = rs_dec bl fr a_keyA a_keyB j := fun j hj => rs_dec_congr (pk_un (by omega)) (pk_un (by omega))
        refine ⟨hb, rs_St_new s1 l3 s4 ok hll hn hno, ?_, hext⟩
        rw [rc_sg_pu hq (by omega)]
        have hd := rs_found (kA' := upd a_keyA n (rj_x bl a_keyA c)) (kB' := upd a_keyB n (rj_y bl a_keyB c i)) s1.1 l3 s4 ok hll (by omega : fr ≤ n) pk_us pk_us
        rw [s5] at t6 hd
        rw [← hext c l3] at hd
        refine rs_emit_join (rs_curW_mono s2' (by omega) hext) (by omega) hc (by omega) hd t6.1 t6.2.1 (fun u v hu hv => ?_)
        rw [hext c l3] at hu
        rw [← s5] at hv
        exact (rs_ok s1.1 l3 s4 hu hv).mp ok
      · dsimp only
        unfold wX_emit_45
        rw [nI_pred]
        refine br_f (by decide) (rx_put (c := 0) (by omega) ?_)
        exact K (q + 1) n (rc_pu a_next q 0) 1 a_keyA a_keyB a_weight a_part (rs_Wk_put hw hq (by omega) hx (Nat.le_refl _) w4) (Nat.le_refl _) (fun hb => absurd hb (by decide))
end
end
section
/-! feed -/
def rs_pop (v : Int32) : List Nat := if v < 0 then [] else [v.toNatClampNeg]
theorem rs_pop_m : rs_pop (-1) = [] := if_pos (by decide)
theorem rs_pop_n {i : Nat} (h : i < 2 ^ 31) : rs_pop (nI i) = [i] := by
  unfold rs_pop; rw [if_neg (nI_pos h), nI_clamp h]
def rs_pw (v : Int32) : Prop := v = -1 ∨ ∃ i, i < 256 ∧ v = nI i
section
variable {R : Nat → Nat → Prop} {dec : Nat → List Nat} {n rp rt x y : Nat} {G : Nat → List Nat} {p p1 o1 W Cy pl pr : List Nat}
theorem rs_mfl1 {i : Nat} : ([i].map dec).flatten = dec i := by simp
/-- the three pieces of a rule that is done -/
theorem rs_Dn_spl (h : rs_Dn R dec n rp rt G y W Cy pl pr) : W = (pl.map dec).flatten ++ ((G y).map dec).flatten ++ (pr.map dec).flatten ∧ rl_gr R ((G y).map dec).flatten ((G y).map dec) ∧ (∀ a b, (pl.map dec).flatten.getLast? = some a → ((G y).map dec).flatten.head? = some b → ¬ R a b) ∧ (∀ a b, ((G y).map dec).flatten.getLast? = some a → (pr.map dec).flatten.head? = some b → ¬ R a b) := by
  have h6 := h.2.2.2.2.2.1
  rw [List.map_append, List.map_append] at h6
  obtain ⟨a1, a2, a3, a4⟩ := rl_gr_spl h6
  obtain ⟨b1, b2, b3, b4⟩ := rl_gr_spl a1
  refine ⟨by rw [a3, List.flatten_append], b2, b4, fun a b ha hb => a4 a b ?_ hb⟩
  rw [List.flatten_append, rl_last_app (fun q => by rw [q] at ha; cases ha)]
  exact ha
theorem rs_gfl_ne (h : rs_Dn R dec n rp rt G y W Cy pl pr) (hg : G y ≠ []) : ((G y).map dec).flatten ≠ [] := by
  refine rl_gr_ne (rs_Dn_spl h).2.1 (fun q => hg (List.map_eq_nil_iff.mp q))
/-- the reference goes behind its left letter -/
theorem rs_feed2 (h : rs_Dn R dec n rp rt G y W Cy pl pr) (hn : n ≤ 256) (hc : rs_Cur R dec n rp rt x G p1 o1) (hp1 : pl = [] → p1 = p) (hp2 : ∀ l, pl = [l] → p1 = p ++ dec l ∧ o1 ≠ []) (hpl : pl = [] ∨ ∃ l, pl = [l]) (hy : y < x) (hs : 16 ≤ x → 16 ≤ y) (hrp : y ≠ rp) (hrt : y ≠ rt) (hg : G y ≠ []) : rs_CurW R dec n rp rt x G (p1 ++ ((G y).map dec).flatten) (o1 ++ [256 + y]) := by
  obtain ⟨d1, d2, d3, d4⟩ := rs_Dn_spl h
  have hcl := (h.2.2.2.2.2.2.1 hrp hrt).1
  have hl := h.2.2.1
  have h6 := h.2.2.2.2.2.1
  rcases hpl with e | ⟨l, e⟩
  · have hclosed : ∀ a b, ((G y).map dec).flatten.head? = some b → ¬ R a b := by
      intro a b hb
      refine hcl e a b ?_
      rw [d1, e, List.map_nil, List.flatten_nil, List.nil_append, rl_head_app (rs_gfl_ne h hg)]
      exact hb
    exact rs_app_ref hc.1 hn hy hg hs hrp hrt hl d2 (fun a b _ hb => hclosed a b hb) (fun _ => hclosed)
  · obtain ⟨e1, e2⟩ := hp2 l e
    have nl : dec l ≠ [] := (h6.2.1 (dec l) (List.mem_map.mpr ⟨l, by rw [e]; simp, rfl⟩)).1
    refine rs_app_ref hc.1 hn hy hg hs hrp hrt hl d2 (fun a b ha hb => ?_) (fun q => absurd q e2)
    rw [e1, rl_last_app nl] at ha
    refine d3 a b ?_ hb
    rw [e, rs_mfl1]; exact ha
theorem rs_feed_W (h : rs_Dn R dec n rp rt G y W Cy pl pr) (hp1 : pl = [] → p1 = p) (hp2 : ∀ l, pl = [l] → p1 = p ++ dec l ∧ o1 ≠ []) (hpl : pl = [] ∨ ∃ l, pl = [l]) : p1 ++ ((G y).map dec).flatten ++ (pr.map dec).flatten = p ++ W := by
  obtain ⟨d1, d2, d3, d4⟩ := rs_Dn_spl h
  rw [d1]
  rcases hpl with e | ⟨l, e⟩
  · rw [hp1 e, e]; simp
  · rw [(hp2 l e).1, e, rs_mfl1]; simp
end
section
variable {f_maxRules f_maxLength f_letters f_ref f_room f_out f_head f_rootP f_rootT f_broken f_inLeft f_inRight f_size f_fresh f_blocking f_headBase f_headExp f_headMark f_tailBase f_tailExp f_tailCut f_tailMark : Int32} {a_used a_kinds a_partA a_partB a_lens a_begin a_popL a_popR a_need a_keyA a_keyB a_weight a_part a_remap a_hits a_span : Nat → Int32} {a_cur a_next : Nat → Int64}
variable {bl : Bool} {fr n0 : Nat} {pt0 : Nat → Int32} {wt : Nat → Nat} {rp rt x h : Nat} {next0 : Nat → Int64} {G W Cs PLs PRs : Nat → List Nat}
theorem rx_feed_60 {post : SX → Prop} {o n y : Nat} {p2 Wt : List Nat} (hx : x < 32) (hy : y < x) (hw : rs_Wk x h n0 next0 o n a_next) (hfr : fr ≤ n0) (hpw : rs_pw (a_popR y))
    (hs : f_broken = 0 → rs_St bl fr n0 pt0 wt rp rt x G W Cs PLs PRs n a_keyA a_keyB a_weight a_part ∧ rs_CurW (rs_R bl pt0) (rs_dec bl fr a_keyA a_keyB) n rp rt x G p2 (rc_sg a_next h o) ∧ (rs_pop (a_popR y) = [] → rs_Cur (rs_R bl pt0) (rs_dec bl fr a_keyA a_keyB) n rp rt x G p2 (rc_sg a_next h o) ∧ p2 = Wt) ∧ (∀ r, rs_pop (a_popR y) = [r] → r < n ∧ (∀ z, (rc_sg a_next h o).getLast? = some (256 + z) → ∀ a b, p2.getLast? = some a → (rs_dec bl fr a_keyA a_keyB r).head? = some b → ¬ rs_R bl pt0 a b) ∧ p2 ++ rs_dec bl fr a_keyA a_keyB r = Wt) ∧ Wt.length ≤ 2 ^ 20)
    (K : ∀ (o' n' : Nat) (a_next' : Nat → Int64) (f_broken' : Int32) (a_keyA' : Nat → Int32) (a_keyB' : Nat → Int32) (a_weight' : Nat → Int32) (a_part' : Nat → Int32), rs_Wk x h n0 next0 o' n' a_next' → n ≤ n' → (f_broken' = 0 → f_broken = 0 ∧ rs_St bl fr n0 pt0 wt rp rt x G W Cs PLs PRs n' a_keyA' a_keyB' a_weight' a_part' ∧ rs_Cur (rs_R bl pt0) (rs_dec bl fr a_keyA' a_keyB') n' rp rt x G Wt (rc_sg a_next' h o')) → post (f_maxRules, f_maxLength, f_letters, f_ref, f_room, nI o', nI h, f_rootP, f_rootT, f_broken', f_inLeft, f_inRight, nI n', nI fr, rj_b bl, f_headBase, f_headExp, f_headMark, f_tailBase, f_tailExp, f_tailCut, f_tailMark, a_used, a_kinds, a_partA, a_partB, a_lens, a_cur, a_next', a_begin, a_popL, a_popR, a_need, a_keyA', a_keyB', a_weight', a_part', a_remap, a_hits, a_span)) :
    wX_feed_60 post (nI y) f_maxRules f_maxLength f_letters f_ref f_room (nI o) (nI h) f_rootP f_rootT f_broken f_inLeft f_inRight (nI n) (nI fr) (rj_b bl) f_headBase f_headExp f_headMark f_tailBase f_tailExp f_tailCut f_tailMark a_used a_kinds a_partA a_partB a_lens a_cur a_next a_begin a_popL a_popR a_need a_keyA a_keyB a_weight a_part a_remap a_hits a_span := by
  unfold wX_feed_60
  have hv : vp_in (nI y) 32 := vp_in_nI (by omega) (by omega)
  rw [nI_clamp (by omega)]
  refine ⟨hv, ?_⟩
  rcases hpw with e | ⟨i, hi, e⟩
  · rw [e] at hs ⊢
    refine br_t (by decide) (K o n a_next f_broken a_keyA a_keyB a_weight a_part hw (Nat.le_refl _) (fun hb => ?_))
    obtain ⟨s1, s2, s3, s4, s5⟩ := hs hb
    obtain ⟨c1, c2⟩ := s3 rs_pop_m
    rw [c2] at c1
    exact ⟨hb, s1, c1⟩
  · rw [e] at hs ⊢
    refine br_f (nI_pos (by omega)) ⟨hv, ?_⟩
    by_cases hb0 : f_broken = 0
    · obtain ⟨s1, s2, s3, s4, s5⟩ := hs hb0
      obtain ⟨r1, r2, r3⟩ := s4 i (rs_pop_n (by omega))
      refine rx_emit (bl := bl) (fr := fr) (wt := wt) (pt0 := pt0) (rp := rp) (rt := rt) (n0 := n0) (next0 := next0) (x := x) (h := h) (G := G) (W := W) (Cs := Cs) (PLs := PLs) (PRs := PRs) (p := p2) (D := rs_dec bl fr a_keyA a_keyB i) hx hi hw hfr (fun hb => ⟨s1, s2, r2, r1, rfl, ?_⟩) (fun o' n' a_next' f_broken' a_keyA' a_keyB' a_weight' a_part' k1 k2 k3 => K o' n' a_next' f_broken' a_keyA' a_keyB' a_weight' a_part' k1 k2 (fun hb => ?_))
      · rw [← List.length_append, r3]; exact s5
      · obtain ⟨k4, k5, k6, k7⟩ := k3 hb
        rw [r3] at k6
        exact ⟨k4, k5, k6⟩
    · refine rx_emit (bl := bl) (fr := fr) (wt := wt) (pt0 := pt0) (rp := rp) (rt := rt) (n0 := n0) (next0 := next0) (x := x) (h := h) (G := G) (W := W) (Cs := Cs) (PLs := PLs) (PRs := PRs) (p := p2) (D := []) hx hi hw hfr (fun hb => absurd hb hb0) (fun o' n' a_next' f_broken' a_keyA' a_keyB' a_weight' a_part' k1 k2 k3 => K o' n' a_next' f_broken' a_keyA' a_keyB' a_weight' a_part' k1 k2 (fun hb => ?_))
      exact absurd (k3 hb).1 hb0
theorem rx_feed_38 {post : SX → Prop} {o n y : Nat} {p p1 : List Nat} (hx : x < 32) (hy : y < x) (hw : rs_Wk x h n0 next0 o n a_next) (hfr : fr ≤ n0) (hpw : rs_pw (a_popR y))
    (hs : f_broken = 0 → rs_St bl fr n0 pt0 wt rp rt x G W Cs PLs PRs n a_keyA a_keyB a_weight a_part ∧ rs_Cur (rs_R bl pt0) (rs_dec bl fr a_keyA a_keyB) n rp rt x G p1 (rc_sg a_next h o) ∧ (PLs y = [] → p1 = p) ∧ (∀ l, PLs y = [l] → p1 = p ++ rs_dec bl fr a_keyA a_keyB l ∧ rc_sg a_next h o ≠ []) ∧ (PLs y = [] ∨ ∃ l, PLs y = [l]) ∧ PRs y = rs_pop (a_popR y) ∧ (16 ≤ x → 16 ≤ y) ∧ y ≠ rp ∧ y ≠ rt ∧ (a_begin (y + 1) ≤ a_begin y ↔ Cs y = []) ∧ (p ++ W y).length ≤ 2 ^ 20)
    (K : ∀ (o' n' : Nat) (a_next' : Nat → Int64) (f_broken' : Int32) (a_keyA' : Nat → Int32) (a_keyB' : Nat → Int32) (a_weight' : Nat → Int32) (a_part' : Nat → Int32), rs_Wk x h n0 next0 o' n' a_next' → n ≤ n' → (f_broken' = 0 → f_broken = 0 ∧ rs_St bl fr n0 pt0 wt rp rt x G W Cs PLs PRs n' a_keyA' a_keyB' a_weight' a_part' ∧ rs_Cur (rs_R bl pt0) (rs_dec bl fr a_keyA' a_keyB') n' rp rt x G (p ++ W y) (rc_sg a_next' h o')) → post (f_maxRules, f_maxLength, f_letters, f_ref, f_room, nI o', nI h, f_rootP, f_rootT, f_broken', f_inLeft, f_inRight, nI n', nI fr, rj_b bl, f_headBase, f_headExp, f_headMark, f_tailBase, f_tailExp, f_tailCut, f_tailMark, a_used, a_kinds, a_partA, a_partB, a_lens, a_cur, a_next', a_begin, a_popL, a_popR, a_need, a_keyA', a_keyB', a_weight', a_part', a_remap, a_hits, a_span)) :
    wX_feed_38 post (nI (256 + y)) (nI y) f_maxRules f_maxLength f_letters f_ref f_room (nI o) (nI h) f_rootP f_rootT f_broken f_inLeft f_inRight (nI n) (nI fr) (rj_b bl) f_headBase f_headExp f_headMark f_tailBase f_tailExp f_tailCut f_tailMark a_used a_kinds a_partA a_partB a_lens a_cur a_next a_begin a_popL a_popR a_need a_keyA a_keyB a_weight a_part a_remap a_hits a_span := by
  unfold wX_feed_38
  rw [nI_1, nI_clamp (by omega), nI_clamp (by omega)]
  refine ⟨vp_in_nI (by omega) (by omega), vp_in_nI (by omega) (by omega), br_c (fun hbg => ?_) (fun hbg => ?_)⟩
  · refine rx_feed_60 (bl := bl) (fr := fr) (wt := wt) (pt0 := pt0) (rp := rp) (rt := rt) (n0 := n0) (next0 := next0) (x := x) (h := h) (G := G) (W := W) (Cs := Cs) (PLs := PLs) (PRs := PRs) (p2 := p1) (Wt := p ++ W y) hx hy hw hfr hpw (fun hb => ?_) K
    obtain ⟨s1, s2, s3, s4, s5, s6, s7, s8, s9, s10, s11⟩ := hs hb
    have dn := s1.2 y hy
    have hG : G y = [] := by rw [dn.1, s10.mp hbg]; rfl
    have hWt := rs_feed_W (p := p) dn s3 s4 s5
    rw [hG, List.map_nil, List.flatten_nil, List.append_nil] at hWt
    refine ⟨s1, s2.1, fun e => ⟨s2, ?_⟩, fun r e => ⟨dn.2.2.2.2.1 r (by rw [s6, e]; simp), fun z hz a b ha hb' => s2.2 z hz a b ha, ?_⟩, s11⟩
    · rw [s6, e] at hWt; simpa using hWt
    · rw [s6, e, rs_mfl1] at hWt; exact hWt
  · refine rx_append hw.2.1 (fun ho => ?_) ?_
    · refine rx_feed_60 (bl := bl) (fr := fr) (wt := wt) (pt0 := pt0) (rp := rp) (rt := rt) (n0 := n0) (next0 := next0) (x := x) (h := h) (G := G) (W := W) (Cs := Cs) (PLs := PLs) (PRs := PRs) (p2 := p1 ++ ((G y).map (rs_dec bl fr a_keyA a_keyB)).flatten) (Wt := p ++ W y) hx hy (rs_Wk_app hw (by omega) hx ho) hfr hpw (fun hb => ?_) K
      obtain ⟨s1, s2, s3, s4, s5, s6, s7, s8, s9, s10, s11⟩ := hs hb
      have dn := s1.2 y hy
      have hn := hw.2.2.2.1
      have hC : Cs y ≠ [] := fun e => hbg (s10.mpr e)
      have hG : G y ≠ [] := by rw [dn.1]; exact rs_fl_ne hn dn.2.1 hC
      have hWt := rs_feed_W (p := p) dn s3 s4 s5
      obtain ⟨d1, d2, d3, d4⟩ := rs_Dn_spl dn
      have f2 := rs_feed2 dn hn s2 s3 s4 s5 hy s7 s8 s9 hG
      have gne := rs_gfl_ne dn hG
      rw [rc_sg_pu hw.1 (by omega)]
      refine ⟨s1, f2, fun e => ⟨⟨f2, fun z hz a b ha => ?_⟩, ?_⟩, fun r e => ⟨dn.2.2.2.2.1 r (by rw [s6, e]; simp), fun z hz a b ha hb' => ?_, ?_⟩, s11⟩
      · refine (dn.2.2.2.2.2.2.1 s8 s9).2 (by rw [s6, e]) hG a b ?_
        rw [rl_last_app gne] at ha
        rw [d1, s6, e, List.map_nil, List.flatten_nil, List.append_nil, rl_last_app gne]
        exact ha
      · rw [s6, e] at hWt; simpa using hWt
      · rw [rl_last_app gne] at ha
        refine d4 a b ha ?_
        rw [s6, e, rs_mfl1]; exact hb'
      · rw [s6, e, rs_mfl1] at hWt; exact hWt
    · exact rx_feed_60 (bl := bl) (fr := fr) (wt := wt) (pt0 := pt0) (rp := rp) (rt := rt) (n0 := n0) (next0 := next0) (x := x) (h := h) (G := G) (W := W) (Cs := Cs) (PLs := PLs) (PRs := PRs) (p2 := p1) (Wt := p ++ W y) hx hy hw hfr hpw (fun hb => absurd hb (by decide)) (fun o' n' a_next' f_broken' a_keyA' a_keyB' a_weight' a_part' k1 k2 k3 => K o' n' a_next' f_broken' a_keyA' a_keyB' a_weight' a_part' k1 k2 (fun hb => absurd (k3 hb).1 (by decide)))
theorem rx_feed {post : SX → Prop} {o n c : Nat} {p : List Nat} (hx : x < 32) (hc : c < 256 + x) (hw : rs_Wk x h n0 next0 o n a_next) (hfr : fr ≤ n0) (hpw : ∀ y, y < x → rs_pw (a_popL y) ∧ rs_pw (a_popR y))
    (hs : f_broken = 0 → rs_St bl fr n0 pt0 wt rp rt x G W Cs PLs PRs n a_keyA a_keyB a_weight a_part ∧ rs_Cur (rs_R bl pt0) (rs_dec bl fr a_keyA a_keyB) n rp rt x G p (rc_sg a_next h o) ∧ rs_cell rp rt n0 x W c ∧ (∀ y, y < x → PLs y = rs_pop (a_popL y) ∧ PRs y = rs_pop (a_popR y) ∧ (a_begin (y + 1) ≤ a_begin y ↔ Cs y = [])) ∧ (p ++ rs_cx W c).length ≤ 2 ^ 20)
    (K : ∀ (o' n' : Nat) (a_next' : Nat → Int64) (f_broken' : Int32) (a_keyA' : Nat → Int32) (a_keyB' : Nat → Int32) (a_weight' : Nat → Int32) (a_part' : Nat → Int32), rs_Wk x h n0 next0 o' n' a_next' → n ≤ n' → (f_broken' = 0 → f_broken = 0 ∧ rs_St bl fr n0 pt0 wt rp rt x G W Cs PLs PRs n' a_keyA' a_keyB' a_weight' a_part' ∧ rs_Cur (rs_R bl pt0) (rs_dec bl fr a_keyA' a_keyB') n' rp rt x G (p ++ rs_cx W c) (rc_sg a_next' h o')) → post (f_maxRules, f_maxLength, f_letters, f_ref, f_room, nI o', nI h, f_rootP, f_rootT, f_broken', f_inLeft, f_inRight, nI n', nI fr, rj_b bl, f_headBase, f_headExp, f_headMark, f_tailBase, f_tailExp, f_tailCut, f_tailMark, a_used, a_kinds, a_partA, a_partB, a_lens, a_cur, a_next', a_begin, a_popL, a_popR, a_need, a_keyA', a_keyB', a_weight', a_part', a_remap, a_hits, a_span)) :
    wpX_feed post (f_maxRules, f_maxLength, f_letters, f_ref, f_room, nI o, nI h, f_rootP, f_rootT, f_broken, f_inLeft, f_inRight, nI n, nI fr, rj_b bl, f_headBase, f_headExp, f_headMark, f_tailBase, f_tailExp, f_tailCut, f_tailMark, a_used, a_kinds, a_partA, a_partB, a_lens, a_cur, a_next, a_begin, a_popL, a_popR, a_need, a_keyA, a_keyB, a_weight, a_part, a_remap, a_hits, a_span) (nI c) := by
  unfold wpX_feed
  dsimp only
  refine pk_le 256 c (fun h256 => ?_) (fun h256 => ?_)
  · obtain ⟨y, rfl⟩ : ∃ y, c = 256 + y := ⟨c - 256, by omega⟩
    have hy : y < x := by omega
    have hv : vp_in (nI y) 32 := vp_in_nI (by omega) (by omega)
    obtain ⟨hpl, hpr⟩ := hpw y hy
    have esub : nI (256 + y) - 256 = nI y := by
      have := pk_sub (a := 256 + y) (b := 256) (by omega)
      rw [Nat.add_sub_cancel_left] at this
      exact this
    refine nm_r esub ?_
    rw [nI_clamp (by omega)]
    refine ⟨hv, ?_⟩
    rw [rs_cx_r] at K
    rcases hpl with e | ⟨i, hi, e⟩
    · rw [e]
      refine br_t (by decide) (rx_feed_38 (bl := bl) (fr := fr) (wt := wt) (pt0 := pt0) (rp := rp) (rt := rt) (n0 := n0) (next0 := next0) (x := x) (h := h) (G := G) (W := W) (Cs := Cs) (PLs := PLs) (PRs := PRs) (p := p) (p1 := p) hx hy hw hfr hpr (fun hb => ?_) K)
      obtain ⟨s1, s2, s3, s4, s5⟩ := hs hb
      obtain ⟨l1, l2, l3⟩ := s4 y hy
      rw [e, rs_pop_m] at l1
      rw [rs_cx_r] at s5
      rcases s3 with q | ⟨z, q1, q2, q3, q4, q5, q6⟩
      · exfalso; have := s1.1.2.1; have := s1.1.1; omega
      · have : z = y := by omega
        subst this
        exact ⟨s1, s2, fun _ => rfl, fun l hl => (by rw [l1] at hl; cases hl), Or.inl l1, l2, q4, q5, q6, l3, s5⟩
    · rw [e]
      refine br_f (nI_pos (by omega)) ⟨hv, ?_⟩
      refine rx_emit (bl := bl) (fr := fr) (wt := wt) (pt0 := pt0) (rp := rp) (rt := rt) (n0 := n0) (next0 := next0) (x := x) (h := h) (G := G) (W := W) (Cs := Cs) (PLs := PLs) (PRs := PRs) (p := p) (D := rs_dec bl fr a_keyA a_keyB i) hx hi hw hfr (fun hb => ?_) (fun o' n' a_next' f_broken' a_keyA' a_keyB' a_weight' a_part' k1 k2 k3 => ?_)
      · obtain ⟨s1, s2, s3, s4, s5⟩ := hs hb
        obtain ⟨l1, l2, l3⟩ := s4 y hy
        rw [e, rs_pop_n (by omega)] at l1
        have dn := s1.2 y hy
        refine ⟨s1, s2.1, fun z hz a b ha _ => s2.2 z hz a b ha, dn.2.2.2.1 i (by rw [l1]; simp), rfl, ?_⟩
        have := (rs_Dn_spl dn).1
        rw [l1, rs_mfl1] at this
        rw [rs_cx_r, this] at s5
        simp at s5
        omega
      · refine rx_feed_38 (bl := bl) (fr := fr) (wt := wt) (pt0 := pt0) (rp := rp) (rt := rt) (n0 := n0) (next0 := next0) (x := x) (h := h) (G := G) (W := W) (Cs := Cs) (PLs := PLs) (PRs := PRs) (p := p) (p1 := p ++ rs_dec bl fr a_keyA a_keyB i) hx hy k1 hfr hpr (fun hb => ?_) (fun o'' n'' a_next'' f_broken'' a_keyA'' a_keyB'' a_weight'' a_part'' m1 m2 m3 => K o'' n'' a_next'' f_broken'' a_keyA'' a_keyB'' a_weight'' a_part'' m1 (by omega) (fun hb => ?_))
        · obtain ⟨k4, k5, k6, k7⟩ := k3 hb
          obtain ⟨s1, s2, s3, s4, s5⟩ := hs k4
          obtain ⟨l1, l2, l3⟩ := s4 y hy
          rw [e, rs_pop_n (by omega)] at l1
          have dn := s1.2 y hy
          have hin := dn.2.2.2.1 i (by rw [l1]; simp)
          rw [rs_cx_r] at s5
          rcases s3 with q | ⟨z, q1, q2, q3, q4, q5, q6⟩
          · exfalso; have := s1.1.2.1; have := s1.1.1; omega
          · have : z = y := by omega
            subst this
            refine ⟨k5, k6, fun q => (by rw [l1] at q; cases q), fun l hl => ?_, Or.inr ⟨i, l1⟩, l2, q4, q5, q6, l3, s5⟩
            rw [l1] at hl
            cases hl
            refine ⟨by rw [k7 i hin], fun q => ?_⟩
            rw [q] at k6
            have := rs_curW_nil k6.1
            have nd := (s1.1.2.2.2.2.2.1 i hin).1
            exact nd (List.append_eq_nil_iff.mp this).2
        · obtain ⟨m4, m5, m6⟩ := m3 hb
          exact ⟨(k3 m4).1, m5, m6⟩
  · rw [rs_cx_l h256] at K
    refine rx_emit (bl := bl) (fr := fr) (wt := wt) (pt0 := pt0) (rp := rp) (rt := rt) (n0 := n0) (next0 := next0) (x := x) (h := h) (G := G) (W := W) (Cs := Cs) (PLs := PLs) (PRs := PRs) (p := p) (D := [c]) hx h256 hw hfr (fun hb => ?_) (fun o' n' a_next' f_broken' a_keyA' a_keyB' a_weight' a_part' k1 k2 k3 => K o' n' a_next' f_broken' a_keyA' a_keyB' a_weight' a_part' k1 k2 (fun hb => ?_))
    · obtain ⟨s1, s2, s3, s4, s5⟩ := hs hb
      rw [rs_cx_l h256] at s5
      rcases s3 with q | ⟨z, q1, _⟩
      · refine ⟨s1, s2.1, fun z hz a b ha _ => s2.2 z hz a b ha, Nat.lt_of_lt_of_le q s1.1.1, s1.1.2.2.2.2.1 c q, ?_⟩
        rw [List.length_append] at s5; exact s5
      · omega
    · obtain ⟨k4, k5, k6, k7⟩ := k3 hb
      exact ⟨k4, k5, k6⟩
end
end
section
/-! pops, dropHead, trim -/
def rs_pp (bl : Bool) (pt : Nat → Int32) (c : Nat) (v : Int32) : Prop := c < 256 ∧ (bl = true ∨ pt c = v)
section
variable {f_maxRules f_maxLength f_letters f_ref f_room f_out f_head f_rootP f_rootT f_broken f_inLeft f_inRight f_size f_fresh f_blocking f_headBase f_headExp f_headMark f_tailBase f_tailExp f_tailCut f_tailMark : Int32} {a_used a_kinds a_partA a_partB a_lens a_begin a_popL a_popR a_need a_keyA a_keyB a_weight a_part a_remap a_hits a_span : Nat → Int32} {a_cur a_next : Nat → Int64}
theorem rx_pops {post : Int32 → Prop} {bl : Bool} {c : Nat} {v : Int32} (hc : c < 65536) (h1 : rs_pp bl a_part c v → post 1) (h0 : ¬ rs_pp bl a_part c v → post 0) : wpX_pops post (f_maxRules, f_maxLength, f_letters, f_ref, f_room, f_out, f_head, f_rootP, f_rootT, f_broken, f_inLeft, f_inRight, f_size, f_fresh, rj_b bl, f_headBase, f_headExp, f_headMark, f_tailBase, f_tailExp, f_tailCut, f_tailMark, a_used, a_kinds, a_partA, a_partB, a_lens, a_cur, a_next, a_begin, a_popL, a_popR, a_need, a_keyA, a_keyB, a_weight, a_part, a_remap, a_hits, a_span) (nI c) v := by
  unfold wpX_pops
  refine pk_le 256 c (fun h => h0 fun z => by have := z.1; omega) (fun h => ?_)
  cases bl with
  | false =>
    refine br_t rfl ⟨vp_in_nI h (by omega), ?_⟩
    rw [nI_clamp (by omega)]
    exact br_c (fun e => h1 ⟨h, Or.inr e⟩) (fun e => h0 fun z => by
      rcases z.2 with q | q
      · cases q
      · exact e q)
  | true => exact br_f (by decide) (h1 ⟨h, Or.inl rfl⟩)
theorem rx_dropHead_5 {post : SX → Prop} {q h : Nat} (hq : q < 1024) (K : ∀ next' : Nat → Int64, (∀ k, k < h → rc_c next' k = rc_c a_next k) → (∀ k, h ≤ k → k < q → rc_c next' k = rc_c a_next (k + 1)) → post (f_maxRules, f_maxLength, f_letters, f_ref, f_room, nI q, nI h, f_rootP, f_rootT, f_broken, f_inLeft, f_inRight, f_size, f_fresh, f_blocking, f_headBase, f_headExp, f_headMark, f_tailBase, f_tailExp, f_tailCut, f_tailMark, a_used, a_kinds, a_partA, a_partB, a_lens, a_cur, next', a_begin, a_popL, a_popR, a_need, a_keyA, a_keyB, a_weight, a_part, a_remap, a_hits, a_span)) : ∀ d k (next' : Nat → Int64), k + d = q → h ≤ k → (∀ j, j < h → rc_c next' j = rc_c a_next j) → (∀ j, h ≤ j → j < k → rc_c next' j = rc_c a_next (j + 1)) → (∀ j, k ≤ j → rc_c next' j = rc_c a_next j) → wX_dropHead_5 post (d + 1) (nI k) f_maxRules f_maxLength f_letters f_ref f_room (nI (q + 1)) (nI h) f_rootP f_rootT f_broken f_inLeft f_inRight f_size f_fresh f_blocking f_headBase f_headExp f_headMark f_tailBase f_tailExp f_tailCut f_tailMark a_used a_kinds a_partA a_partB a_lens a_cur next' a_begin a_popL a_popR a_need a_keyA a_keyB a_weight a_part a_remap a_hits a_span := by
  intro d
  induction d with
  | zero =>
    intro k next' hk hh h1 h2 h3
    have e : k = q := by omega
    subst e
    refine pk_le (k + 1) (k + 1) (fun _ => ?_) (fun z => by omega) rfl (nI_1 k)
    exact nm_r (nI_pred k) (K next' h1 h2)
  | succ d ih =>
    intro k next' hk hh h1 h2 h3
    refine pk_le (q + 1) (k + 1) (fun z => by omega) (fun _ => ?_) rfl (nI_1 k)
    rw [nI_1 k]
    refine rx_peek (by omega) (rx_put (by omega) ?_)
    have hc : rc_c next' (k + 1) < 65536 := rc_lt _ _
    refine nm_e (ih (k + 1) _ (by omega) (by omega) (fun j hj => ?_) (fun j hj hj' => ?_) (fun j hj => ?_))
    · rw [rc_pu_n _ hc (by omega)]; exact h1 j hj
    · by_cases e : j = k
      · subst e; rw [rc_pu_s _ hc]; exact h3 (j + 1) (by omega)
      · rw [rc_pu_n _ hc e]; exact h2 j hj (by omega)
    · rw [rc_pu_n _ hc (by omega)]; exact h3 j (by omega)
theorem rx_dropHead {post : SX → Prop} {q h : Nat} (hq : q < 1024) (hh : h ≤ q) (K : ∀ next' : Nat → Int64, (∀ k, k < h → rc_c next' k = rc_c a_next k) → (∀ k, h ≤ k → k < q → rc_c next' k = rc_c a_next (k + 1)) → post (f_maxRules, f_maxLength, f_letters, f_ref, f_room, nI q, nI h, f_rootP, f_rootT, f_broken, f_inLeft, f_inRight, f_size, f_fresh, f_blocking, f_headBase, f_headExp, f_headMark, f_tailBase, f_tailExp, f_tailCut, f_tailMark, a_used, a_kinds, a_partA, a_partB, a_lens, a_cur, next', a_begin, a_popL, a_popR, a_need, a_keyA, a_keyB, a_weight, a_part, a_remap, a_hits, a_span)) : wpX_dropHead post (f_maxRules, f_maxLength, f_letters, f_ref, f_room, nI (q + 1), nI h, f_rootP, f_rootT, f_broken, f_inLeft, f_inRight, f_size, f_fresh, f_blocking, f_headBase, f_headExp, f_headMark, f_tailBase, f_tailExp, f_tailCut, f_tailMark, a_used, a_kinds, a_partA, a_partB, a_lens, a_cur, a_next, a_begin, a_popL, a_popR, a_need, a_keyA, a_keyB, a_weight, a_part, a_remap, a_hits, a_span) :=
  ⟨q - h + 1, rx_dropHead_5 hq K (q - h) h a_next (by omega) (Nat.le_refl _) (fun _ _ => rfl) (fun j h1 h2 => by omega) (fun _ _ => rfl)⟩
variable {bl : Bool} {fr n0 : Nat} {pt0 : Nat → Int32} {wt : Nat → Nat} {rp rt x h : Nat} {G : Nat → List Nat} {Wx : List Nat}
theorem rx_trim_71 {post : SX → Prop} {o n : Nat} {pl : List Nat} (hx : x < 32) (hh : h ≤ o) (ho : o ≤ 1024) (hn : n ≤ 256) (hc : ∀ k, h ≤ k → k < o → rc_c a_next k < 256 + x) (hpl : rs_pw (a_popL x)) (hpr : a_popR x = -1) (nrp : x ≠ rp) (nrt : x ≠ rt)
    (hs : f_broken = 0 → rs_TB bl fr n0 pt0 wt n a_keyA a_keyB a_weight a_part ∧ rs_Cur (rs_R bl pt0) (rs_dec bl fr a_keyA a_keyB) n rp rt x G Wx (pl ++ rc_sg a_next h o) ∧ (∀ i, i ∈ pl → i < n) ∧ (pl = [] → ∀ a b, Wx.head? = some b → ¬ rs_R bl pt0 a b) ∧ pl = rs_pop (a_popL x))
    (K : ∀ (o' : Nat) (a_popR' : Nat → Int32), h ≤ o' → o' ≤ o → (∀ y, y ≠ x → a_popR' y = a_popR y) → rs_pw (a_popR' x) → (f_broken = 0 → rs_Dn (rs_R bl pt0) (rs_dec bl fr a_keyA a_keyB) n rp rt (rs_up G x (rs_fl G (rc_sg a_next h o'))) x Wx (rc_sg a_next h o') (rs_pop (a_popL x)) (rs_pop (a_popR' x))) → post (f_maxRules, f_maxLength, f_letters, f_ref, f_room, nI o', nI h, f_rootP, f_rootT, f_broken, f_inLeft, f_inRight, nI n, nI fr, rj_b bl, f_headBase, f_headExp, f_headMark, f_tailBase, f_tailExp, f_tailCut, f_tailMark, a_used, a_kinds, a_partA, a_partB, a_lens, a_cur, a_next, a_begin, a_popL, a_popR', a_need, a_keyA, a_keyB, a_weight, a_part, a_remap, a_hits, a_span)) :
    wX_trim_71 post (nI x) f_maxRules f_maxLength f_letters f_ref f_room (nI o) (nI h) f_rootP f_rootT f_broken f_inLeft f_inRight (nI n) (nI fr) (rj_b bl) f_headBase f_headExp f_headMark f_tailBase f_tailExp f_tailCut f_tailMark a_used a_kinds a_partA a_partB a_lens a_cur a_next a_begin a_popL a_popR a_need a_keyA a_keyB a_weight a_part a_remap a_hits a_span := by
  unfold wX_trim_71
  refine pk_le o h (fun hoh => ?_) (fun hoh => ?_)
  · refine K o a_popR hh (Nat.le_refl _) (fun _ _ => rfl) (Or.inl hpr) (fun hb => ?_)
    obtain ⟨s1, s2, s3, s4, s5⟩ := hs hb
    rw [hpr, rs_pop_m, ← s5]
    have e : rc_sg a_next h o = [] := rc_sg_nil hoh
    rw [e] at s2 ⊢
    exact rs_trim (pr := []) (by rw [List.append_nil]; exact s2) hn nrp nrt s3 (fun i hi => by cases hi) s4 (fun _ q => absurd rfl q)
  · obtain ⟨q, rfl⟩ : ∃ q, o = q + 1 := ⟨o - 1, by omega⟩
    have hq : h ≤ q := by omega
    rw [nI_pred]
    refine rx_peek (by omega) ?_
    have ec : rc_sg a_next h (q + 1) = rc_sg a_next h q ++ [rc_c a_next q] := rc_sg_snoc hq
    have hcl := hc q hq (by omega)
    generalize hcc : rc_c a_next q = c at ec hcl
    refine rx_pops (by omega) (fun hp => br_f (by decide) ⟨vp_in_nI hx (by omega), ?_⟩) (fun hp => br_t rfl ?_)
    · rw [nI_clamp (by omega)]
      refine nm_e (nm_e (K q (upd a_popR x (nI c)) hq (by omega) (fun y hy => pk_un hy) (Or.inr ⟨c, hp.1, pk_us⟩) (fun hb => ?_)))
      obtain ⟨s1, s2, s3, s4, s5⟩ := hs hb
      have hp1 := hp.1
      rw [pk_us, rs_pop_n (by omega), ← s5]
      rw [ec, ← List.append_assoc] at s2
      refine rs_trim s2 hn nrp nrt s3 (fun i hi => ?_) s4 (fun q => by cases q)
      rw [List.mem_singleton] at hi
      subst hi
      exact (rs_curW_last s2.1 hp1).2.2
    · refine K (q + 1) a_popR hh (Nat.le_refl _) (fun _ _ => rfl) (Or.inl hpr) (fun hb => ?_)
      obtain ⟨s1, s2, s3, s4, s5⟩ := hs hb
      rw [hpr, rs_pop_m, ← s5]
      have s2' := s2
      rw [ec, ← List.append_assoc] at s2'
      refine rs_trim (pr := []) (by rw [List.append_nil]; exact s2) hn nrp nrt s3 (fun i hi => by cases hi) s4 (fun _ _ a b ha => ?_)
      rcases Nat.lt_or_ge c 256 with hc1 | hc1
      · obtain ⟨l1, l2, l3⟩ := rs_curW_last s2'.1 hc1
        rw [l2] at ha
        have hbl : bl = false := by
          cases bl with
          | false => rfl
          | true => exact absurd ⟨hc1, Or.inl rfl⟩ hp
        exact rs_keepR s1 l3 hbl (fun z => hp ⟨hc1, Or.inr z⟩) ha b
      · refine s2'.2 (c - 256) ?_ a b ha
        rw [List.getLast?_concat]
        congr 1; omega
theorem rx_trim {post : SX → Prop} {o n : Nat} (hx : x < 32) (hh : h ≤ o) (ho : o ≤ 1024) (hn : n ≤ 256) (hc : ∀ k, h ≤ k → k < o → rc_c a_next k < 256 + x) (hrp : rp < 32) (hrt : rt < 32)
    (hs : f_broken = 0 → rs_TB bl fr n0 pt0 wt n a_keyA a_keyB a_weight a_part ∧ rs_Cur (rs_R bl pt0) (rs_dec bl fr a_keyA a_keyB) n rp rt x G Wx (rc_sg a_next h o))
    (K : ∀ (o' : Nat) (a_next' : Nat → Int64) (a_popL' : Nat → Int32) (a_popR' : Nat → Int32), h ≤ o' → o' ≤ 1024 → (∀ k, k < h → rc_c a_next' k = rc_c a_next k) → (∀ k, h ≤ k → k < o' → rc_c a_next' k < 256 + x) → (∀ y, y ≠ x → a_popL' y = a_popL y ∧ a_popR' y = a_popR y) → rs_pw (a_popL' x) → rs_pw (a_popR' x) → (f_broken = 0 → rs_Dn (rs_R bl pt0) (rs_dec bl fr a_keyA a_keyB) n rp rt (rs_up G x (rs_fl G (rc_sg a_next' h o'))) x Wx (rc_sg a_next' h o') (rs_pop (a_popL' x)) (rs_pop (a_popR' x))) → post (f_maxRules, f_maxLength, f_letters, f_ref, f_room, nI o', nI h, nI rp, nI rt, f_broken, f_inLeft, f_inRight, nI n, nI fr, rj_b bl, f_headBase, f_headExp, f_headMark, f_tailBase, f_tailExp, f_tailCut, f_tailMark, a_used, a_kinds, a_partA, a_partB, a_lens, a_cur, a_next', a_begin, a_popL', a_popR', a_need, a_keyA, a_keyB, a_weight, a_part, a_remap, a_hits, a_span)) :
    wpX_trim post (f_maxRules, f_maxLength, f_letters, f_ref, f_room, nI o, nI h, nI rp, nI rt, f_broken, f_inLeft, f_inRight, nI n, nI fr, rj_b bl, f_headBase, f_headExp, f_headMark, f_tailBase, f_tailExp, f_tailCut, f_tailMark, a_used, a_kinds, a_partA, a_partB, a_lens, a_cur, a_next, a_begin, a_popL, a_popR, a_need, a_keyA, a_keyB, a_weight, a_part, a_remap, a_hits, a_span) (nI x) := by
  unfold wpX_trim
  dsimp only
  have hv : vp_in (nI x) 32 := vp_in_nI hx (by omega)
  rw [nI_clamp (by omega)]
  refine ⟨hv, nm_e ⟨hv, nm_e ?_⟩⟩
  have kroot : (x = rp ∨ x = rt) → post (f_maxRules, f_maxLength, f_letters, f_ref, f_room, nI o, nI h, nI rp, nI rt, f_broken, f_inLeft, f_inRight, nI n, nI fr, rj_b bl, f_headBase, f_headExp, f_headMark, f_tailBase, f_tailExp, f_tailCut, f_tailMark, a_used, a_kinds, a_partA, a_partB, a_lens, a_cur, a_next, a_begin, upd a_popL x (-1), upd a_popR x (-1), a_need, a_keyA, a_keyB, a_weight, a_part, a_remap, a_hits, a_span) := by
    intro hr
    refine K o a_next _ _ hh ho (fun _ _ => rfl) hc (fun y hy => ⟨pk_un hy, pk_un hy⟩) (Or.inl pk_us) (Or.inl pk_us) (fun hb => ?_)
    rw [pk_us, pk_us, rs_pop_m]
    exact rs_root (hs hb).2 hn hr
  refine pk_eq x rp (fun e => kroot (Or.inl e)) (fun nrp => pk_eq x rt (fun e => kroot (Or.inr e)) (fun nrt => ?_))
  refine pk_le o h (fun hoh => ?_) (fun hoh => ?_)
  · refine rx_trim_71 (wt := wt) (n0 := n0) (pt0 := pt0) (rp := rp) (rt := rt) (G := G) (Wx := Wx) (pl := []) hx hh ho hn hc (Or.inl pk_us) pk_us nrp nrt (fun hb => ?_) (fun o' a_popR' k1 k2 k3 k4 k5 => ?_)
    · obtain ⟨s1, s2⟩ := hs hb
      refine ⟨s1, s2, fun i hi => (by cases hi), fun _ a b hb' => ?_, by rw [pk_us, rs_pop_m]⟩
      have e : rc_sg a_next h o = [] := rc_sg_nil hoh
      rw [e] at s2
      rw [rs_curW_nil s2.1] at hb'
      cases hb'
    · refine K o' a_next _ a_popR' k1 (by omega) (fun _ _ => rfl) (fun k h1 h2 => hc k h1 (by omega)) (fun y hy => ⟨pk_un hy, ?_⟩) (Or.inl pk_us) k4 k5
      rw [k3 y hy, pk_un hy]
  · obtain ⟨q, rfl⟩ : ∃ q, o = q + 1 := ⟨o - 1, by omega⟩
    have hq : h ≤ q := by omega
    refine rx_peek (by omega) ?_
    have ec : rc_sg a_next h (q + 1) = rc_c a_next h :: rc_sg a_next (h + 1) (q + 1) := rc_sg_cons (by omega)
    have hcl := hc h (Nat.le_refl _) (by omega)
    generalize hcc : rc_c a_next h = c at ec hcl
    refine rx_pops (by omega) (fun hp => br_f (by decide) ⟨hv, nm_e ?_⟩) (fun hp => br_t rfl ?_)
    · refine rx_dropHead (by omega) hq (fun next' d1 d2 => ?_)
      dsimp only
      have hp1 := hp.1
      have esg : rc_sg next' h q = rc_sg a_next (h + 1) (q + 1) := rc_sg_shift (by omega) (fun t ht => by rw [d2 (h + t) (by omega) (by omega)]; congr 1; omega)
      refine rx_trim_71 (wt := wt) (n0 := n0) (pt0 := pt0) (rp := rp) (rt := rt) (G := G) (Wx := Wx) (pl := [c]) hx hq (by omega) hn (fun k h1 h2 => ?_) (Or.inr ⟨c, hp1, pk_us⟩) pk_us nrp nrt (fun hb => ?_) (fun o' a_popR' k1 k2 k3 k4 k5 => ?_)
      · rw [d2 k h1 h2]; exact hc (k + 1) (by omega) (by omega)
      · obtain ⟨s1, s2⟩ := hs hb
        rw [ec] at s2
        rw [esg]
        refine ⟨s1, s2, fun i hi => ?_, fun z => (by cases z), by rw [pk_us, rs_pop_n (by omega)]⟩
        rw [List.mem_singleton] at hi
        subst hi
        exact (rs_curW_first s2.1 hp1).2.2
      · refine K o' next' _ a_popR' k1 (by omega) d1 (fun k h1 h2 => ?_) (fun y hy => ⟨?_, ?_⟩) (Or.inr ⟨c, hp1, pk_us⟩) k4 k5
        · rw [d2 k h1 (by omega)]; exact hc (k + 1) (by omega) (by omega)
        · rw [pk_un hy, pk_un hy]
        · rw [k3 y hy, pk_un hy]
    · refine rx_trim_71 (wt := wt) (n0 := n0) (pt0 := pt0) (rp := rp) (rt := rt) (G := G) (Wx := Wx) (pl := []) hx hh ho hn hc (Or.inl pk_us) pk_us nrp nrt (fun hb => ?_) (fun o' a_popR' k1 k2 k3 k4 k5 => ?_)
      · obtain ⟨s1, s2⟩ := hs hb
        refine ⟨s1, s2, fun i hi => (by cases hi), fun _ a b hb' => ?_, by rw [pk_us, rs_pop_m]⟩
        rw [ec] at s2
        rcases Nat.lt_or_ge c 256 with hc1 | hc1
        · obtain ⟨l1, l2, l3⟩ := rs_curW_first s2.1 hc1
          rw [l2] at hb'
          have hbl : bl = false := by
            cases bl with
            | false => rfl
            | true => exact absurd ⟨hc1, Or.inl rfl⟩ hp
          exact rs_keepL s1 l3 hbl (fun z => hp ⟨hc1, Or.inr z⟩) hb' a
        · refine s2.1.2.2.2 (c - 256) ?_ a b hb'
          show some c = some (256 + (c - 256))
          congr 1; omega
      · refine K o' a_next _ a_popR' k1 (by omega) (fun _ _ => rfl) (fun k h1 h2 => hc k h1 (by omega)) (fun y hy => ⟨pk_un hy, ?_⟩) (Or.inl pk_us) k4 k5
        rw [k3 y hy, pk_un hy]
end
end
section
/-! sweep -/
def rg_W (b : Nat → Nat) (cur : Nat → Int64) (beg : Nat → Int32) : Prop :=
  b 0 = 0 ∧ (∀ x, x < 32 → b x ≤ b (x + 1)) ∧ b 32 ≤ 1024 ∧ (∀ x, x ≤ 32 → beg x = nI (b x)) ∧ ∀ x, x < 32 → ∀ k, b x ≤ k → k < b (x + 1) → rc_c cur k < 256 + x
theorem rg_mono {b : Nat → Nat} {N : Nat} (h : ∀ x, x < N → b x ≤ b (x + 1)) : ∀ d y, y + d ≤ N → b y ≤ b (y + d) := by
  intro d
  induction d with
  | zero => intro y _; exact Nat.le_refl _
  | succ d ih => intro y hy; exact Nat.le_trans (ih y (by omega)) (h (y + d) (by omega))
theorem rg_le {b : Nat → Nat} {N : Nat} (h : ∀ x, x < N → b x ≤ b (x + 1)) {y z : Nat} (hyz : y ≤ z) (hz : z ≤ N) : b y ≤ b z := by
  have := rg_mono h (z - y) y (by omega)
  rwa [show y + (z - y) = z by omega] at this
theorem rg_b32 {b : Nat → Nat} {cur : Nat → Int64} {beg : Nat → Int32} (h : rg_W b cur beg) {x : Nat} (hx : x ≤ 32) : b x ≤ 1024 :=
  Nat.le_trans (rg_le h.2.1 hx (Nat.le_refl _)) h.2.2.1
theorem rc_sg_empty {a : Nat → Int64} {i j : Nat} : rc_sg a i j = [] ↔ j ≤ i := by
  constructor
  · intro q
    have := congrArg List.length q
    rw [rc_sg_len] at this
    simp at this
    omega
  · exact rc_sg_nil
section
variable {f_maxRules f_maxLength f_letters f_ref f_room f_out f_head f_rootP f_rootT f_broken f_inLeft f_inRight f_size f_fresh f_blocking f_headBase f_headExp f_headMark f_tailBase f_tailExp f_tailCut f_tailMark : Int32} {a_used a_kinds a_partA a_partB a_lens a_begin a_popL a_popR a_need a_keyA a_keyB a_weight a_part a_remap a_hits a_span : Nat → Int32} {a_cur a_next : Nat → Int64}
variable {bl : Bool} {fr n0 : Nat} {pt0 : Nat → Int32} {wt : Nat → Nat} {rp rt x h : Nat} {next0 : Nat → Int64} {G W Cs PLs PRs : Nat → List Nat}
theorem rx_sweep_57 {post : SX → Prop} {J : Int32 → Int32 → Int32 → Int32 → Int32 → Int32 → Int32 → Int32 → Int32 → Int32 → Int32 → Int32 → Int32 → Int32 → Int32 → Int32 → Int32 → Int32 → Int32 → Int32 → Int32 → Int32 → Int32 → Int32 → (Nat → Int32) → (Nat → Int32) → (Nat → Int32) → (Nat → Int32) → (Nat → Int32) → (Nat → Int64) → (Nat → Int64) → (Nat → Int32) → (Nat → Int32) → (Nat → Int32) → (Nat → Int32) → (Nat → Int32) → (Nat → Int32) → (Nat → Int32) → (Nat → Int32) → (Nat → Int32) → (Nat → Int32) → (Nat → Int32) → Prop} {i0 i1 : Nat} (hx : x < 32) (h01 : i0 ≤ i1) (h1 : i1 ≤ 1024) (hrp : rp < 32) (hrt : rt < 32) (hcur : ∀ k, i0 ≤ k → k < i1 → rc_c a_cur k < 256 + x) (hfr : fr ≤ n0) (hpw : ∀ y, y < x → rs_pw (a_popL y) ∧ rs_pw (a_popR y))
    (hf : f_broken = 0 → (∀ c, c ∈ rc_sg a_cur i0 i1 → rs_cell rp rt n0 x W c) ∧ W x = rs_fl W (rc_sg a_cur i0 i1) ∧ (W x).length ≤ 2 ^ 20 ∧ (∀ y, y < x → PLs y = rs_pop (a_popL y) ∧ PRs y = rs_pop (a_popR y) ∧ (a_begin (y + 1) ≤ a_begin y ↔ Cs y = [])))
    (K : ∀ (o' n' : Nat) (a_next' : Nat → Int64) (f_broken' : Int32) (a_keyA' : Nat → Int32) (a_keyB' : Nat → Int32) (a_weight' : Nat → Int32) (a_part' : Nat → Int32) (a_popL' : Nat → Int32) (a_popR' : Nat → Int32), h ≤ o' → o' ≤ 1024 → n0 ≤ n' → n' ≤ 256 → (∀ k, k < h → rc_c a_next' k = rc_c next0 k) → (∀ k, h ≤ k → k < o' → rc_c a_next' k < 256 + x) → (∀ y, y ≠ x → a_popL' y = a_popL y ∧ a_popR' y = a_popR y) → rs_pw (a_popL' x) → rs_pw (a_popR' x) → (f_broken' = 0 → f_broken = 0 ∧ rs_St bl fr n0 pt0 wt rp rt x G W Cs PLs PRs n' a_keyA' a_keyB' a_weight' a_part' ∧ rs_Dn (rs_R bl pt0) (rs_dec bl fr a_keyA' a_keyB') n' rp rt (rs_up G x (rs_fl G (rc_sg a_next' h o'))) x (W x) (rc_sg a_next' h o') (rs_pop (a_popL' x)) (rs_pop (a_popR' x))) → J (nI i1) (nI (x + 1)) f_maxRules f_maxLength f_letters f_ref f_room (nI o') (nI h) (nI rp) (nI rt) f_broken' f_inLeft f_inRight (nI n') (nI fr) (rj_b bl) f_headBase f_headExp f_headMark f_tailBase f_tailExp f_tailCut f_tailMark a_used a_kinds a_partA a_partB a_lens a_cur a_next' (upd a_begin (x + 1) (nI o')) a_popL' a_popR' a_need a_keyA' a_keyB' a_weight' a_part' a_remap a_hits a_span) :
    ∀ (d k o n : Nat) (a_next' : Nat → Int64) (f_broken' : Int32) (a_keyA' : Nat → Int32) (a_keyB' : Nat → Int32) (a_weight' : Nat → Int32) (a_part' : Nat → Int32), k + d = i1 → i0 ≤ k → rs_Wk x h n0 next0 o n a_next' → (f_broken' = 0 → f_broken = 0 ∧ rs_St bl fr n0 pt0 wt rp rt x G W Cs PLs PRs n a_keyA' a_keyB' a_weight' a_part' ∧ rs_Cur (rs_R bl pt0) (rs_dec bl fr a_keyA' a_keyB') n rp rt x G (rs_fl W (rc_sg a_cur i0 k)) (rc_sg a_next' h o)) →
    wX_sweep_57 post J (nI x) (nI i1) (d + 1) (nI k) f_maxRules f_maxLength f_letters f_ref f_room (nI o) (nI h) (nI rp) (nI rt) f_broken' f_inLeft f_inRight (nI n) (nI fr) (rj_b bl) f_headBase f_headExp f_headMark f_tailBase f_tailExp f_tailCut f_tailMark a_used a_kinds a_partA a_partB a_lens a_cur a_next' a_begin a_popL a_popR a_need a_keyA' a_keyB' a_weight' a_part' a_remap a_hits a_span := by
  intro d
  induction d with
  | zero =>
    intro k o n a_next' f_broken' a_keyA' a_keyB' a_weight' a_part' hk hik hw hs
    have e : k = i1 := by omega
    subst e
    obtain ⟨w1, w2, w3, w4, w5, w6⟩ := id hw
    refine pk_le k k (fun _ => ?_) (fun z => by omega)
    refine rx_trim (G := G) (wt := wt) (n0 := n0) (pt0 := pt0) (Wx := W x) hx w1 w2 w4 w5 hrp hrt (fun hb => ?_) (fun o' a_next'' a_popL'' a_popR'' k1 k2 k3 k4 k5 k6 k7 k8 => ?_)
    · obtain ⟨s0, s1, s2⟩ := hs hb
      rw [← (hf s0).2.1] at s2
      exact ⟨s1.1, s2⟩
    · rw [nI_1, nI_clamp (by omega)]
      refine ⟨vp_in_nI (by omega) (by omega), nm_e (nm_e ?_)⟩
      refine K o' n a_next'' f_broken' a_keyA' a_keyB' a_weight' a_part' a_popL'' a_popR'' k1 k2 w3 w4 (fun k hk => by rw [k3 k hk]; exact w6 k hk) k4 k5 k6 k7 (fun hb => ?_)
      obtain ⟨s0, s1, s2⟩ := hs hb
      exact ⟨s0, s1, k8 hb⟩
  | succ d ih =>
    intro k o n a_next' f_broken' a_keyA' a_keyB' a_weight' a_part' hk hik hw hs
    refine pk_le i1 k (fun z => by omega) (fun _ => ?_)
    refine rx_get (by omega) (rx_feed (G := G) (W := W) (Cs := Cs) (PLs := PLs) (PRs := PRs) (wt := wt) (pt0 := pt0) (rp := rp) (rt := rt) (n0 := n0) (next0 := next0) (p := rs_fl W (rc_sg a_cur i0 k)) hx (hcur k hik (by omega)) hw hfr hpw (fun hb => ?_) (fun o' n' a_next'' f_broken'' a_keyA'' a_keyB'' a_weight'' a_part'' k1 k2 k3 => ?_))
    · obtain ⟨s0, s1, s2⟩ := hs hb
      obtain ⟨f1, f2, f3, f4⟩ := hf s0
      refine ⟨s1, s2, f1 _ (rc_sg_in hik (by omega)), f4, ?_⟩
      have e1 : rc_sg a_cur i0 (k + 1) = rc_sg a_cur i0 k ++ [rc_c a_cur k] := rc_sg_snoc hik
      have e2 : rs_fl W (rc_sg a_cur i0 k) ++ rs_cx W (rc_c a_cur k) = rs_fl W (rc_sg a_cur i0 (k + 1)) := by rw [e1, rs_fl_app, rs_fl_one]
      rw [e2]
      obtain ⟨Z, hZ⟩ : ∃ Z, rc_sg a_cur i0 i1 = rc_sg a_cur i0 (k + 1) ++ Z := by
        refine ⟨(rc_sg a_cur i0 i1).drop (k + 1 - i0), ?_⟩
        have e3 : rc_sg a_cur i0 (k + 1) = (rc_sg a_cur i0 i1).take (k + 1 - i0) := by
          unfold rc_sg
          rw [← List.map_take, List.take_range]
          congr 2
          omega
        rw [e3, List.take_append_drop]
      rw [hZ, rs_fl_app] at f2
      rw [f2, List.length_append] at f3
      omega
    · refine nm_r (nI_1 k) (ih (k + 1) o' n' a_next'' f_broken'' a_keyA'' a_keyB'' a_weight'' a_part'' (by omega) (by omega) k1 (fun hb => ?_))
      obtain ⟨k4, k5, k6⟩ := k3 hb
      refine ⟨(hs k4).1, k5, ?_⟩
      rw [rc_sg_snoc hik, rs_fl_app, rs_fl_one]
      exact k6
end
section
variable {f_maxRules f_maxLength f_letters f_ref f_room f_out f_head f_rootP f_rootT f_broken f_inLeft f_inRight f_size f_fresh f_blocking f_headBase f_headExp f_headMark f_tailBase f_tailExp f_tailCut f_tailMark : Int32} {a_used a_kinds a_partA a_partB a_lens a_begin a_popL a_popR a_need a_keyA a_keyB a_weight a_part a_remap a_hits a_span : Nat → Int32} {a_cur a_next : Nat → Int64}
variable {bl : Bool} {fr n0 : Nat} {pt0 : Nat → Int32} {wt : Nat → Nat} {rp rt : Nat} {W : Nat → List Nat} {b0 : Nat → Nat}
/-- where a sweep stands at the head of rule x -/
def rs_SI (bl : Bool) (fr n0 : Nat) (pt0 : Nat → Int32) (wt : Nat → Nat) (rp rt : Nat) (W : Nat → List Nat) (b0 : Nat → Nat) (br0 : Int32) (x : Nat) (b : Nat → Nat) (n : Nat) (beg popL popR : Nat → Int32) (next : Nat → Int64) (br : Int32) (kA kB w pt : Nat → Int32) : Prop :=
  b 0 = 0 ∧ (∀ y, y < x → b y ≤ b (y + 1)) ∧ b x ≤ 1024 ∧ (∀ y, y ≤ x → beg y = nI (b y)) ∧ (∀ y, x < y → y ≤ 32 → beg y = nI (b0 y)) ∧ n0 ≤ n ∧ n ≤ 256 ∧
  (∀ y, y < x → ∀ k, b y ≤ k → k < b (y + 1) → rc_c next k < 256 + y) ∧ (∀ y, y < x → rs_pw (popL y) ∧ rs_pw (popR y)) ∧
  (br = 0 → br0 = 0 ∧ rs_TB bl fr n0 pt0 wt n kA kB w pt ∧ ∃ G : Nat → List Nat, ∀ y, y < x → rs_Dn (rs_R bl pt0) (rs_dec bl fr kA kB) n rp rt G y (W y) (rc_sg next (b y) (b (y + 1))) (rs_pop (popL y)) (rs_pop (popR y)))
theorem rx_sweep_30 {post : SX → Prop} {br0 : Int32} (hb0 : ∀ x, x < 32 → b0 x ≤ b0 (x + 1)) (hb1 : b0 32 ≤ 1024) (hcur : ∀ x, x < 32 → ∀ k, b0 x ≤ k → k < b0 (x + 1) → rc_c a_cur k < 256 + x) (hrp : rp < 32) (hrt : rt < 32) (hfr : fr ≤ n0)
    (hf : br0 = 0 → ∀ x, x < 32 → (∀ c, c ∈ rc_sg a_cur (b0 x) (b0 (x + 1)) → rs_cell rp rt n0 x W c) ∧ W x = rs_fl W (rc_sg a_cur (b0 x) (b0 (x + 1))) ∧ (W x).length ≤ 2 ^ 20)
    (K : ∀ (b' : Nat → Nat) (n' : Nat) (f_head' : Int32) (a_next' : Nat → Int64) (a_begin' : Nat → Int32) (a_popL' : Nat → Int32) (a_popR' : Nat → Int32) (f_broken' : Int32) (a_keyA' : Nat → Int32) (a_keyB' : Nat → Int32) (a_weight' : Nat → Int32) (a_part' : Nat → Int32), rs_SI bl fr n0 pt0 wt rp rt W b0 br0 32 b' n' a_begin' a_popL' a_popR' a_next' f_broken' a_keyA' a_keyB' a_weight' a_part' → ∀ (a_cur' : Nat → Int64), (∀ k, k < 1024 → rc_c a_cur' k = rc_c a_next' k) → post (f_maxRules, f_maxLength, f_letters, f_ref, f_room, nI (b' 32), f_head', nI rp, nI rt, f_broken', f_inLeft, f_inRight, nI n', nI fr, rj_b bl, f_headBase, f_headExp, f_headMark, f_tailBase, f_tailExp, f_tailCut, f_tailMark, a_used, a_kinds, a_partA, a_partB, a_lens, a_cur', a_next', a_begin', a_popL', a_popR', a_need, a_keyA', a_keyB', a_weight', a_part', a_remap, a_hits, a_span)) :
    ∀ (d x : Nat) (b : Nat → Nat) (n : Nat) (f_head' : Int32) (a_next' : Nat → Int64) (a_begin' : Nat → Int32) (a_popL' : Nat → Int32) (a_popR' : Nat → Int32) (f_broken' : Int32) (a_keyA' : Nat → Int32) (a_keyB' : Nat → Int32) (a_weight' : Nat → Int32) (a_part' : Nat → Int32), x + d = 32 → rs_SI bl fr n0 pt0 wt rp rt W b0 br0 x b n a_begin' a_popL' a_popR' a_next' f_broken' a_keyA' a_keyB' a_weight' a_part' →
    wX_sweep_30 post (d + 1) (nI (b0 x)) (nI x) f_maxRules f_maxLength f_letters f_ref f_room (nI (b x)) f_head' (nI rp) (nI rt) f_broken' f_inLeft f_inRight (nI n) (nI fr) (rj_b bl) f_headBase f_headExp f_headMark f_tailBase f_tailExp f_tailCut f_tailMark a_used a_kinds a_partA a_partB a_lens a_cur a_next' a_begin' a_popL' a_popR' a_need a_keyA' a_keyB' a_weight' a_part' a_remap a_hits a_span := by
  intro d
  induction d with
  | zero =>
    intro x b n f_head' a_next' a_begin' a_popL' a_popR' f_broken' a_keyA' a_keyB' a_weight' a_part' hxd hI
    have e : x = 32 := by omega
    subst e
    refine pk_le 32 32 (fun _ => ?_) (fun z => by omega)
    exact rx_commit (fun cur' hc => K b n f_head' a_next' a_begin' a_popL' a_popR' f_broken' a_keyA' a_keyB' a_weight' a_part' hI cur' hc)
  | succ d ih =>
    intro x b n f_head' a_next' a_begin' a_popL' a_popR' f_broken' a_keyA' a_keyB' a_weight' a_part' hxd hI
    have hx : x < 32 := by omega
    obtain ⟨i1, i2, i3, i4, i5, i6, i7, i8, i9, i10⟩ := hI
    refine pk_le 32 x (fun z => by omega) (fun _ => ?_)
    rw [nI_1, nI_clamp (by omega)]
    refine ⟨vp_in_nI (by omega) (by omega), nm_r (i5 (x + 1) (by omega) (by omega)) ?_⟩
    have hb01 := hb0 x hx
    have hbx : b0 (x + 1) ≤ 1024 := Nat.le_trans (rg_le hb0 (by omega : x + 1 ≤ 32) (Nat.le_refl _)) hb1
    refine ⟨b0 (x + 1) - b0 x + 1, ?_⟩
    -- the ghost of the rules done
    obtain ⟨G, hG⟩ : ∃ G : Nat → List Nat, f_broken' = 0 → br0 = 0 ∧ rs_TB bl fr n0 pt0 wt n a_keyA' a_keyB' a_weight' a_part' ∧ ∀ y, y < x → rs_Dn (rs_R bl pt0) (rs_dec bl fr a_keyA' a_keyB') n rp rt G y (W y) (rc_sg a_next' (b y) (b (y + 1))) (rs_pop (a_popL' y)) (rs_pop (a_popR' y)) := by
      by_cases hb : f_broken' = 0
      · obtain ⟨q1, q2, G, q3⟩ := i10 hb
        exact ⟨G, fun _ => ⟨q1, q2, q3⟩⟩
      · exact ⟨fun _ => [], fun z => absurd z hb⟩
    refine rx_sweep_57 (f_broken := f_broken') (G := G) (W := W) (Cs := fun y => rc_sg a_next' (b y) (b (y + 1))) (PLs := fun y => rs_pop (a_popL' y)) (PRs := fun y => rs_pop (a_popR' y)) (wt := wt) (pt0 := pt0) (next0 := a_next') (n0 := n0) (h := b x) (i0 := b0 x) hx hb01 hbx hrp hrt (hcur x hx) hfr i9 (fun hb => ?_) (fun o' n' a_next'' f_broken'' a_keyA'' a_keyB'' a_weight'' a_part'' a_popL'' a_popR'' k1 k2 k3 k4 k5 k6 k7 k8 k9 k10 => ?_) (b0 (x + 1) - b0 x) (b0 x) (b x) n a_next' f_broken' a_keyA' a_keyB' a_weight' a_part' (by omega) (Nat.le_refl _) ⟨Nat.le_refl _, i3, i6, i7, fun k z1 z2 => by omega, fun _ _ => rfl⟩ (fun hb => ?_)
    · obtain ⟨f1, f2, f3⟩ := hf (hG hb).1 x hx
      refine ⟨f1, f2, f3, fun y hy => ⟨rfl, rfl, ?_⟩⟩
      have hle1 : b y ≤ 1024 := Nat.le_trans (rg_le i2 (by omega : y ≤ x) (Nat.le_refl _)) i3
      have hle2 : b (y + 1) ≤ 1024 := Nat.le_trans (rg_le i2 (by omega : y + 1 ≤ x) (Nat.le_refl _)) i3
      rw [i4 (y + 1) (by omega), i4 y (by omega), nI_leI (by omega) (by omega), rc_sg_empty]
    · -- the next rule
      have hlow : ∀ y, y < x → rc_sg a_next'' (b y) (b (y + 1)) = rc_sg a_next' (b y) (b (y + 1)) := by
        intro y hy
        refine rc_sg_congr (fun k z1 z2 => k5 k ?_)
        have := rg_le i2 (by omega : y + 1 ≤ x) (Nat.le_refl _)
        omega
      have hbb : ∀ y, y ≤ x → (fun y => if y ≤ x then b y else o') y = b y := fun y hy => if_pos hy
      have hbs : (fun y => if y ≤ x then b y else o') (x + 1) = o' := if_neg (by omega)
      have := ih (x + 1) (fun y => if y ≤ x then b y else o') n' (nI (b x)) a_next'' (upd a_begin' (x + 1) (nI o')) a_popL'' a_popR'' f_broken'' a_keyA'' a_keyB'' a_weight'' a_part'' (by omega) ⟨?_, fun y hy => ?_, ?_, fun y hy => ?_, fun y hy hy' => ?_, k3, k4, fun y hy k z1 z2 => ?_, fun y hy => ?_, fun hb => ?_⟩
      · rw [if_neg (by omega)] at this
        exact this
      · rw [hbb 0 (by omega)]; exact i1
      · rcases Nat.lt_or_ge y x with q | q
        · rw [hbb y (by omega), hbb (y + 1) (by omega)]; exact i2 y q
        · have : y = x := by omega
          subst this
          rw [hbb y (by omega), hbs]; exact k1
      · rw [hbs]; exact k2
      · rcases Nat.lt_or_ge x y with q | q
        · have : y = x + 1 := by omega
          subst this
          rw [pk_us, hbs]
        · rw [pk_un (by omega), hbb y q]; exact i4 y q
      · rw [pk_un (by omega)]; exact i5 y (by omega) hy'
      · rcases Nat.lt_or_ge y x with q | q
        · rw [hbb y (by omega)] at z1
          rw [hbb (y + 1) (by omega)] at z2
          have hle := rg_le i2 (by omega : y + 1 ≤ x) (Nat.le_refl _)
          rw [k5 k (by omega)]
          exact i8 y q k z1 z2
        · have : y = x := by omega
          subst this
          rw [hbb y (by omega)] at z1
          rw [hbs] at z2
          exact k6 k z1 z2
      · by_cases e : y = x
        · subst e; exact ⟨k8, k9⟩
        · rw [(k7 y e).1, (k7 y e).2]; exact i9 y (by omega)
      · obtain ⟨m1, m2, m3⟩ := k10 hb
        refine ⟨(hG m1).1, m2.1, (rs_up G x (rs_fl G (rc_sg a_next'' (b x) o'))), fun y hy => ?_⟩
        by_cases e : y = x
        · subst e
          rw [hbb y (by omega), hbs]
          exact m3
        · have hy' : y < x := by omega
          rw [hbb y (by omega), hbb (y + 1) (by omega), hlow y hy', (k7 y e).1, (k7 y e).2]
          exact rs_Dn_E (m2.2 y hy') k4 (fun z hz => rs_up_n (by omega))
    · obtain ⟨q1, q2, q3⟩ := hG hb
      refine ⟨hb, ⟨q2, q3⟩, ?_⟩
      rw [rc_sg_nil (Nat.le_refl _), rc_sg_nil (Nat.le_refl _), rs_fl_nil]
      exact rs_cur_nil
theorem rx_sweep {post : SX → Prop} (hbl : bl = true → fr = 0) (hbl' : bl = false → fr = n0) (hn0 : n0 ≤ 256) (hg : rg_W b0 a_cur a_begin) (hrp : rp < 32) (hrt : rt < 32)
    (hs : f_broken = 0 → rs_TB bl fr n0 a_part wt n0 a_keyA a_keyB a_weight a_part ∧ ∀ x, x < 32 → (∀ c, c ∈ rc_sg a_cur (b0 x) (b0 (x + 1)) → rs_cell rp rt n0 x W c) ∧ W x = rs_fl W (rc_sg a_cur (b0 x) (b0 (x + 1))) ∧ (W x).length ≤ 2 ^ 20)
    (K : ∀ (b' : Nat → Nat) (n' : Nat) (f_out' : Int32) (f_head' : Int32) (a_cur' : Nat → Int64) (a_next' : Nat → Int64) (a_begin' : Nat → Int32) (a_popL' : Nat → Int32) (a_popR' : Nat → Int32) (f_broken' : Int32) (a_keyA' : Nat → Int32) (a_keyB' : Nat → Int32) (a_weight' : Nat → Int32) (a_part' : Nat → Int32), rg_W b' a_cur' a_begin' → n0 ≤ n' → n' ≤ 256 → (f_broken' = 0 → f_broken = 0 ∧ rs_TB bl fr n0 a_part wt n' a_keyA' a_keyB' a_weight' a_part' ∧ ∃ G : Nat → List Nat, ∀ y, y < 32 → rs_Dn (rs_R bl a_part) (rs_dec bl fr a_keyA' a_keyB') n' rp rt G y (W y) (rc_sg a_cur' (b' y) (b' (y + 1))) (rs_pop (a_popL' y)) (rs_pop (a_popR' y))) → post (f_maxRules, f_maxLength, f_letters, f_ref, f_room, f_out', f_head', nI rp, nI rt, f_broken', f_inLeft, f_inRight, nI n', nI fr, rj_b bl, f_headBase, f_headExp, f_headMark, f_tailBase, f_tailExp, f_tailCut, f_tailMark, a_used, a_kinds, a_partA, a_partB, a_lens, a_cur', a_next', a_begin', a_popL', a_popR', a_need, a_keyA', a_keyB', a_weight', a_part', a_remap, a_hits, a_span)) :
    wpX_sweep post (f_maxRules, f_maxLength, f_letters, f_ref, f_room, f_out, f_head, nI rp, nI rt, f_broken, f_inLeft, f_inRight, nI n0, f_fresh, f_blocking, f_headBase, f_headExp, f_headMark, f_tailBase, f_tailExp, f_tailCut, f_tailMark, a_used, a_kinds, a_partA, a_partB, a_lens, a_cur, a_next, a_begin, a_popL, a_popR, a_need, a_keyA, a_keyB, a_weight, a_part, a_remap, a_hits, a_span) (rj_b bl) := by
  obtain ⟨g1, g2, g3, g4, g5⟩ := id hg
  have hfr : fr ≤ n0 := by
    cases bl with
    | true => rw [hbl rfl]; omega
    | false => rw [hbl' rfl]; omega
  have key : wX_sweep_18 post (nI fr) f_maxRules f_maxLength f_letters f_ref f_room f_out f_head (nI rp) (nI rt) f_broken f_inLeft f_inRight (nI n0) f_fresh (rj_b bl) f_headBase f_headExp f_headMark f_tailBase f_tailExp f_tailCut f_tailMark a_used a_kinds a_partA a_partB a_lens a_cur a_next a_begin a_popL a_popR a_need a_keyA a_keyB a_weight a_part a_remap a_hits a_span := by
    refine ⟨33, ?_⟩
    have hz : nI (b0 0) = 0 := by rw [g1]; rfl
    have key2 : wX_sweep_30 post (32 + 1) (nI (b0 0)) (nI 0) f_maxRules f_maxLength f_letters f_ref f_room (nI 0) f_head (nI rp) (nI rt) f_broken f_inLeft f_inRight (nI n0) (nI fr) (rj_b bl) f_headBase f_headExp f_headMark f_tailBase f_tailExp f_tailCut f_tailMark a_used a_kinds a_partA a_partB a_lens a_cur a_next a_begin a_popL a_popR a_need a_keyA a_keyB a_weight a_part a_remap a_hits a_span := by
      refine rx_sweep_30 (post := post) (bl := bl) (fr := fr) (n0 := n0) (pt0 := a_part) (wt := wt) (rp := rp) (rt := rt) (W := W) (b0 := b0) (br0 := f_broken) g2 g3 g5 hrp hrt hfr (fun hb => (hs hb).2) (fun b' n' f_head' a_next' a_begin' a_popL' a_popR' f_broken' a_keyA' a_keyB' a_weight' a_part' hI cur' hc => ?_) 32 0 (fun _ => 0) n0 f_head a_next a_begin a_popL a_popR f_broken a_keyA a_keyB a_weight a_part rfl ⟨rfl, fun y hy => by omega, Nat.zero_le _, fun y hy => ?_, fun y hy hy' => g4 y hy', Nat.le_refl _, hn0, fun y hy => by omega, fun y hy => by omega, fun hb => ⟨hb, (hs hb).1, fun _ => [], fun y hy => by omega⟩⟩
      · obtain ⟨i1, i2, i3, i4, i5, i6, i7, i8, i9, i10⟩ := hI
        refine K b' n' (nI (b' 32)) f_head' cur' a_next' a_begin' a_popL' a_popR' f_broken' a_keyA' a_keyB' a_weight' a_part' ⟨i1, i2, i3, fun y hy => i4 y hy, fun y hy k z1 z2 => ?_⟩ i6 i7 (fun hb => ?_)
        · have := rg_le i2 (by omega : y + 1 ≤ 32) (Nat.le_refl _)
          rw [hc k (by omega)]
          exact i8 y hy k z1 z2
        · obtain ⟨m1, m2, G, m3⟩ := i10 hb
          refine ⟨m1, m2, G, fun y hy => ?_⟩
          have e : rc_sg cur' (b' y) (b' (y + 1)) = rc_sg a_next' (b' y) (b' (y + 1)) := rc_sg_congr (fun k z1 z2 => hc k (by have := rg_le i2 (by omega : y + 1 ≤ 32) (Nat.le_refl _); omega))
          rw [e]
          exact m3 y hy
      · have : y = 0 := by omega
        subst this
        rw [g4 0 (by omega), g1]
    rw [hz] at key2
    exact key2
  unfold wpX_sweep
  cases bl with
  | true =>
    have e := hbl rfl
    subst e
    exact ⟨rfl, rfl, br_f (by decide) key⟩
  | false =>
    have e := hbl' rfl
    subst e
    exact ⟨rfl, rfl, br_t rfl key⟩
end
end
section
/-! makeMarks, splitCell -/
/-- the table below n0 as it was -/
def rp_fz (nF : Nat) (kA0 kB0 w0 kA kB w : Nat → Int32) : Prop := ∀ i, i < nF → kA i = kA0 i ∧ kB i = kB0 i ∧ w i = w0 i
theorem rp_fz_upd {nF n : Nat} {kA0 kB0 w0 kA kB w : Nat → Int32} {x y z : Int32} (h : rp_fz nF kA0 kB0 w0 kA kB w) (hn : nF ≤ n) : rp_fz nF kA0 kB0 w0 (upd kA n x) (upd kB n y) (upd w n z) := by
  intro i hi
  rw [pk_un (by omega), pk_un (by omega), pk_un (by omega)]
  exact h i hi
/-- one step of the table -/
def rp_step (n n' i : Nat) (x y z : Int32) (kA kB w kA' kB' w' : Nat → Int32) : Prop :=
  (n' = n ∧ kA' = kA ∧ kB' = kB ∧ w' = w) ∨ (n' = n + 1 ∧ i = n ∧ kA' = upd kA n x ∧ kB' = upd kB n y ∧ w' = upd w n z ∧ ∀ j, j < n → ¬ (kA j = x ∧ kB j = y))
section
variable {f_maxRules f_maxLength f_letters f_ref f_room f_out f_head f_rootP f_rootT f_broken f_inLeft f_inRight f_size f_fresh f_blocking f_headBase f_headExp f_headMark f_tailBase f_tailExp f_tailCut f_tailMark : Int32} {a_used a_kinds a_partA a_partB a_lens a_begin a_popL a_popR a_need a_keyA a_keyB a_weight a_part a_remap a_hits a_span : Nat → Int32} {a_cur a_next : Nat → Int64}
theorem rx_app2 {post : SX → Prop} {x h n0 : Nat} {next0 : Nat → Int64} {o n c : Nat} (hx : x < 32) (hc : c < 256 + x) (hw : rs_Wk x h n0 next0 o n a_next) (K : ∀ (o' : Nat) (a_next' : Nat → Int64) (f_broken' : Int32), rs_Wk x h n0 next0 o' n a_next' → (f_broken' = 0 → f_broken = 0 ∧ rc_sg a_next' h o' = rc_sg a_next h o ++ [c]) → post (f_maxRules, f_maxLength, f_letters, f_ref, f_room, nI o', f_head, f_rootP, f_rootT, f_broken', f_inLeft, f_inRight, f_size, f_fresh, f_blocking, f_headBase, f_headExp, f_headMark, f_tailBase, f_tailExp, f_tailCut, f_tailMark, a_used, a_kinds, a_partA, a_partB, a_lens, a_cur, a_next', a_begin, a_popL, a_popR, a_need, a_keyA, a_keyB, a_weight, a_part, a_remap, a_hits, a_span)) : wpX_append post (f_maxRules, f_maxLength, f_letters, f_ref, f_room, nI o, f_head, f_rootP, f_rootT, f_broken, f_inLeft, f_inRight, f_size, f_fresh, f_blocking, f_headBase, f_headExp, f_headMark, f_tailBase, f_tailExp, f_tailCut, f_tailMark, a_used, a_kinds, a_partA, a_partB, a_lens, a_cur, a_next, a_begin, a_popL, a_popR, a_need, a_keyA, a_keyB, a_weight, a_part, a_remap, a_hits, a_span) (nI c) :=
  rx_append hw.2.1 (fun ho => K (o + 1) _ f_broken (rs_Wk_app hw hc hx ho) (fun hb => ⟨hb, rc_sg_pu hw.1 (by omega)⟩)) (K o a_next 1 hw (fun hb => absurd hb (by decide)))
theorem rx_makeMarks_102 {post : SX → Prop} {n hd tb c m : Nat} (hn : n ≤ 256) (hh : hd < n) (ht : tb < n)
    (K : ∀ (n' H Tl : Nat) (a_keyA' : Nat → Int32) (a_keyB' : Nat → Int32) (a_weight' : Nat → Int32) (a_part' : Nat → Int32) (f_broken' : Int32), n ≤ n' → n' ≤ 256 → H < 256 → Tl < 256 → rp_fz n a_keyA a_keyB a_weight a_keyA' a_keyB' a_weight' → (f_broken' = 0 → f_broken = 0 ∧ H = n ∧ Tl = n + 1 ∧ n' = n + 2 ∧ a_keyA' n = -1 ∧ a_keyA' (n + 1) = -1 ∧ a_weight' n = nI m * a_weight hd ∧ a_weight' (n + 1) = nI c * a_weight tb) → post (f_maxRules, f_maxLength, f_letters, f_ref, f_room, f_out, f_head, f_rootP, f_rootT, f_broken', f_inLeft, f_inRight, nI n', f_fresh, f_blocking, nI hd, nI m, nI H, nI tb, f_tailExp, nI c, nI Tl, a_used, a_kinds, a_partA, a_partB, a_lens, a_cur, a_next, a_begin, a_popL, a_popR, a_need, a_keyA', a_keyB', a_weight', a_part', a_remap, a_hits, a_span)) :
    wX_makeMarks_102 post f_maxRules f_maxLength f_letters f_ref f_room f_out f_head f_rootP f_rootT f_broken f_inLeft f_inRight (nI n) f_fresh f_blocking (nI hd) (nI m) f_headMark (nI tb) f_tailExp (nI c) f_tailMark a_used a_kinds a_partA a_partB a_lens a_cur a_next a_begin a_popL a_popR a_need a_keyA a_keyB a_weight a_part a_remap a_hits a_span := by
  unfold wX_makeMarks_102
  rw [nI_clamp (by omega)]
  refine ⟨vp_in_nI (by omega) (by omega), rx_create hn (fun hlt => ?_) ?_⟩
  · dsimp only
    rw [nI_clamp (by omega)]
    refine ⟨vp_in_nI (by omega) (by omega), ?_⟩
    rw [pk_un (by omega : tb ≠ n)]
    refine rx_create (by omega) (fun hlt2 => ?_) ?_
    · dsimp only
      refine K (n + 1 + 1) n (n + 1) _ _ _ _ f_broken (by omega) (by omega) (by omega) (by omega) (rp_fz_upd (rp_fz_upd (fun i hi => ⟨rfl, rfl, rfl⟩) (Nat.le_refl _)) (by omega)) (fun hb => ⟨hb, rfl, rfl, rfl, ?_, pk_us, ?_, pk_us⟩)
      · rw [pk_un (by omega), pk_us]
      · rw [pk_un (by omega), pk_us]
    · exact K (n + 1) n 0 _ _ _ _ 1 (by omega) (by omega) (by omega) (by omega) (rp_fz_upd (fun i hi => ⟨rfl, rfl, rfl⟩) (Nat.le_refl _)) (fun hb => absurd hb (by decide))
  · dsimp only
    rw [nI_clamp (by omega)]
    refine ⟨vp_in_nI (by omega) (by omega), ?_⟩
    refine rx_create (by omega) (fun hlt2 => ?_) ?_
    · exact K (n + 1) 0 n _ _ _ _ 1 (by omega) (by omega) (by omega) (by omega) (rp_fz_upd (fun i hi => ⟨rfl, rfl, rfl⟩) (Nat.le_refl _)) (fun hb => absurd hb (by decide))
    · exact K n 0 0 _ _ _ _ 1 (by omega) (by omega) (by omega) (by omega) (fun i hi => ⟨rfl, rfl, rfl⟩) (fun hb => absurd hb (by decide))
def rp_cut (hd tb m te : Nat) : Nat := if hd = tb then te - m else te
theorem rx_makeMarks {post : SX → Prop} {n i1 i2 hd tb te m : Nat} (hn : n ≤ 256) (h1 : i1 < 1024) (h2 : i2 < 1024) (c1 : rc_c a_cur i1 < 256) (c2 : rc_c a_cur i2 < 256) (hh : hd < n) (ht : tb < n) (hm : m ≤ 2 ^ 20) (hte : te ≤ 2 ^ 20) (e1 : a_keyA (rc_c a_cur i1) = nI hd) (e2 : a_keyB (rc_c a_cur i1) = nI m) (e3 : a_keyA (rc_c a_cur i2) = nI tb) (e4 : a_keyB (rc_c a_cur i2) = nI te)
    (K : ∀ (n' H Tl : Nat) (a_keyA' : Nat → Int32) (a_keyB' : Nat → Int32) (a_weight' : Nat → Int32) (a_part' : Nat → Int32) (f_broken' : Int32), n ≤ n' → n' ≤ 256 → H < 256 → Tl < 256 → rp_fz n a_keyA a_keyB a_weight a_keyA' a_keyB' a_weight' → (f_broken' = 0 → f_broken = 0 ∧ H = n ∧ Tl = n + 1 ∧ n' = n + 2 ∧ a_keyA' n = -1 ∧ a_keyA' (n + 1) = -1 ∧ a_weight' n = nI m * a_weight hd ∧ a_weight' (n + 1) = nI (rp_cut hd tb m te) * a_weight tb) → post (f_maxRules, f_maxLength, f_letters, f_ref, f_room, f_out, f_head, f_rootP, f_rootT, f_broken', f_inLeft, f_inRight, nI n', f_fresh, f_blocking, nI hd, nI m, nI H, nI tb, nI te, nI (rp_cut hd tb m te), nI Tl, a_used, a_kinds, a_partA, a_partB, a_lens, a_cur, a_next, a_begin, a_popL, a_popR, a_need, a_keyA', a_keyB', a_weight', a_part', a_remap, a_hits, a_span)) :
    wpX_makeMarks post (f_maxRules, f_maxLength, f_letters, f_ref, f_room, f_out, f_head, f_rootP, f_rootT, f_broken, f_inLeft, f_inRight, nI n, f_fresh, f_blocking, f_headBase, f_headExp, f_headMark, f_tailBase, f_tailExp, f_tailCut, f_tailMark, a_used, a_kinds, a_partA, a_partB, a_lens, a_cur, a_next, a_begin, a_popL, a_popR, a_need, a_keyA, a_keyB, a_weight, a_part, a_remap, a_hits, a_span) (nI i1) (nI i2) := by
  unfold wpX_makeMarks
  dsimp only
  refine rx_get h1 (rx_get h2 ?_)
  have v1 : vp_in (nI (rc_c a_cur i1)) 256 := vp_in_nI c1 (by omega)
  have v2 : vp_in (nI (rc_c a_cur i2)) 256 := vp_in_nI c2 (by omega)
  rw [nI_clamp (n := rc_c a_cur i1) (by omega), nI_clamp (n := rc_c a_cur i2) (by omega)]
  refine ⟨v1, nm_r e1 ⟨v1, nm_r e2 ⟨v2, nm_r e3 ⟨v2, nm_r e4 ?_⟩⟩⟩⟩
  refine pk_eq hd tb (fun q => ?_) (fun q => ?_)
  · have ec : rp_cut hd tb m te = te - m := if_pos q
    rw [ec] at K
    refine pk_le te m (fun q2 => ?_) (fun q2 => ?_)
    · have ez : te - m = 0 := by omega
      rw [ez] at K
      unfold wX_makeMarks_99
      exact rx_makeMarks_102 (c := 0) hn hh ht K
    · unfold wX_makeMarks_99
      rw [pk_sub (by omega)]
      exact rx_makeMarks_102 hn hh ht K
  · have ec : rp_cut hd tb m te = te := if_neg q
    rw [ec] at K
    exact rx_makeMarks_102 hn hh ht K
/-- intern, as one outcome -/
theorem rx_int2 {post : Int32 → SX → Prop} {n : Nat} {x y z : Int32} (hn : n ≤ 256) (K : ∀ (n' i : Nat) (a_keyA' : Nat → Int32) (a_keyB' : Nat → Int32) (a_weight' : Nat → Int32) (a_part' : Nat → Int32) (f_broken' : Int32), n ≤ n' → n' ≤ 256 → i < 256 → (∀ nF kA0 kB0 w0, nF ≤ n → rp_fz nF kA0 kB0 w0 a_keyA a_keyB a_weight → rp_fz nF kA0 kB0 w0 a_keyA' a_keyB' a_weight') → (f_broken' = 0 → f_broken = 0 ∧ i < n' ∧ a_keyA' i = x ∧ a_keyB' i = y ∧ rp_step n n' i x y z a_keyA a_keyB a_weight a_keyA' a_keyB' a_weight') → post (nI i) (f_maxRules, f_maxLength, f_letters, f_ref, f_room, f_out, f_head, f_rootP, f_rootT, f_broken', f_inLeft, f_inRight, nI n', nI 0, f_blocking, f_headBase, f_headExp, f_headMark, f_tailBase, f_tailExp, f_tailCut, f_tailMark, a_used, a_kinds, a_partA, a_partB, a_lens, a_cur, a_next, a_begin, a_popL, a_popR, a_need, a_keyA', a_keyB', a_weight', a_part', a_remap, a_hits, a_span)) : wpX_intern post (f_maxRules, f_maxLength, f_letters, f_ref, f_room, f_out, f_head, f_rootP, f_rootT, f_broken, f_inLeft, f_inRight, nI n, nI 0, f_blocking, f_headBase, f_headExp, f_headMark, f_tailBase, f_tailExp, f_tailCut, f_tailMark, a_used, a_kinds, a_partA, a_partB, a_lens, a_cur, a_next, a_begin, a_popL, a_popR, a_need, a_keyA, a_keyB, a_weight, a_part, a_remap, a_hits, a_span) x y z := by
  refine rx_intern hn (by omega) (fun i h1 h2 h3 h4 => ?_) (fun hno hlt => ?_) ?_
  · exact K n i a_keyA a_keyB a_weight a_part f_broken (Nat.le_refl _) hn (by omega) (fun _ _ _ _ _ hz => hz) (fun hb => ⟨hb, h2, h3, h4, Or.inl ⟨rfl, rfl, rfl, rfl⟩⟩)
  · exact K (n + 1) n _ _ _ _ f_broken (by omega) (by omega) (by omega) (fun _ _ _ _ hF hz => rp_fz_upd hz hF) (fun hb => ⟨hb, by omega, pk_us, pk_us, Or.inr ⟨rfl, rfl, rfl, rfl, rfl, fun j hj => hno j (by omega) hj⟩⟩)
  · exact K n 0 a_keyA a_keyB a_weight a_part 1 (Nat.le_refl _) hn (by omega) (fun _ _ _ _ _ hz => hz) (fun hb => absurd hb (by decide))
end
/-- the cells of a split block -/
def rp_tl (tb te xa e : Nat) : Bool := decide (xa = tb ∧ te ≤ e)
def rp_mid (hd m tb te xa e : Nat) : Nat := e - (if rp_tl tb te xa e then rp_cut hd tb m te else 0) - (if rp_tl hd m xa e then m else 0)
theorem rp_tl_t {tb te xa e : Nat} (h : xa = tb ∧ te ≤ e) : rp_tl tb te xa e = true := decide_eq_true h
theorem rp_tl_f {tb te xa e : Nat} (h : ¬ (xa = tb ∧ te ≤ e)) : rp_tl tb te xa e = false := decide_eq_false h
theorem rp_mid_eq {hd m tb te xa e : Nat} : (if rp_tl tb te xa e then rp_cut hd tb m te else 0) + rp_mid hd m tb te xa e + (if rp_tl hd m xa e then m else 0) = e := by
  unfold rp_mid
  by_cases h1 : xa = tb ∧ te ≤ e
  · by_cases h2 : xa = hd ∧ m ≤ e
    · have h3 : rp_cut hd tb m te = te - m := if_pos (by omega)
      rw [rp_tl_t h1, rp_tl_t h2, if_pos rfl, if_pos rfl, h3]
      omega
    · have h3 : rp_cut hd tb m te ≤ te := by unfold rp_cut; split <;> omega
      rw [rp_tl_t h1, rp_tl_f h2, if_pos rfl, if_neg Bool.false_ne_true]
      omega
  · by_cases h2 : xa = hd ∧ m ≤ e
    · rw [rp_tl_f h1, rp_tl_t h2, if_pos rfl, if_neg Bool.false_ne_true]
      omega
    · rw [rp_tl_f h1, rp_tl_f h2, if_neg Bool.false_ne_true, if_neg Bool.false_ne_true]
      omega
section
variable {f_maxRules f_maxLength f_letters f_ref f_room f_out f_head f_rootP f_rootT f_broken f_inLeft f_inRight f_size f_fresh f_blocking f_headBase f_headExp f_headMark f_tailBase f_tailExp f_tailCut f_tailMark : Int32} {a_used a_kinds a_partA a_partB a_lens a_begin a_popL a_popR a_need a_keyA a_keyB a_weight a_part a_remap a_hits a_span : Nat → Int32} {a_cur a_next : Nat → Int64}
variable {x h nF : Nat} {next0 : Nat → Int64} {kA0 kB0 w0 : Nat → Int32} {hd m tb te H Tl : Nat}
theorem rx_sc_146 {post : SX → Prop} {o n : Nat} {ld : Bool} (hx : x < 32) (hH : H < 256) (hw : rs_Wk x h nF next0 o n a_next)
    (K : ∀ (o' : Nat) (a_next' : Nat → Int64) (f_broken' : Int32), rs_Wk x h nF next0 o' n a_next' → (f_broken' = 0 → f_broken = 0 ∧ rc_sg a_next' h o' = rc_sg a_next h o ++ (if ld then [H] else [])) → post (f_maxRules, f_maxLength, f_letters, f_ref, f_room, nI o', f_head, f_rootP, f_rootT, f_broken', f_inLeft, f_inRight, f_size, f_fresh, f_blocking, f_headBase, f_headExp, nI H, f_tailBase, f_tailExp, f_tailCut, f_tailMark, a_used, a_kinds, a_partA, a_partB, a_lens, a_cur, a_next', a_begin, a_popL, a_popR, a_need, a_keyA, a_keyB, a_weight, a_part, a_remap, a_hits, a_span)) :
    wX_splitCell_146 post (rj_b ld) f_maxRules f_maxLength f_letters f_ref f_room (nI o) f_head f_rootP f_rootT f_broken f_inLeft f_inRight f_size f_fresh f_blocking f_headBase f_headExp (nI H) f_tailBase f_tailExp f_tailCut f_tailMark a_used a_kinds a_partA a_partB a_lens a_cur a_next a_begin a_popL a_popR a_need a_keyA a_keyB a_weight a_part a_remap a_hits a_span := by
  unfold wX_splitCell_146
  cases ld with
  | false => exact br_t rfl (K o a_next f_broken hw (fun hb => ⟨hb, by simp⟩))
  | true => exact br_f (by decide) (rx_app2 hx (by omega) hw K)
theorem rx_sc_120 {post : SX → Prop} {o n xa mid : Nat} {ld : Bool} (hx : x < 32) (hH : H < 256) (hw : rs_Wk x h nF next0 o n a_next) (hz : rp_fz nF kA0 kB0 w0 a_keyA a_keyB a_weight) (hxa : xa < 256) (hmid : mid ≤ 2 ^ 20)
    (K : ∀ (o' n' mi : Nat) (a_next' : Nat → Int64) (f_broken' : Int32) (a_keyA' : Nat → Int32) (a_keyB' : Nat → Int32) (a_weight' : Nat → Int32) (a_part' : Nat → Int32), rs_Wk x h nF next0 o' n' a_next' → n ≤ n' → rp_fz nF kA0 kB0 w0 a_keyA' a_keyB' a_weight' → (f_broken' = 0 → f_broken = 0 ∧ (0 < mid → mi < n' ∧ a_keyA' mi = nI xa ∧ a_keyB' mi = nI mid ∧ rp_step n n' mi (nI xa) (nI mid) (nI mid * a_weight xa) a_keyA a_keyB a_weight a_keyA' a_keyB' a_weight') ∧ (mid = 0 → n' = n ∧ a_keyA' = a_keyA ∧ a_keyB' = a_keyB ∧ a_weight' = a_weight) ∧ rc_sg a_next' h o' = rc_sg a_next h o ++ ((if 0 < mid then [mi] else []) ++ (if ld then [H] else []))) → post (f_maxRules, f_maxLength, f_letters, f_ref, f_room, nI o', f_head, f_rootP, f_rootT, f_broken', f_inLeft, f_inRight, nI n', nI 0, f_blocking, f_headBase, f_headExp, nI H, f_tailBase, f_tailExp, f_tailCut, f_tailMark, a_used, a_kinds, a_partA, a_partB, a_lens, a_cur, a_next', a_begin, a_popL, a_popR, a_need, a_keyA', a_keyB', a_weight', a_part', a_remap, a_hits, a_span)) :
    wX_splitCell_120 post (nI xa) (nI mid) (rj_b ld) f_maxRules f_maxLength f_letters f_ref f_room (nI o) f_head f_rootP f_rootT f_broken f_inLeft f_inRight (nI n) (nI 0) f_blocking f_headBase f_headExp (nI H) f_tailBase f_tailExp f_tailCut f_tailMark a_used a_kinds a_partA a_partB a_lens a_cur a_next a_begin a_popL a_popR a_need a_keyA a_keyB a_weight a_part a_remap a_hits a_span := by
  unfold wX_splitCell_120
  refine pk_le mid 0 (fun q => ?_) (fun q => ?_)
  · refine rx_sc_146 hx hH hw (fun o' a_next' f_broken' k1 k2 => K o' n 0 a_next' f_broken' a_keyA a_keyB a_weight a_part k1 (Nat.le_refl _) hz (fun hb => ?_))
    obtain ⟨k3, k4⟩ := k2 hb
    refine ⟨k3, fun z => by omega, fun _ => ⟨rfl, rfl, rfl, rfl⟩, ?_⟩
    rw [if_neg (by omega), List.nil_append]; exact k4
  · rw [nI_clamp (by omega)]
    refine ⟨vp_in_nI hxa (by omega), ?_⟩
    refine rx_int2 hw.2.2.2.1 (fun n' i a_keyA' a_keyB' a_weight' a_part' f_broken' k1 k2 k3 k4 k5 => ?_)
    have hw' : rs_Wk x h nF next0 o n' a_next := ⟨hw.1, hw.2.1, by have := hw.2.2.1; omega, k2, hw.2.2.2.2.1, hw.2.2.2.2.2⟩
    refine rx_app2 hx (by omega) hw' (fun o' a_next' f_broken'' l1 l2 => ?_)
    refine rx_sc_146 hx hH l1 (fun o'' a_next'' f_broken''' m1 m2 => ?_)
    refine K o'' n' i a_next'' f_broken''' a_keyA' a_keyB' a_weight' a_part' m1 k1 (k4 _ _ _ _ hw.2.2.1 hz) (fun hb => ?_)
    obtain ⟨m3, m4⟩ := m2 hb
    obtain ⟨l3, l4⟩ := l2 m3
    obtain ⟨k6, k7, k8, k9, k10⟩ := k5 l3
    refine ⟨k6, fun _ => ⟨k7, k8, k9, k10⟩, fun z => by omega, ?_⟩
    rw [m4, l4, if_pos q, List.append_assoc]
theorem rx_sc_107 {post : SX → Prop} {o n xa mid : Nat} {tl ld : Bool} (hx : x < 32) (hH : H < 256) (hT : Tl < 256) (hw : rs_Wk x h nF next0 o n a_next) (hz : rp_fz nF kA0 kB0 w0 a_keyA a_keyB a_weight) (hxa : xa < 256) (hmid : mid ≤ 2 ^ 20)
    (K : ∀ (o' n' mi : Nat) (a_next' : Nat → Int64) (f_broken' : Int32) (a_keyA' : Nat → Int32) (a_keyB' : Nat → Int32) (a_weight' : Nat → Int32) (a_part' : Nat → Int32), rs_Wk x h nF next0 o' n' a_next' → n ≤ n' → rp_fz nF kA0 kB0 w0 a_keyA' a_keyB' a_weight' → (f_broken' = 0 → f_broken = 0 ∧ (0 < mid → mi < n' ∧ a_keyA' mi = nI xa ∧ a_keyB' mi = nI mid ∧ rp_step n n' mi (nI xa) (nI mid) (nI mid * a_weight xa) a_keyA a_keyB a_weight a_keyA' a_keyB' a_weight') ∧ (mid = 0 → n' = n ∧ a_keyA' = a_keyA ∧ a_keyB' = a_keyB ∧ a_weight' = a_weight) ∧ rc_sg a_next' h o' = rc_sg a_next h o ++ ((if tl then [Tl] else []) ++ ((if 0 < mid then [mi] else []) ++ (if ld then [H] else [])))) → post (f_maxRules, f_maxLength, f_letters, f_ref, f_room, nI o', f_head, f_rootP, f_rootT, f_broken', f_inLeft, f_inRight, nI n', nI 0, f_blocking, f_headBase, f_headExp, nI H, f_tailBase, f_tailExp, f_tailCut, nI Tl, a_used, a_kinds, a_partA, a_partB, a_lens, a_cur, a_next', a_begin, a_popL, a_popR, a_need, a_keyA', a_keyB', a_weight', a_part', a_remap, a_hits, a_span)) :
    wX_splitCell_107 post (nI xa) (nI mid) (rj_b tl) (rj_b ld) f_maxRules f_maxLength f_letters f_ref f_room (nI o) f_head f_rootP f_rootT f_broken f_inLeft f_inRight (nI n) (nI 0) f_blocking f_headBase f_headExp (nI H) f_tailBase f_tailExp f_tailCut (nI Tl) a_used a_kinds a_partA a_partB a_lens a_cur a_next a_begin a_popL a_popR a_need a_keyA a_keyB a_weight a_part a_remap a_hits a_span := by
  unfold wX_splitCell_107
  cases tl with
  | false => exact br_t rfl (rx_sc_120 hx hH hw hz hxa hmid K)
  | true =>
    refine br_f (by decide) (rx_app2 hx (by omega) hw (fun o' a_next' f_broken' l1 l2 => ?_))
    refine rx_sc_120 hx hH l1 hz hxa hmid (fun o'' n' mi a_next'' f_broken'' a_keyA' a_keyB' a_weight' a_part' m1 m2 m3 m4 => ?_)
    refine K o'' n' mi a_next'' f_broken'' a_keyA' a_keyB' a_weight' a_part' m1 m2 m3 (fun hb => ?_)
    obtain ⟨m5, m6, m7, m8⟩ := m4 hb
    obtain ⟨l3, l4⟩ := l2 m5
    refine ⟨l3, m6, m7, ?_⟩
    rw [m8, l4, List.append_assoc]; rfl
theorem rx_sc_81 {post : SX → Prop} {o n xa e : Nat} {tl ld : Bool} (hx : x < 32) (hH : H < 256) (hT : Tl < 256) (hw : rs_Wk x h nF next0 o n a_next) (hz : rp_fz nF kA0 kB0 w0 a_keyA a_keyB a_weight) (hxa : xa < 256) (he : e ≤ 2 ^ 20) (htl : tl = rp_tl tb te xa e) (hld : ld = rp_tl hd m xa e)
    (K : ∀ (o' n' mi : Nat) (a_next' : Nat → Int64) (f_broken' : Int32) (a_keyA' : Nat → Int32) (a_keyB' : Nat → Int32) (a_weight' : Nat → Int32) (a_part' : Nat → Int32), rs_Wk x h nF next0 o' n' a_next' → n ≤ n' → rp_fz nF kA0 kB0 w0 a_keyA' a_keyB' a_weight' → (f_broken' = 0 → f_broken = 0 ∧ (0 < rp_mid hd m tb te xa e → mi < n' ∧ a_keyA' mi = nI xa ∧ a_keyB' mi = nI (rp_mid hd m tb te xa e) ∧ rp_step n n' mi (nI xa) (nI (rp_mid hd m tb te xa e)) (nI (rp_mid hd m tb te xa e) * a_weight xa) a_keyA a_keyB a_weight a_keyA' a_keyB' a_weight') ∧ (rp_mid hd m tb te xa e = 0 → n' = n ∧ a_keyA' = a_keyA ∧ a_keyB' = a_keyB ∧ a_weight' = a_weight) ∧ rc_sg a_next' h o' = rc_sg a_next h o ++ ((if rp_tl tb te xa e then [Tl] else []) ++ ((if 0 < rp_mid hd m tb te xa e then [mi] else []) ++ (if rp_tl hd m xa e then [H] else [])))) → post (f_maxRules, f_maxLength, f_letters, f_ref, f_room, nI o', f_head, f_rootP, f_rootT, f_broken', f_inLeft, f_inRight, nI n', nI 0, f_blocking, f_headBase, nI m, nI H, f_tailBase, f_tailExp, nI (rp_cut hd tb m te), nI Tl, a_used, a_kinds, a_partA, a_partB, a_lens, a_cur, a_next', a_begin, a_popL, a_popR, a_need, a_keyA', a_keyB', a_weight', a_part', a_remap, a_hits, a_span)) :
    wX_splitCell_81 post (nI xa) (nI e) (rj_b tl) (rj_b ld) f_maxRules f_maxLength f_letters f_ref f_room (nI o) f_head f_rootP f_rootT f_broken f_inLeft f_inRight (nI n) (nI 0) f_blocking f_headBase (nI m) (nI H) f_tailBase f_tailExp (nI (rp_cut hd tb m te)) (nI Tl) a_used a_kinds a_partA a_partB a_lens a_cur a_next a_begin a_popL a_popR a_need a_keyA a_keyB a_weight a_part a_remap a_hits a_span := by
  have hme := @rp_mid_eq hd m tb te xa e
  have hmid : rp_mid hd m tb te xa e ≤ 2 ^ 20 := by omega
  have go : ∀ e', e' = rp_mid hd m tb te xa e + (if ld then m else 0) → wX_splitCell_95 post (nI xa) (nI e') (rj_b tl) (rj_b ld) f_maxRules f_maxLength f_letters f_ref f_room (nI o) f_head f_rootP f_rootT f_broken f_inLeft f_inRight (nI n) (nI 0) f_blocking f_headBase (nI m) (nI H) f_tailBase f_tailExp (nI (rp_cut hd tb m te)) (nI Tl) a_used a_kinds a_partA a_partB a_lens a_cur a_next a_begin a_popL a_popR a_need a_keyA a_keyB a_weight a_part a_remap a_hits a_span := by
    intro e' he'
    unfold wX_splitCell_95
    rw [← htl, ← hld] at K
    cases ld with
    | false =>
      have : e' = rp_mid hd m tb te xa e := by simpa using he'
      rw [this]
      exact br_t rfl (rx_sc_107 hx hH hT hw hz hxa hmid K)
    | true =>
      have h2 : e' = rp_mid hd m tb te xa e + m := by simpa using he'
      refine br_f (by decide) (nm_r (e' := nI (rp_mid hd m tb te xa e)) ?_ (rx_sc_107 hx hH hT hw hz hxa hmid K))
      rw [h2, pk_sub (by omega), Nat.add_sub_cancel]
  unfold wX_splitCell_81
  rw [← htl, ← hld] at hme
  cases tl with
  | false =>
    refine br_t rfl (go e ?_)
    have h2 : 0 + rp_mid hd m tb te xa e + (if ld = true then m else 0) = e := hme
    omega
  | true =>
    have h2 : rp_cut hd tb m te + rp_mid hd m tb te xa e + (if ld = true then m else 0) = e := hme
    refine br_f (by decide) (nm_r (e' := nI (e - rp_cut hd tb m te)) (pk_sub (by omega)) (go _ (by omega)))
theorem rx_sc_53 {post : SX → Prop} {o n c xa e : Nat} {tl : Bool} (hx : x < 32) (hH : H < 256) (hT : Tl < 256) (hw : rs_Wk x h nF next0 o n a_next) (hz : rp_fz nF kA0 kB0 w0 a_keyA a_keyB a_weight) (hc : c < 256) (ekB : a_keyB c = nI e) (hxa : xa < 256) (hhd : hd < 256) (hm : m ≤ 2 ^ 20) (he : e ≤ 2 ^ 20) (htl : tl = rp_tl tb te xa e)
    (K : ∀ (o' n' mi : Nat) (a_next' : Nat → Int64) (f_broken' : Int32) (a_keyA' : Nat → Int32) (a_keyB' : Nat → Int32) (a_weight' : Nat → Int32) (a_part' : Nat → Int32), rs_Wk x h nF next0 o' n' a_next' → n ≤ n' → rp_fz nF kA0 kB0 w0 a_keyA' a_keyB' a_weight' → (f_broken' = 0 → f_broken = 0 ∧ (0 < rp_mid hd m tb te xa e → mi < n' ∧ a_keyA' mi = nI xa ∧ a_keyB' mi = nI (rp_mid hd m tb te xa e) ∧ rp_step n n' mi (nI xa) (nI (rp_mid hd m tb te xa e)) (nI (rp_mid hd m tb te xa e) * a_weight xa) a_keyA a_keyB a_weight a_keyA' a_keyB' a_weight') ∧ (rp_mid hd m tb te xa e = 0 → n' = n ∧ a_keyA' = a_keyA ∧ a_keyB' = a_keyB ∧ a_weight' = a_weight) ∧ rc_sg a_next' h o' = rc_sg a_next h o ++ ((if rp_tl tb te xa e then [Tl] else []) ++ ((if 0 < rp_mid hd m tb te xa e then [mi] else []) ++ (if rp_tl hd m xa e then [H] else [])))) → post (f_maxRules, f_maxLength, f_letters, f_ref, f_room, nI o', f_head, f_rootP, f_rootT, f_broken', f_inLeft, f_inRight, nI n', nI 0, f_blocking, nI hd, nI m, nI H, f_tailBase, f_tailExp, nI (rp_cut hd tb m te), nI Tl, a_used, a_kinds, a_partA, a_partB, a_lens, a_cur, a_next', a_begin, a_popL, a_popR, a_need, a_keyA', a_keyB', a_weight', a_part', a_remap, a_hits, a_span)) :
    wX_splitCell_53 post (nI c) (nI xa) (nI e) (rj_b tl) f_maxRules f_maxLength f_letters f_ref f_room (nI o) f_head f_rootP f_rootT f_broken f_inLeft f_inRight (nI n) (nI 0) f_blocking (nI hd) (nI m) (nI H) f_tailBase f_tailExp (nI (rp_cut hd tb m te)) (nI Tl) a_used a_kinds a_partA a_partB a_lens a_cur a_next a_begin a_popL a_popR a_need a_keyA a_keyB a_weight a_part a_remap a_hits a_span := by
  unfold wX_splitCell_53
  rw [nI_clamp (by omega), ekB]
  refine pk_eq xa hd (fun q => ⟨vp_in_nI hc (by omega), pk_lt e m (fun q2 => ?_) (fun q2 => ?_)⟩) (fun q => ?_)
  · unfold wX_splitCell_80
    exact rx_sc_81 (ld := false) hx hH hT hw hz hxa he htl (by unfold rp_tl; simp; omega) K
  · exact rx_sc_81 (ld := true) hx hH hT hw hz hxa he htl (by unfold rp_tl; simp; omega) K
  · unfold wX_splitCell_80
    exact rx_sc_81 (ld := false) hx hH hT hw hz hxa he htl (by unfold rp_tl; simp [q]) K
theorem rx_splitCell {post : SX → Prop} {o n c xa e : Nat} (hx : x < 32) (hH : H < 256) (hT : Tl < 256) (hw : rs_Wk x h nF next0 o n a_next) (hz : rp_fz nF kA0 kB0 w0 a_keyA a_keyB a_weight) (hc : c < 256) (ekA : a_keyA c = nI xa) (ekB : a_keyB c = nI e) (hxa : xa < 256) (hhd : hd < 256) (htb : tb < 256) (hm : m ≤ 2 ^ 20) (hte : te ≤ 2 ^ 20) (he : e ≤ 2 ^ 20)
    (K : ∀ (o' n' mi : Nat) (a_next' : Nat → Int64) (f_broken' : Int32) (a_keyA' : Nat → Int32) (a_keyB' : Nat → Int32) (a_weight' : Nat → Int32) (a_part' : Nat → Int32), rs_Wk x h nF next0 o' n' a_next' → n ≤ n' → rp_fz nF kA0 kB0 w0 a_keyA' a_keyB' a_weight' → (f_broken' = 0 → f_broken = 0 ∧ (0 < rp_mid hd m tb te xa e → mi < n' ∧ a_keyA' mi = nI xa ∧ a_keyB' mi = nI (rp_mid hd m tb te xa e) ∧ rp_step n n' mi (nI xa) (nI (rp_mid hd m tb te xa e)) (nI (rp_mid hd m tb te xa e) * a_weight xa) a_keyA a_keyB a_weight a_keyA' a_keyB' a_weight') ∧ (rp_mid hd m tb te xa e = 0 → n' = n ∧ a_keyA' = a_keyA ∧ a_keyB' = a_keyB ∧ a_weight' = a_weight) ∧ rc_sg a_next' h o' = rc_sg a_next h o ++ ((if rp_tl tb te xa e then [Tl] else []) ++ ((if 0 < rp_mid hd m tb te xa e then [mi] else []) ++ (if rp_tl hd m xa e then [H] else [])))) → post (f_maxRules, f_maxLength, f_letters, f_ref, f_room, nI o', f_head, f_rootP, f_rootT, f_broken', f_inLeft, f_inRight, nI n', nI 0, f_blocking, nI hd, nI m, nI H, nI tb, nI te, nI (rp_cut hd tb m te), nI Tl, a_used, a_kinds, a_partA, a_partB, a_lens, a_cur, a_next', a_begin, a_popL, a_popR, a_need, a_keyA', a_keyB', a_weight', a_part', a_remap, a_hits, a_span)) :
    wpX_splitCell post (f_maxRules, f_maxLength, f_letters, f_ref, f_room, nI o, f_head, f_rootP, f_rootT, f_broken, f_inLeft, f_inRight, nI n, nI 0, f_blocking, nI hd, nI m, nI H, nI tb, nI te, nI (rp_cut hd tb m te), nI Tl, a_used, a_kinds, a_partA, a_partB, a_lens, a_cur, a_next, a_begin, a_popL, a_popR, a_need, a_keyA, a_keyB, a_weight, a_part, a_remap, a_hits, a_span) (nI c) := by
  unfold wpX_splitCell
  dsimp only
  have v : vp_in (nI c) 256 := vp_in_nI hc (by omega)
  refine pk_lt c 256 (fun _ => ?_) (fun z => by omega)
  rw [nI_clamp (by omega)]
  refine ⟨v, nm_r ekA ⟨v, nm_r ekB ?_⟩⟩
  rw [ekB]
  refine pk_eq xa tb (fun q => ⟨v, pk_lt e te (fun q2 => ?_) (fun q2 => ?_)⟩) (fun q => ?_)
  · unfold wX_splitCell_52
    exact rx_sc_53 (tl := false) hx hH hT hw hz hc ekB hxa hhd hm he (by unfold rp_tl; simp; omega) K
  · exact rx_sc_53 (tl := true) hx hH hT hw hz hc ekB hxa hhd hm he (by unfold rp_tl; simp; omega) K
  · unfold wX_splitCell_52
    exact rx_sc_53 (tl := false) hx hH hT hw hz hc ekB hxa hhd hm he (by unfold rp_tl; simp [q]) K
end
end
section
/-! split: the walk -/
def rp_mi (kA kB : Nat → Int32) (x y : Int32) : Nat → Nat
  | 0 => 0
  | n + 1 => if kA n = x ∧ kB n = y then n else rp_mi kA kB x y n
theorem rp_mi_eq {kA kB : Nat → Int32} {x y : Int32} {i : Nat} (h1 : kA i = x) (h2 : kB i = y) : ∀ n, i < n → (∀ j, j < n → kA j = x → kB j = y → j = i) → rp_mi kA kB x y n = i := by
  intro n
  induction n with
  | zero => intro hi; omega
  | succ n ih =>
    intro hi hu
    show (if kA n = x ∧ kB n = y then n else rp_mi kA kB x y n) = i
    by_cases q : kA n = x ∧ kB n = y
    · rw [if_pos q]; exact hu n (by omega) q.1 q.2
    · rw [if_neg q]
      refine ih ?_ (fun j hj => hu j (by omega))
      rcases Nat.lt_or_ge i n with z | z
      · exact z
      · have : i = n := by omega
        subst this
        exact absurd ⟨h1, h2⟩ q
def rp_n (f : Nat → Int32) (c : Nat) : Nat := (f c).toNatClampNeg
/-- the split of a block, looked up in the table -/
def rp_S (hd m tb te H Tl : Nat) (ka kb : Nat → Nat) (kA kB : Nat → Int32) (n c : Nat) : List Nat :=
  (if rp_tl tb te (ka c) (kb c) then [Tl] else []) ++ ((if 0 < rp_mid hd m tb te (ka c) (kb c) then [rp_mi kA kB (nI (ka c)) (nI (rp_mid hd m tb te (ka c) (kb c))) n] else []) ++ (if rp_tl hd m (ka c) (kb c) then [H] else []))
/-- the table in a split -/
def rp_TS (nF n0 : Nat) (wt : Nat → Nat) (hd m tb te : Nat) (n : Nat) (kA kB w : Nat → Int32) : Prop :=
  nF + 2 ≤ n ∧ n ≤ 256 ∧ n0 ≤ nF ∧ (kA nF = -1 ∧ kA (nF + 1) = -1 ∧ w nF = nI (m * wt hd) ∧ w (nF + 1) = nI (rp_cut hd tb m te * wt tb)) ∧
  (∀ i, i < n → i ≠ nF → i ≠ nF + 1 → ∃ a e, kA i = nI a ∧ kB i = nI e ∧ a < n0 ∧ 1 ≤ e ∧ e ≤ 2 ^ 20 ∧ w i = nI (e * wt a)) ∧
  (∀ i j, i < n → j < n → i ≠ nF → i ≠ nF + 1 → kA i = kA j → kB i = kB j → i = j)
theorem rp_m1 {a : Nat} (ha : a < 2 ^ 31) : nI a ≠ -1 := by
  intro q
  have h := nI_pos ha
  rw [q] at h
  exact h (by decide)
theorem rp_TS_step {nF n0 : Nat} {wt : Nat → Nat} {hd m tb te n n' i xa mid : Nat} {kA kB w kA' kB' w' : Nat → Int32} (h : rp_TS nF n0 wt hd m tb te n kA kB w) (hn' : n' ≤ 256) (hx : xa < n0) (h1 : 1 ≤ mid) (h2 : mid ≤ 2 ^ 20) (hw : w xa = nI (wt xa)) (hs : rp_step n n' i (nI xa) (nI mid) (nI mid * w xa) kA kB w kA' kB' w') : rp_TS nF n0 wt hd m tb te n' kA' kB' w' := by
  rcases hs with ⟨rfl, rfl, rfl, rfl⟩ | ⟨rfl, rfl, rfl, rfl, rfl, hno⟩
  · exact h
  · obtain ⟨t1, t2, t3, ⟨t4, t5, t6, t7⟩, t8, t9⟩ := h
    refine ⟨by omega, hn', t3, ⟨?_, ?_, ?_, ?_⟩, fun j hj j1 j2 => ?_, fun j l hj hl j1 j2 e1 e2 => ?_⟩
    · rw [pk_un (by omega)]; exact t4
    · rw [pk_un (by omega)]; exact t5
    · rw [pk_un (by omega)]; exact t6
    · rw [pk_un (by omega)]; exact t7
    · by_cases q : j = i
      · subst q
        rw [pk_us, pk_us, pk_us]
        exact ⟨xa, mid, rfl, rfl, hx, h1, h2, by rw [hw, pk_mul]⟩
      · rw [pk_un q, pk_un q, pk_un q]; exact t8 j (by omega) j1 j2
    · by_cases q : j = i
      · by_cases q2 : l = i
        · omega
        · subst q
          rw [pk_us, pk_un q2] at e1 e2
          exact absurd ⟨e1.symm, e2.symm⟩ (hno l (by omega))
      · by_cases q2 : l = i
        · subst q2
          rw [pk_us, pk_un q] at e1 e2
          exact absurd ⟨e1, e2⟩ (hno j (by omega))
        · rw [pk_un q, pk_un q2] at e1 e2
          exact t9 j l (by omega) (by omega) j1 j2 e1 e2
/-- the block with these keys is in the table -/
def rp_df (kA kB : Nat → Int32) (n : Nat) (a e : Nat) : Prop := 0 < e → ∃ i, i < n ∧ kA i = nI a ∧ kB i = nI e
theorem rp_TS_mi {nF n0 : Nat} {wt : Nat → Nat} {hd m tb te n i xa mid : Nat} {kA kB w : Nat → Int32} (h : rp_TS nF n0 wt hd m tb te n kA kB w) (hx : xa < 2 ^ 31) (hi : i < n) (e1 : kA i = nI xa) (e2 : kB i = nI mid) : rp_mi kA kB (nI xa) (nI mid) n = i := by
  refine rp_mi_eq e1 e2 n hi (fun j hj q1 q2 => ?_)
  obtain ⟨t1, t2, t3, ⟨t4, t5, t6, t7⟩, t8, t9⟩ := h
  refine t9 j i hj hi (fun z => ?_) (fun z => ?_) (by rw [q1, e1]) (by rw [q2, e2])
  · subst z; rw [t4] at q1; exact rp_m1 hx q1.symm
  · subst z; rw [t5] at q1; exact rp_m1 hx q1.symm
theorem rp_df_step {n n' i : Nat} {x y z : Int32} {kA kB w kA' kB' w' : Nat → Int32} (hs : rp_step n n' i x y z kA kB w kA' kB' w') {a e : Nat} (h : rp_df kA kB n a e) : rp_df kA' kB' n' a e := by
  intro q
  obtain ⟨j, j1, j2, j3⟩ := h q
  rcases hs with ⟨rfl, rfl, rfl, rfl⟩ | ⟨rfl, rfl, rfl, rfl, rfl, hno⟩
  · exact ⟨j, j1, j2, j3⟩
  · exact ⟨j, by omega, by rw [pk_un (by omega)]; exact j2, by rw [pk_un (by omega)]; exact j3⟩
theorem rp_S_step {hd m tb te H Tl : Nat} {ka kb : Nat → Nat} {nF n0 : Nat} {wt : Nat → Nat} {n n' i : Nat} {x y z : Int32} {kA kB w kA' kB' w' : Nat → Int32} (h : rp_TS nF n0 wt hd m tb te n kA kB w) (h' : rp_TS nF n0 wt hd m tb te n' kA' kB' w') (hs : rp_step n n' i x y z kA kB w kA' kB' w') {c : Nat} (hc : ka c < 2 ^ 31) (hd' : rp_df kA kB n (ka c) (rp_mid hd m tb te (ka c) (kb c))) : rp_S hd m tb te H Tl ka kb kA' kB' n' c = rp_S hd m tb te H Tl ka kb kA kB n c := by
  unfold rp_S
  by_cases q : 0 < rp_mid hd m tb te (ka c) (kb c)
  · obtain ⟨j, j1, j2, j3⟩ := hd' q
    have e1 := rp_TS_mi h hc j1 j2 j3
    have e2 : rp_mi kA' kB' (nI (ka c)) (nI (rp_mid hd m tb te (ka c) (kb c))) n' = j := by
      rcases hs with ⟨rfl, rfl, rfl, rfl⟩ | ⟨rfl, rfl, rfl, rfl, rfl, hno⟩
      · exact e1
      · exact rp_TS_mi h' hc (by omega) (by rw [pk_un (by omega)]; exact j2) (by rw [pk_un (by omega)]; exact j3)
    rw [e1, e2]
  · rw [if_neg q, if_neg q]
/-- what position k of the old cells becomes -/
def rp_out (i1 i2 H Tl : Nat) (Sf : Nat → List Nat) (cur : Nat → Int64) (k : Nat) : List Nat :=
  if k = i1 then [H] else if k = i2 then [Tl] else if 256 ≤ rc_c cur k then [rc_c cur k] else Sf (rc_c cur k)
def rp_OUT (f : Nat → List Nat) (i j : Nat) : List Nat := ((List.range (j - i)).map (fun t => f (i + t))).flatten
theorem rp_OUT_nil {f : Nat → List Nat} {i : Nat} : rp_OUT f i i = [] := by
  unfold rp_OUT; rw [Nat.sub_self]; rfl
theorem rp_OUT_snoc {f : Nat → List Nat} {i j : Nat} (h : i ≤ j) : rp_OUT f i (j + 1) = rp_OUT f i j ++ f j := by
  unfold rp_OUT
  have e : j + 1 - i = (j - i) + 1 := by omega
  rw [e, List.range_succ, List.map_append, List.flatten_append]
  have e2 : i + (j - i) = j := by omega
  simp [e2]
theorem rp_OUT_congr {f g : Nat → List Nat} {i j : Nat} (h : ∀ k, i ≤ k → k < j → f k = g k) : rp_OUT f i j = rp_OUT g i j := by
  unfold rp_OUT
  congr 1
  refine List.map_congr_left (fun t ht => h _ (by omega) ?_)
  rw [List.mem_range] at ht
  omega
/-- the split, strong, at position k -/
def rp_SS (i1 i2 hd m tb te H Tl nF n0 : Nat) (wt ka kb : Nat → Nat) (cur : Nat → Int64) (k n : Nat) (kA kB w : Nat → Int32) : Prop :=
  rp_TS nF n0 wt hd m tb te n kA kB w ∧ ∀ j, j < k → j ≠ i1 → j ≠ i2 → rc_c cur j < 256 → rp_df kA kB n (ka (rc_c cur j)) (rp_mid hd m tb te (ka (rc_c cur j)) (kb (rc_c cur j)))
def rp_F (i1 i2 hd m tb te H Tl : Nat) (ka kb : Nat → Nat) (cur : Nat → Int64) (n : Nat) (kA kB : Nat → Int32) : Nat → List Nat :=
  rp_out i1 i2 H Tl (rp_S hd m tb te H Tl ka kb kA kB n) cur
theorem rp_F_step {i1 i2 hd m tb te H Tl nF n0 : Nat} {wt ka kb : Nat → Nat} {cur : Nat → Int64} {k n n' i : Nat} {x y z : Int32} {kA kB w kA' kB' w' : Nat → Int32} (h : rp_SS i1 i2 hd m tb te H Tl nF n0 wt ka kb cur k n kA kB w) (h' : rp_TS nF n0 wt hd m tb te n' kA' kB' w') (hs : rp_step n n' i x y z kA kB w kA' kB' w') (hka : ∀ c, ka c < 2 ^ 31) : ∀ j, j < k → rp_F i1 i2 hd m tb te H Tl ka kb cur n' kA' kB' j = rp_F i1 i2 hd m tb te H Tl ka kb cur n kA kB j := by
  intro j hj
  unfold rp_F rp_out
  by_cases q1 : j = i1
  · rw [if_pos q1, if_pos q1]
  · rw [if_neg q1, if_neg q1]
    by_cases q2 : j = i2
    · rw [if_pos q2, if_pos q2]
    · rw [if_neg q2, if_neg q2]
      by_cases q3 : 256 ≤ rc_c cur j
      · rw [if_pos q3, if_pos q3]
      · rw [if_neg q3, if_neg q3]
        exact rp_S_step h.1 h' hs (hka _) (h.2 j hj q1 q2 (by omega))
section
variable {f_maxRules f_maxLength f_letters f_ref f_room f_out f_head f_rootP f_rootT f_broken f_inLeft f_inRight f_size f_fresh f_blocking f_headBase f_headExp f_headMark f_tailBase f_tailExp f_tailCut f_tailMark : Int32} {a_used a_kinds a_partA a_partB a_lens a_begin a_popL a_popR a_need a_keyA a_keyB a_weight a_part a_remap a_hits a_span : Nat → Int32} {a_cur a_next : Nat → Int64}
variable {i1 i2 hd m tb te H Tl nF n0 : Nat} {wt ka kb : Nat → Nat} {kA0 kB0 w0 : Nat → Int32}
theorem rx_split_61 {post : SX → Prop} {J : Int32 → Int32 → Int32 → Int32 → Int32 → Int32 → Int32 → Int32 → Int32 → Int32 → Int32 → Int32 → Int32 → Int32 → Int32 → Int32 → Int32 → Int32 → Int32 → Int32 → Int32 → Int32 → Int32 → Int32 → (Nat → Int32) → (Nat → Int32) → (Nat → Int32) → (Nat → Int32) → (Nat → Int32) → (Nat → Int64) → (Nat → Int64) → (Nat → Int32) → (Nat → Int32) → (Nat → Int32) → (Nat → Int32) → (Nat → Int32) → (Nat → Int32) → (Nat → Int32) → (Nat → Int32) → (Nat → Int32) → (Nat → Int32) → (Nat → Int32) → Prop} {x h j0 j1 : Nat} {next0 : Nat → Int64} {br0 : Int32} {Cd : Nat → (Nat → Int32) → (Nat → Int32) → Prop} (hx : x < 32) (h01 : j0 ≤ j1) (h1 : j1 ≤ 1024) (hi1 : i1 < 1024) (hi2 : i2 < 1024) (hH : H < 256) (hT : Tl < 256) (hcur : ∀ k, j0 ≤ k → k < j1 → rc_c a_cur k < 256 + x) (hcell : ∀ k, j0 ≤ k → k < j1 → rc_c a_cur k < 256 → rc_c a_cur k < nF) (hka : ∀ c, ka c < 256) (hkb : ∀ c, kb c ≤ 2 ^ 20) (hk0 : ∀ c, c < nF → kA0 c = nI (ka c) ∧ kB0 c = nI (kb c) ∧ ka c < n0) (hw0 : ∀ c, c < n0 → w0 c = nI (wt c)) (hn0 : n0 ≤ nF) (hhd : hd < 256) (htb : tb < 256) (hm : m ≤ 2 ^ 20) (hte : te ≤ 2 ^ 20)
    (hCd : ∀ k n n' i x y z kA kB w kA' kB' w', k ≤ j1 → rp_SS i1 i2 hd m tb te H Tl nF n0 wt ka kb a_cur k n kA kB w → rp_TS nF n0 wt hd m tb te n' kA' kB' w' → rp_step n n' i x y z kA kB w kA' kB' w' → j0 ≤ k → Cd n kA kB → Cd n' kA' kB')
    (K : ∀ (o' n' : Nat) (a_next' : Nat → Int64) (f_broken' : Int32) (a_keyA' : Nat → Int32) (a_keyB' : Nat → Int32) (a_weight' : Nat → Int32) (a_part' : Nat → Int32), rs_Wk x h nF next0 o' n' a_next' → rp_fz nF kA0 kB0 w0 a_keyA' a_keyB' a_weight' → (f_broken' = 0 → br0 = 0 ∧ rp_SS i1 i2 hd m tb te H Tl nF n0 wt ka kb a_cur j1 n' a_keyA' a_keyB' a_weight' ∧ Cd n' a_keyA' a_keyB' ∧ rc_sg a_next' h o' = rp_OUT (rp_F i1 i2 hd m tb te H Tl ka kb a_cur n' a_keyA' a_keyB') j0 j1) → J (nI j1) (nI (x + 1)) f_maxRules f_maxLength f_letters f_ref f_room (nI o') f_head f_rootP f_rootT f_broken' f_inLeft f_inRight (nI n') (nI 0) f_blocking (nI hd) (nI m) (nI H) (nI tb) (nI te) (nI (rp_cut hd tb m te)) (nI Tl) a_used a_kinds a_partA a_partB a_lens a_cur a_next' (upd a_begin (x + 1) (nI o')) a_popL a_popR a_need a_keyA' a_keyB' a_weight' a_part' a_remap a_hits a_span) :
    ∀ (d k o n : Nat) (a_next' : Nat → Int64) (f_broken' : Int32) (a_keyA' : Nat → Int32) (a_keyB' : Nat → Int32) (a_weight' : Nat → Int32) (a_part' : Nat → Int32), k + d = j1 → j0 ≤ k → rs_Wk x h nF next0 o n a_next' → rp_fz nF kA0 kB0 w0 a_keyA' a_keyB' a_weight' → (f_broken' = 0 → br0 = 0 ∧ rp_SS i1 i2 hd m tb te H Tl nF n0 wt ka kb a_cur k n a_keyA' a_keyB' a_weight' ∧ Cd n a_keyA' a_keyB' ∧ rc_sg a_next' h o = rp_OUT (rp_F i1 i2 hd m tb te H Tl ka kb a_cur n a_keyA' a_keyB') j0 k) →
    wX_split_61 post J (nI i1) (nI i2) (nI x) (nI j1) (d + 1) (nI k) f_maxRules f_maxLength f_letters f_ref f_room (nI o) f_head f_rootP f_rootT f_broken' f_inLeft f_inRight (nI n) (nI 0) f_blocking (nI hd) (nI m) (nI H) (nI tb) (nI te) (nI (rp_cut hd tb m te)) (nI Tl) a_used a_kinds a_partA a_partB a_lens a_cur a_next' a_begin a_popL a_popR a_need a_keyA' a_keyB' a_weight' a_part' a_remap a_hits a_span := by
  intro d
  induction d with
  | zero =>
    intro k o n a_next' f_broken' a_keyA' a_keyB' a_weight' a_part' hk hjk hw hz hs
    have e : k = j1 := by omega
    subst e
    refine pk_le k k (fun _ => ?_) (fun z => by omega)
    rw [nI_1, nI_clamp (by omega)]
    exact ⟨vp_in_nI (by omega) (by omega), nm_e (nm_e (K o n a_next' f_broken' a_keyA' a_keyB' a_weight' a_part' hw hz hs))⟩
  | succ d ih =>
    intro k o n a_next' f_broken' a_keyA' a_keyB' a_weight' a_part' hk hjk hw hz hs
    have hkj : k < j1 := by omega
    refine pk_le j1 k (fun z => by omega) (fun _ => rx_get (by omega) ?_)
    -- the strong part of a step that leaves the table
    have same : ∀ (c o' : Nat) (next' : Nat → Int64), rp_F i1 i2 hd m tb te H Tl ka kb a_cur n a_keyA' a_keyB' k = [c] → (rc_c a_cur k < 256 → k = i1 ∨ k = i2) → f_broken' = 0 → rc_sg next' h o' = rc_sg a_next' h o ++ [c] → br0 = 0 ∧ rp_SS i1 i2 hd m tb te H Tl nF n0 wt ka kb a_cur (k + 1) n a_keyA' a_keyB' a_weight' ∧ Cd n a_keyA' a_keyB' ∧ rc_sg next' h o' = rp_OUT (rp_F i1 i2 hd m tb te H Tl ka kb a_cur n a_keyA' a_keyB') j0 (k + 1) := by
      intro c o' next' hF hno hb hsg
      obtain ⟨s0, s1, s2, s3⟩ := hs hb
      refine ⟨s0, ⟨s1.1, fun j hj q1 q2 q3 => ?_⟩, s2, ?_⟩
      · rcases Nat.lt_or_ge j k with z | z
        · exact s1.2 j z q1 q2 q3
        · have : j = k := by omega
          subst this
          rcases hno q3 with z | z
          · exact absurd z q1
          · exact absurd z q2
      · rw [hsg, s3, rp_OUT_snoc hjk, hF]
    refine pk_eq k i1 (fun q1 => ?_) (fun q1 => pk_eq k i2 (fun q2 => ?_) (fun q2 => ?_))
    · refine rx_app2 hx (by omega) hw (fun o' a_next'' f_broken'' l1 l2 => ?_)
      refine nm_r (nI_1 k) (ih (k + 1) o' n a_next'' f_broken'' a_keyA' a_keyB' a_weight' a_part' (by omega) (by omega) l1 hz (fun hb => ?_))
      obtain ⟨l3, l4⟩ := l2 hb
      exact same H o' _ (by unfold rp_F rp_out; rw [if_pos q1]) (fun _ => Or.inl q1) l3 l4
    · refine rx_app2 hx (by omega) hw (fun o' a_next'' f_broken'' l1 l2 => ?_)
      refine nm_r (nI_1 k) (ih (k + 1) o' n a_next'' f_broken'' a_keyA' a_keyB' a_weight' a_part' (by omega) (by omega) l1 hz (fun hb => ?_))
      obtain ⟨l3, l4⟩ := l2 hb
      exact same Tl o' _ (by unfold rp_F rp_out; rw [if_neg q1, if_pos q2]) (fun _ => Or.inr q2) l3 l4
    · rcases Nat.lt_or_ge (rc_c a_cur k) 256 with hc | hc
      · have hcn := hcell k hjk hkj hc
        obtain ⟨z1, z2, z3⟩ := hz _ hcn
        obtain ⟨y1, y2, y3⟩ := hk0 _ hcn
        refine rx_splitCell hx hH hT hw hz hc (z1.trans y1) (z2.trans y2) (hka _) hhd htb hm hte (hkb _) (fun o' n' mi a_next'' f_broken'' a_keyA'' a_keyB'' a_weight'' a_part'' l1 l2 l3 l4 => ?_)
        refine nm_r (nI_1 k) (ih (k + 1) o' n' a_next'' f_broken'' a_keyA'' a_keyB'' a_weight'' a_part'' (by omega) (by omega) l1 l3 (fun hb => ?_))
        obtain ⟨l5, l6, l7, l8⟩ := l4 hb
        obtain ⟨s0, s1, s2, s3⟩ := hs l5
        have wx : a_weight' (ka (rc_c a_cur k)) = nI (wt (ka (rc_c a_cur k))) := by
          rw [(hz _ (by omega)).2.2]; exact hw0 _ y3
        have hka31 : ∀ c, ka c < 2 ^ 31 := fun c => by have := hka c; omega
        have hmid : rp_mid hd m tb te (ka (rc_c a_cur k)) (kb (rc_c a_cur k)) ≤ 2 ^ 20 := by
          have a1 := @rp_mid_eq hd m tb te (ka (rc_c a_cur k)) (kb (rc_c a_cur k))
          have a2 := hkb (rc_c a_cur k)
          omega
        obtain ⟨i, x, y, z, hst, hts⟩ : ∃ i x y z, rp_step n n' i x y z a_keyA' a_keyB' a_weight' a_keyA'' a_keyB'' a_weight'' ∧ rp_TS nF n0 wt hd m tb te n' a_keyA'' a_keyB'' a_weight'' := by
          rcases Nat.eq_zero_or_pos (rp_mid hd m tb te (ka (rc_c a_cur k)) (kb (rc_c a_cur k))) with q | q
          · obtain ⟨w1, w2, w3, w4⟩ := l7 q
            refine ⟨0, 0, 0, 0, Or.inl ⟨w1, w2, w3, w4⟩, ?_⟩
            rw [w1, w2, w3, w4]; exact s1.1
          · obtain ⟨w1, w2, w3, w4⟩ := l6 q
            exact ⟨_, _, _, _, w4, rp_TS_step s1.1 l1.2.2.2.1 y3 q hmid wx w4⟩
        have hFs := rp_F_step s1 hts hst hka31
        have hdf : rp_df a_keyA'' a_keyB'' n' (ka (rc_c a_cur k)) (rp_mid hd m tb te (ka (rc_c a_cur k)) (kb (rc_c a_cur k))) := fun q => by
          obtain ⟨w1, w2, w3, w4⟩ := l6 q
          exact ⟨mi, w1, w2, w3⟩
        refine ⟨s0, ⟨hts, fun j hj p1 p2 p3 => ?_⟩, hCd k n n' i x y z _ _ _ _ _ _ (by omega) s1 hts hst hjk s2, ?_⟩
        · rcases Nat.lt_or_ge j k with p4 | p4
          · exact rp_df_step hst (s1.2 j p4 p1 p2 p3)
          · have : j = k := by omega
            subst this
            exact hdf
        · rw [l8, s3, rp_OUT_snoc hjk]
          congr 1
          · exact (rp_OUT_congr (fun j j1 j2 => hFs j j2)).symm
          · unfold rp_F rp_out
            rw [if_neg q1, if_neg q2, if_neg (c := 256 ≤ rc_c a_cur k) (Nat.not_le.mpr hc)]
            unfold rp_S
            congr 2
            by_cases q : 0 < rp_mid hd m tb te (ka (rc_c a_cur k)) (kb (rc_c a_cur k))
            · obtain ⟨w1, w2, w3, w4⟩ := l6 q
              rw [if_pos q, if_pos q, rp_TS_mi hts (hka31 _) w1 w2 w3]
            · rw [if_neg q, if_neg q]
      · unfold wpX_splitCell
        refine pk_lt (rc_c a_cur k) 256 (fun z => by omega) (fun _ => ?_) rfl rfl (by have := rc_lt a_cur k; omega)
        refine rx_app2 hx (hcur k hjk hkj) hw (fun o' a_next'' f_broken'' l1 l2 => ?_)
        refine nm_r (nI_1 k) (ih (k + 1) o' n a_next'' f_broken'' a_keyA' a_keyB' a_weight' a_part' (by omega) (by omega) l1 hz (fun hb => ?_))
        obtain ⟨l3, l4⟩ := l2 hb
        exact same _ o' _ (by unfold rp_F rp_out; rw [if_neg q1, if_neg q2, if_pos hc]) (fun z => by omega) l3 l4
end
end
section
/-! split: all rules -/
section
variable {f_maxRules f_maxLength f_letters f_ref f_room f_out f_head f_rootP f_rootT f_broken f_inLeft f_inRight f_size f_fresh f_blocking f_headBase f_headExp f_headMark f_tailBase f_tailExp f_tailCut f_tailMark : Int32} {a_used a_kinds a_partA a_partB a_lens a_begin a_popL a_popR a_need a_keyA a_keyB a_weight a_part a_remap a_hits a_span : Nat → Int32} {a_cur a_next : Nat → Int64}
variable {i1 i2 hd m tb te H Tl nF n0 : Nat} {wt ka kb : Nat → Nat} {kA0 kB0 w0 : Nat → Int32} {b : Nat → Nat}
def rp_SI (i1 i2 hd m tb te H Tl nF n0 : Nat) (wt ka kb : Nat → Nat) (kA0 kB0 w0 : Nat → Int32) (b : Nat → Nat) (br0 : Int32) (cur : Nat → Int64) (x : Nat) (c : Nat → Nat) (n : Nat) (beg : Nat → Int32) (next : Nat → Int64) (br : Int32) (kA kB w : Nat → Int32) : Prop :=
  c 0 = 0 ∧ (∀ y, y < x → c y ≤ c (y + 1)) ∧ c x ≤ 1024 ∧ (∀ y, y ≤ x → beg y = nI (c y)) ∧ (∀ y, x < y → y ≤ 32 → beg y = nI (b y)) ∧ nF ≤ n ∧ n ≤ 256 ∧
  (∀ y, y < x → ∀ k, c y ≤ k → k < c (y + 1) → rc_c next k < 256 + y) ∧ rp_fz nF kA0 kB0 w0 kA kB w ∧
  (br = 0 → br0 = 0 ∧ rp_SS i1 i2 hd m tb te H Tl nF n0 wt ka kb cur (b x) n kA kB w ∧ ∀ y, y < x → rc_sg next (c y) (c (y + 1)) = rp_OUT (rp_F i1 i2 hd m tb te H Tl ka kb cur n kA kB) (b y) (b (y + 1)))
theorem rx_split_40 {post : SX → Prop} {br0 : Int32} (hb0 : ∀ x, x < 32 → b x ≤ b (x + 1)) (hb1 : b 32 ≤ 1024) (hi1 : i1 < 1024) (hi2 : i2 < 1024) (hH : H < 256) (hT : Tl < 256) (hcur : ∀ x, x < 32 → ∀ k, b x ≤ k → k < b (x + 1) → rc_c a_cur k < 256 + x) (hcell : ∀ k, k < b 32 → rc_c a_cur k < 256 → rc_c a_cur k < nF) (hka : ∀ c, ka c < 256) (hkb : ∀ c, kb c ≤ 2 ^ 20) (hk0 : ∀ c, c < nF → kA0 c = nI (ka c) ∧ kB0 c = nI (kb c) ∧ ka c < n0) (hw0 : ∀ c, c < n0 → w0 c = nI (wt c)) (hn0 : n0 ≤ nF) (hhd : hd < 256) (htb : tb < 256) (hm : m ≤ 2 ^ 20) (hte : te ≤ 2 ^ 20)
    (K : ∀ (c : Nat → Nat) (n' : Nat) (a_next' : Nat → Int64) (a_begin' : Nat → Int32) (f_broken' : Int32) (a_keyA' : Nat → Int32) (a_keyB' : Nat → Int32) (a_weight' : Nat → Int32) (a_part' : Nat → Int32), rp_SI i1 i2 hd m tb te H Tl nF n0 wt ka kb kA0 kB0 w0 b br0 a_cur 32 c n' a_begin' a_next' f_broken' a_keyA' a_keyB' a_weight' → ∀ (a_cur' : Nat → Int64), (∀ k, k < 1024 → rc_c a_cur' k = rc_c a_next' k) → post (f_maxRules, f_maxLength, f_letters, f_ref, f_room, nI (c 32), f_head, f_rootP, f_rootT, f_broken', f_inLeft, f_inRight, nI n', nI 0, f_blocking, nI hd, nI m, nI H, nI tb, nI te, nI (rp_cut hd tb m te), nI Tl, a_used, a_kinds, a_partA, a_partB, a_lens, a_cur', a_next', a_begin', a_popL, a_popR, a_need, a_keyA', a_keyB', a_weight', a_part', a_remap, a_hits, a_span)) :
    ∀ (d x : Nat) (c : Nat → Nat) (n : Nat) (a_next' : Nat → Int64) (a_begin' : Nat → Int32) (f_broken' : Int32) (a_keyA' : Nat → Int32) (a_keyB' : Nat → Int32) (a_weight' : Nat → Int32) (a_part' : Nat → Int32), x + d = 32 → rp_SI i1 i2 hd m tb te H Tl nF n0 wt ka kb kA0 kB0 w0 b br0 a_cur x c n a_begin' a_next' f_broken' a_keyA' a_keyB' a_weight' →
    wX_split_40 post (nI i1) (nI i2) (d + 1) (nI (b x)) (nI x) f_maxRules f_maxLength f_letters f_ref f_room (nI (c x)) f_head f_rootP f_rootT f_broken' f_inLeft f_inRight (nI n) (nI 0) f_blocking (nI hd) (nI m) (nI H) (nI tb) (nI te) (nI (rp_cut hd tb m te)) (nI Tl) a_used a_kinds a_partA a_partB a_lens a_cur a_next' a_begin' a_popL a_popR a_need a_keyA' a_keyB' a_weight' a_part' a_remap a_hits a_span := by
  intro d
  induction d with
  | zero =>
    intro x c n a_next' a_begin' f_broken' a_keyA' a_keyB' a_weight' a_part' hxd hI
    have e : x = 32 := by omega
    subst e
    refine pk_le 32 32 (fun _ => ?_) (fun z => by omega)
    exact rx_commit (fun cur' hc => K c n a_next' a_begin' f_broken' a_keyA' a_keyB' a_weight' a_part' hI cur' hc)
  | succ d ih =>
    intro x c n a_next' a_begin' f_broken' a_keyA' a_keyB' a_weight' a_part' hxd hI
    have hx : x < 32 := by omega
    obtain ⟨g1, g2, g3, g4, g5, g6, g7, g8, g9, g10⟩ := hI
    refine pk_le 32 x (fun z => by omega) (fun _ => ?_)
    rw [nI_1, nI_clamp (by omega)]
    refine ⟨vp_in_nI (by omega) (by omega), nm_r (g5 (x + 1) (by omega) (by omega)) ?_⟩
    have hb01 := hb0 x hx
    have hb32 : b (x + 1) ≤ b 32 := rg_le hb0 (by omega : x + 1 ≤ 32) (Nat.le_refl _)
    refine ⟨b (x + 1) - b x + 1, ?_⟩
    refine rx_split_61 (br0 := br0) (i1 := i1) (i2 := i2) (nF := nF) (n0 := n0) (wt := wt) (ka := ka) (kb := kb) (kA0 := kA0) (kB0 := kB0) (w0 := w0) (next0 := a_next') (h := c x) (j0 := b x) (Cd := fun n kA kB => ∀ y, y < x → rc_sg a_next' (c y) (c (y + 1)) = rp_OUT (rp_F i1 i2 hd m tb te H Tl ka kb a_cur n kA kB) (b y) (b (y + 1))) hx hb01 (by omega) hi1 hi2 hH hT (hcur x hx) (fun k k1 k2 => hcell k (by omega)) hka hkb hk0 hw0 hn0 hhd htb hm hte ?_ (fun o' n' a_next'' f_broken'' a_keyA'' a_keyB'' a_weight'' a_part'' k1 k2 k3 => ?_) (b (x + 1) - b x) (b x) (c x) n a_next' f_broken' a_keyA' a_keyB' a_weight' a_part' (by omega) (Nat.le_refl _) ⟨Nat.le_refl _, g3, g6, g7, fun k z1 z2 => by omega, fun _ _ => rfl⟩ g9 (fun hb => ?_)
    · intro k n n' i x' y z kA kB w kA' kB' w' q0 q1 q2 q3 q4 q5 y' hy'
      rw [q5 y' hy']
      refine rp_OUT_congr (fun j j1 j2 => (rp_F_step q1 q2 q3 (fun c => by have := hka c; omega) j ?_).symm)
      have := rg_le hb0 (by omega : y' + 1 ≤ x) (by omega)
      omega
    · obtain ⟨w1, w2, w3, w4, w5, w6⟩ := k1
      have hlow : ∀ y, y < x → rc_sg a_next'' (c y) (c (y + 1)) = rc_sg a_next' (c y) (c (y + 1)) := by
        intro y hy
        refine rc_sg_congr (fun k z1 z2 => w6 k ?_)
        have := rg_le g2 (by omega : y + 1 ≤ x) (Nat.le_refl _)
        omega
      have hbb : ∀ y, y ≤ x → (fun y => if y ≤ x then c y else o') y = c y := fun y hy => if_pos hy
      have hbs : (fun y => if y ≤ x then c y else o') (x + 1) = o' := if_neg (by omega)
      have := ih (x + 1) (fun y => if y ≤ x then c y else o') n' a_next'' (upd a_begin' (x + 1) (nI o')) f_broken'' a_keyA'' a_keyB'' a_weight'' a_part'' (by omega) ⟨?_, fun y hy => ?_, ?_, fun y hy => ?_, fun y hy hy' => ?_, w3, w4, fun y hy k z1 z2 => ?_, k2, fun hb => ?_⟩
      · rw [if_neg (by omega)] at this
        exact this
      · rw [hbb 0 (by omega)]; exact g1
      · rcases Nat.lt_or_ge y x with q | q
        · rw [hbb y (by omega), hbb (y + 1) (by omega)]; exact g2 y q
        · have : y = x := by omega
          subst this
          rw [hbb y (by omega), hbs]; exact w1
      · rw [hbs]; exact w2
      · rcases Nat.lt_or_ge x y with q | q
        · have : y = x + 1 := by omega
          subst this
          rw [pk_us, hbs]
        · rw [pk_un (by omega), hbb y q]; exact g4 y q
      · rw [pk_un (by omega)]; exact g5 y (by omega) hy'
      · rcases Nat.lt_or_ge y x with q | q
        · rw [hbb y (by omega)] at z1
          rw [hbb (y + 1) (by omega)] at z2
          have hle := rg_le g2 (by omega : y + 1 ≤ x) (Nat.le_refl _)
          rw [w6 k (by omega)]
          exact g8 y q k z1 z2
        · have : y = x := by omega
          subst this
          rw [hbb y (by omega)] at z1
          rw [hbs] at z2
          exact w5 k z1 z2
      · obtain ⟨m1, m2, m3, m4⟩ := k3 hb
        refine ⟨m1, m2, fun y hy => ?_⟩
        by_cases e : y = x
        · subst e
          rw [hbb y (by omega), hbs]
          exact m4
        · have hy' : y < x := by omega
          rw [hbb y (by omega), hbb (y + 1) (by omega), hlow y hy']
          exact m3 y hy'
    · obtain ⟨q1, q2, q3⟩ := g10 hb
      refine ⟨q1, q2, q3, ?_⟩
      rw [rc_sg_nil (Nat.le_refl _), rp_OUT_nil]
theorem rx_split {post : SX → Prop} {rp : Nat} (hrp : rp < 32) (hg : rg_W b a_cur a_begin) (hne : b rp < b (rp + 1)) (hnF : nF ≤ 256) (hcell : ∀ k, k < b 32 → rc_c a_cur k < 256 → rc_c a_cur k < nF) (hka : ∀ c, ka c < 256) (hkb : ∀ c, kb c ≤ 2 ^ 20) (hk1 : ∀ c, c < nF → 1 ≤ kb c) (hk0 : ∀ c, c < nF → a_keyA c = nI (ka c) ∧ a_keyB c = nI (kb c) ∧ ka c < n0) (hw0 : ∀ c, c < n0 → a_weight c = nI (wt c)) (hw1 : ∀ c, c < nF → a_weight c = nI (kb c * wt (ka c))) (hinj : ∀ i j, i < nF → j < nF → ka i = ka j → kb i = kb j → i = j) (hn0 : n0 ≤ nF) (c1 : rc_c a_cur (b rp) < 256) (c2 : rc_c a_cur (b (rp + 1) - 1) < 256) (e1 : hd = ka (rc_c a_cur (b rp))) (e2 : m = kb (rc_c a_cur (b rp))) (e3 : tb = ka (rc_c a_cur (b (rp + 1) - 1))) (e4 : te = kb (rc_c a_cur (b (rp + 1) - 1)))
    (K : ∀ (c : Nat → Nat) (n' H Tl : Nat) (f_out' : Int32) (a_cur' : Nat → Int64) (a_next' : Nat → Int64) (a_begin' : Nat → Int32) (a_keyA' : Nat → Int32) (a_keyB' : Nat → Int32) (a_weight' : Nat → Int32) (a_part' : Nat → Int32) (f_broken' : Int32), rg_W c a_cur' a_begin' → nF ≤ n' → n' ≤ 256 → H < 256 → Tl < 256 → (f_broken' = 0 → f_broken = 0 ∧ H = nF ∧ Tl = nF + 1 ∧ rp_SS (b rp) (b (rp + 1) - 1) hd m tb te nF (nF + 1) nF n0 wt ka kb a_cur (b 32) n' a_keyA' a_keyB' a_weight' ∧ ∀ y, y < 32 → rc_sg a_cur' (c y) (c (y + 1)) = rp_OUT (rp_F (b rp) (b (rp + 1) - 1) hd m tb te nF (nF + 1) ka kb a_cur n' a_keyA' a_keyB') (b y) (b (y + 1))) → post (f_maxRules, f_maxLength, f_letters, f_ref, f_room, f_out', f_head, nI rp, f_rootT, f_broken', f_inLeft, f_inRight, nI n', nI 0, f_blocking, nI hd, nI m, nI H, nI tb, nI te, nI (rp_cut hd tb m te), nI Tl, a_used, a_kinds, a_partA, a_partB, a_lens, a_cur', a_next', a_begin', a_popL, a_popR, a_need, a_keyA', a_keyB', a_weight', a_part', a_remap, a_hits, a_span)) :
    wpX_split post (f_maxRules, f_maxLength, f_letters, f_ref, f_room, f_out, f_head, nI rp, f_rootT, f_broken, f_inLeft, f_inRight, nI nF, nI 0, f_blocking, f_headBase, f_headExp, f_headMark, f_tailBase, f_tailExp, f_tailCut, f_tailMark, a_used, a_kinds, a_partA, a_partB, a_lens, a_cur, a_next, a_begin, a_popL, a_popR, a_need, a_keyA, a_keyB, a_weight, a_part, a_remap, a_hits, a_span) := by
  obtain ⟨g1, g2, g3, g4, g5⟩ := id hg
  have hb1 : b (rp + 1) ≤ b 32 := rg_le g2 (by omega) (Nat.le_refl _)
  have hi1 : b rp < b 32 := by omega
  have hi2 : b (rp + 1) - 1 < b 32 := by omega
  unfold wpX_split
  dsimp only
  rw [nI_1, nI_clamp (by omega), nI_clamp (by omega)]
  refine ⟨vp_in_nI (by omega) (by omega), nm_r (g4 rp (by omega)) ⟨vp_in_nI (by omega) (by omega), nm_r (e' := nI (b (rp + 1) - 1)) ?_ ?_⟩⟩
  · rw [g4 (rp + 1) (by omega)]
    exact pk_sub (b := 1) (by omega)
  have l1 := hcell _ hi1 c1
  have l2 := hcell _ hi2 c2
  have q1 := hk0 _ l1
  have q2 := hk0 _ l2
  have m20 : m ≤ 2 ^ 20 := by rw [e2]; exact hkb _
  have t20 : te ≤ 2 ^ 20 := by rw [e4]; exact hkb _
  have hhd : hd < n0 := by rw [e1]; exact q1.2.2
  have htb : tb < n0 := by rw [e3]; exact q2.2.2
  refine rx_makeMarks (hd := hd) (tb := tb) (te := te) (m := m) hnF (by omega) (by omega) c1 c2 (by omega) (by omega) m20 t20 (by rw [e1]; exact q1.1) (by rw [e2]; exact q1.2.1) (by rw [e3]; exact q2.1) (by rw [e4]; exact q2.2.1) (fun n' H Tl a_keyA' a_keyB' a_weight' a_part' f_broken' k1 k2 k3 k4 k5 k6 => ?_)
  dsimp only
  refine ⟨33, ?_⟩
  have hz : nI (b 0) = 0 := by rw [g1]; rfl
  have key2 : wX_split_40 post (nI (b rp)) (nI (b (rp + 1) - 1)) (32 + 1) (nI (b 0)) (nI 0) f_maxRules f_maxLength f_letters f_ref f_room (nI 0) f_head (nI rp) f_rootT f_broken' f_inLeft f_inRight (nI n') (nI 0) f_blocking (nI hd) (nI m) (nI H) (nI tb) (nI te) (nI (rp_cut hd tb m te)) (nI Tl) a_used a_kinds a_partA a_partB a_lens a_cur a_next a_begin a_popL a_popR a_need a_keyA' a_keyB' a_weight' a_part' a_remap a_hits a_span := by
    refine rx_split_40 (post := post) (br0 := f_broken') (nF := nF) (n0 := n0) (wt := wt) (ka := ka) (kb := kb) (kA0 := a_keyA) (kB0 := a_keyB) (w0 := a_weight) (b := b) g2 g3 (by omega) (by omega) k3 k4 g5 hcell hka hkb hk0 hw0 hn0 (by omega) (by omega) m20 t20 (fun c n'' a_next' a_begin' f_broken'' a_keyA'' a_keyB'' a_weight'' a_part'' hI cur' hc => ?_) 32 0 (fun _ => 0) n' a_next a_begin f_broken' a_keyA' a_keyB' a_weight' a_part' rfl ⟨rfl, fun y hy => by omega, Nat.zero_le _, fun y hy => ?_, fun y hy hy' => g4 y hy', k1, k2, fun y hy => by omega, k5, fun hb => ⟨hb, ?_, fun y hy => by omega⟩⟩
    · obtain ⟨j1, j2, j3, j4, j5, j6, j7, j8, j9, j10⟩ := hI
      refine K c n'' H Tl (nI (c 32)) cur' a_next' a_begin' a_keyA'' a_keyB'' a_weight'' a_part'' f_broken'' ⟨j1, j2, j3, fun y hy => j4 y hy, fun y hy k z1 z2 => ?_⟩ j6 j7 k3 k4 (fun hb => ?_)
      · have := rg_le j2 (by omega : y + 1 ≤ 32) (Nat.le_refl _)
        rw [hc k (by omega)]
        exact j8 y hy k z1 z2
      · obtain ⟨m1, m2, m3⟩ := j10 hb
        obtain ⟨r1, r2, r3, r4⟩ := k6 m1
        subst r2
        subst r3
        refine ⟨r1, rfl, rfl, m2, fun y hy => ?_⟩
        have e : rc_sg cur' (c y) (c (y + 1)) = rc_sg a_next' (c y) (c (y + 1)) := rc_sg_congr (fun k z1 z2 => hc k (by have := rg_le j2 (by omega : y + 1 ≤ 32) (Nat.le_refl _); omega))
        rw [e]
        exact m3 y hy
    · have : y = 0 := by omega
      subst this
      rw [g4 0 (by omega), g1]
    · obtain ⟨r1, r2, r3, r4, r5, r6, r7, r8⟩ := k6 hb
      subst r2
      subst r3
      refine ⟨⟨by omega, k2, hn0, ⟨r5, r6, ?_, ?_⟩, fun i hi h1 h2 => ?_, fun i j hi hj h1 h2 ea eb => ?_⟩, fun j hj => ?_⟩
      · rw [r7, hw0 _ hhd, pk_mul]
      · rw [r8, hw0 _ htb, pk_mul]
      · obtain ⟨z1, z2, z3⟩ := k5 i (by omega)
        obtain ⟨y1, y2, y3⟩ := hk0 i (by omega)
        exact ⟨ka i, kb i, z1.trans y1, z2.trans y2, y3, hk1 i (by omega), hkb i, z3.trans (hw1 i (by omega))⟩
      · have hi' : i < H := by omega
        obtain ⟨z1, z2, z3⟩ := k5 i hi'
        obtain ⟨y1, y2, y3⟩ := hk0 i hi'
        have ha := hka i
        by_cases q3 : j = H
        · subst q3
          rw [z1, y1, r5] at ea
          exact absurd ea (rp_m1 (by omega))
        · by_cases q4 : j = H + 1
          · subst q4
            rw [z1, y1, r6] at ea
            exact absurd ea (rp_m1 (by omega))
          · have hj' : j < H := by omega
            obtain ⟨z1', z2', z3'⟩ := k5 j hj'
            obtain ⟨y1', y2', y3'⟩ := hk0 j hj'
            have ha' := hka j
            have hb' := hkb i
            have hb'' := hkb j
            rw [z1, y1, z1', y1', nI_eq (by omega) (by omega)] at ea
            rw [z2, y2, z2', y2', nI_eq (by omega) (by omega)] at eb
            exact hinj i j hi' hj' ea eb
      · rw [g1] at hj; omega
  rw [hz] at key2
  exact key2
end
end
section
/-! gain, bias, partition -/
section
variable {f_maxRules f_maxLength f_letters f_ref f_room f_out f_head f_rootP f_rootT f_broken f_inLeft f_inRight f_size f_fresh f_blocking f_headBase f_headExp f_headMark f_tailBase f_tailExp f_tailCut f_tailMark : Int32} {a_used a_kinds a_partA a_partB a_lens a_begin a_popL a_popR a_need a_keyA a_keyB a_weight a_part a_remap a_hits a_span : Nat → Int32} {a_cur a_next : Nat → Int64}
theorem rx_gain {post : Int32 → Prop} {c : Nat} {v : Int32} (hc : c < 256) (h : ∀ r, post r) : wpX_gain post (f_maxRules, f_maxLength, f_letters, f_ref, f_room, f_out, f_head, f_rootP, f_rootT, f_broken, f_inLeft, f_inRight, f_size, f_fresh, f_blocking, f_headBase, f_headExp, f_headMark, f_tailBase, f_tailExp, f_tailCut, f_tailMark, a_used, a_kinds, a_partA, a_partB, a_lens, a_cur, a_next, a_begin, a_popL, a_popR, a_need, a_keyA, a_keyB, a_weight, a_part, a_remap, a_hits, a_span) (nI c) v := by
  have hv : vp_in (nI c) 256 := vp_in_nI hc (by omega)
  exact ⟨hv, br_c (fun _ => h _) (fun _ => ⟨hv, br_c (fun _ => h _) (fun _ => h _)⟩)⟩
theorem rx_bias_75 {post : Int32 → Prop} {J4 J20 : Int32 → Int32 → Prop} {x1 x2 x3 : Int32} {k c d : Nat} (hc : c < 65536) (h : ∀ s, J20 s (nI (k + 1))) : wX_bias_75 post J4 J20 x1 x2 x3 (nI k) (nI c) (nI d) f_maxRules f_maxLength f_letters f_ref f_room f_out f_head f_rootP f_rootT f_broken f_inLeft f_inRight f_size f_fresh f_blocking f_headBase f_headExp f_headMark f_tailBase f_tailExp f_tailCut f_tailMark a_used a_kinds a_partA a_partB a_lens a_cur a_next a_begin a_popL a_popR a_need a_keyA a_keyB a_weight a_part a_remap a_hits a_span := by
  unfold wX_bias_75
  refine br_c (fun _ => pk_le 256 c (fun _ => nm_r (nI_1 k) (h _)) (fun hc2 => ?_)) (fun _ => nm_r (nI_1 k) (h _))
  exact rx_gain hc2 (fun r => nm_e (nm_r (nI_1 k) (h _)))
theorem rx_bias_20 {post : Int32 → Prop} {J4 : Int32 → Int32 → Prop} {x1 : Int32} {x : Nat} {b : Nat → Nat} (hx : x < 32) (hg : rg_W b a_cur a_begin) (h : ∀ s, J4 s (nI (x + 1))) : ∀ d k s, b (x + 1) ≤ k + d → 1 ≤ k → k ≤ 1025 → wX_bias_20 post J4 x1 (nI x) f_maxRules f_maxLength f_letters f_ref f_room f_out f_head f_rootP f_rootT f_broken f_inLeft f_inRight f_size f_fresh f_blocking f_headBase f_headExp f_headMark f_tailBase f_tailExp f_tailCut f_tailMark a_used a_kinds a_partA a_partB a_lens a_cur a_next a_begin a_popL a_popR a_need a_keyA a_keyB a_weight a_part a_remap a_hits a_span (d + 1) s (nI k) := by
  have hb := rg_b32 hg (x := x + 1) (by omega)
  have hbg := hg.2.2.2.1 (x + 1) (by omega)
  intro d
  induction d with
  | zero =>
    intro k s hk h1 h2
    refine ⟨by rw [nI_1]; exact vp_in_nI (by omega) (by omega), ?_⟩
    rw [nI_1, nI_clamp (by omega), hbg]
    exact pk_le (b (x + 1)) k (fun _ => nm_e (h s)) (fun z => by omega)
  | succ d ih =>
    intro k s hk h1 h2
    refine ⟨by rw [nI_1]; exact vp_in_nI (by omega) (by omega), ?_⟩
    rw [nI_1, nI_clamp (by omega), hbg]
    refine pk_le (b (x + 1)) k (fun _ => nm_e (h s)) (fun hlt => ?_)
    obtain ⟨q, rfl⟩ : ∃ q, k = q + 1 := ⟨k - 1, by omega⟩
    rw [nI_pred]
    have hJ : ∀ s, wX_bias_20 post J4 x1 (nI x) f_maxRules f_maxLength f_letters f_ref f_room f_out f_head f_rootP f_rootT f_broken f_inLeft f_inRight f_size f_fresh f_blocking f_headBase f_headExp f_headMark f_tailBase f_tailExp f_tailCut f_tailMark a_used a_kinds a_partA a_partB a_lens a_cur a_next a_begin a_popL a_popR a_need a_keyA a_keyB a_weight a_part a_remap a_hits a_span (d + 1) s (nI (q + 1 + 1)) := fun s => ih (q + 1 + 1) s (by omega) (by omega) (by omega)
    refine rx_get (by omega) (rx_get (by omega) ?_)
    have l1 := rc_lt a_cur q
    have l2 := rc_lt a_cur (q + 1)
    refine br_c (fun _ => pk_le 256 (rc_c a_cur (q + 1)) (fun _ => rx_bias_75 l1 hJ) (fun hc2 => rx_gain hc2 (fun r => nm_e (rx_bias_75 l1 hJ)))) (fun _ => rx_bias_75 l1 hJ)
theorem rx_bias_4 {post : Int32 → Prop} {x1 : Int32} {b : Nat → Nat} (hg : rg_W b a_cur a_begin) (h : ∀ r, post r) : ∀ d x s, x + d = 32 → wX_bias_4 post x1 f_maxRules f_maxLength f_letters f_ref f_room f_out f_head f_rootP f_rootT f_broken f_inLeft f_inRight f_size f_fresh f_blocking f_headBase f_headExp f_headMark f_tailBase f_tailExp f_tailCut f_tailMark a_used a_kinds a_partA a_partB a_lens a_cur a_next a_begin a_popL a_popR a_need a_keyA a_keyB a_weight a_part a_remap a_hits a_span (d + 1) s (nI x) := by
  intro d
  induction d with
  | zero =>
    intro x s hx
    exact pk_le 32 x (fun _ => h s) (fun z => by omega)
  | succ d ih =>
    intro x s hx
    refine pk_le 32 x (fun z => by omega) (fun _ => ?_)
    rw [nI_clamp (by omega), hg.2.2.2.1 x (by omega)]
    have hb := rg_b32 hg (x := x) (by omega)
    refine ⟨vp_in_nI (by omega) (by omega), nm_r (nI_1 (b x)) ⟨b (x + 1) + 1, ?_⟩⟩
    exact rx_bias_20 (by omega) hg (fun s => ih (x + 1) s (by omega)) (b (x + 1)) (b x + 1) s (by omega) (by omega) (by omega)
theorem rx_bias {post : Int32 → Prop} {x1 : Int32} {b : Nat → Nat} (hg : rg_W b a_cur a_begin) (h : ∀ r, post r) : wpX_bias post (f_maxRules, f_maxLength, f_letters, f_ref, f_room, f_out, f_head, f_rootP, f_rootT, f_broken, f_inLeft, f_inRight, f_size, f_fresh, f_blocking, f_headBase, f_headExp, f_headMark, f_tailBase, f_tailExp, f_tailCut, f_tailMark, a_used, a_kinds, a_partA, a_partB, a_lens, a_cur, a_next, a_begin, a_popL, a_popR, a_need, a_keyA, a_keyB, a_weight, a_part, a_remap, a_hits, a_span) x1 :=
  ⟨33, rx_bias_4 hg h 32 0 0 rfl⟩
theorem rx_partition_45 {post : SX → Prop} {b : Nat → Nat} {n H Tl : Nat} (hn : n ≤ 256) (hg : rg_W b a_cur a_begin) (K : ∀ (a_part' : Nat → Int32), a_part' Tl = 2 → (H ≠ Tl → a_part' H = 1) → post (f_maxRules, f_maxLength, f_letters, f_ref, f_room, f_out, f_head, f_rootP, f_rootT, f_broken, f_inLeft, f_inRight, nI n, f_fresh, f_blocking, f_headBase, f_headExp, nI H, f_tailBase, f_tailExp, f_tailCut, nI Tl, a_used, a_kinds, a_partA, a_partB, a_lens, a_cur, a_next, a_begin, a_popL, a_popR, a_need, a_keyA, a_keyB, a_weight, a_part', a_remap, a_hits, a_span)) : ∀ d k (a_part' : Nat → Int32), k + d = n → a_part' Tl = 2 → (H ≠ Tl → a_part' H = 1) → wX_partition_45 post f_maxRules f_maxLength f_letters f_ref f_room f_out f_head f_rootP f_rootT f_broken f_inLeft f_inRight (nI n) f_fresh f_blocking f_headBase f_headExp (nI H) f_tailBase f_tailExp f_tailCut (nI Tl) (d + 1) (nI k) a_used a_kinds a_partA a_partB a_lens a_cur a_next a_begin a_popL a_popR a_need a_keyA a_keyB a_weight a_part' a_remap a_hits a_span := by
  intro d
  induction d with
  | zero =>
    intro k a_part' hk h1 h2
    exact pk_le n k (fun _ => K a_part' h1 h2) (fun z => by omega)
  | succ d ih =>
    intro k a_part' hk h1 h2
    refine pk_le n k (fun z => by omega) (fun _ => ?_)
    have hv : vp_in (nI k) 256 := vp_in_nI (by omega) (by omega)
    rw [nI_clamp (by omega)]
    refine ⟨hv, br_c (fun e => ?_) (fun e => nm_r (nI_1 k) (ih (k + 1) a_part' (by omega) h1 h2))⟩
    have hu : ∀ v : Int32, upd a_part' k v Tl = 2 ∧ (H ≠ Tl → upd a_part' k v H = 1) := by
      intro v
      refine ⟨?_, fun q => ?_⟩
      · rw [pk_un (fun z => by rw [z] at h1; rw [h1] at e; exact absurd e (by decide))]; exact h1
      · have h3 := h2 q
        rw [pk_un (fun z => by rw [z] at h3; rw [h3] at e; exact absurd e (by decide))]; exact h3
    refine rx_bias hg (fun r => br_c (fun _ => ⟨hv, nm_e (nm_r (nI_1 k) ?_)⟩) (fun _ => ⟨hv, nm_e (nm_r (nI_1 k) ?_)⟩))
    · exact ih (k + 1) _ (by omega) (hu 2).1 (hu 2).2
    · exact ih (k + 1) _ (by omega) (hu 1).1 (hu 1).2
theorem rx_partition_2 {post : SX → Prop} {b : Nat → Nat} {n H Tl : Nat} (hn : n ≤ 256) (hH : H < 256) (hT : Tl < 256) (hg : rg_W b a_cur a_begin) (K : ∀ (a_part' : Nat → Int32), a_part' Tl = 2 → (H ≠ Tl → a_part' H = 1) → post (f_maxRules, f_maxLength, f_letters, f_ref, f_room, f_out, f_head, f_rootP, f_rootT, f_broken, f_inLeft, f_inRight, nI n, f_fresh, f_blocking, f_headBase, f_headExp, nI H, f_tailBase, f_tailExp, f_tailCut, nI Tl, a_used, a_kinds, a_partA, a_partB, a_lens, a_cur, a_next, a_begin, a_popL, a_popR, a_need, a_keyA, a_keyB, a_weight, a_part', a_remap, a_hits, a_span)) : ∀ d k (a_part' : Nat → Int32), k + d = n → wX_partition_2 post f_maxRules f_maxLength f_letters f_ref f_room f_out f_head f_rootP f_rootT f_broken f_inLeft f_inRight (nI n) f_fresh f_blocking f_headBase f_headExp (nI H) f_tailBase f_tailExp f_tailCut (nI Tl) (d + 1) (nI k) a_used a_kinds a_partA a_partB a_lens a_cur a_next a_begin a_popL a_popR a_need a_keyA a_keyB a_weight a_part' a_remap a_hits a_span := by
  intro d
  induction d with
  | zero =>
    intro k a_part' hk
    refine pk_le n k (fun _ => ?_) (fun z => by omega)
    rw [nI_clamp (n := H) (by omega), nI_clamp (n := Tl) (by omega)]
    refine ⟨vp_in_nI hH (by omega), nm_e ⟨vp_in_nI hT (by omega), nm_e ⟨n + 1, ?_⟩⟩⟩
    refine rx_partition_45 hn hg K n 0 _ (by omega) pk_us (fun q => ?_)
    rw [pk_un q, pk_us]
  | succ d ih =>
    intro k a_part' hk
    refine pk_le n k (fun z => by omega) (fun _ => ?_)
    rw [nI_clamp (by omega)]
    exact ⟨vp_in_nI (by omega) (by omega), nm_e (nm_r (nI_1 k) (ih (k + 1) _ (by omega)))⟩
theorem rx_partition {post : SX → Prop} {b : Nat → Nat} {n H Tl : Nat} (hn : n ≤ 256) (hH : H < 256) (hT : Tl < 256) (hg : rg_W b a_cur a_begin) (K : ∀ (a_part' : Nat → Int32), a_part' Tl = 2 → (H ≠ Tl → a_part' H = 1) → post (f_maxRules, f_maxLength, f_letters, f_ref, f_room, f_out, f_head, f_rootP, f_rootT, f_broken, f_inLeft, f_inRight, nI n, f_fresh, f_blocking, f_headBase, f_headExp, nI H, f_tailBase, f_tailExp, f_tailCut, nI Tl, a_used, a_kinds, a_partA, a_partB, a_lens, a_cur, a_next, a_begin, a_popL, a_popR, a_need, a_keyA, a_keyB, a_weight, a_part', a_remap, a_hits, a_span)) : wpX_partition post (f_maxRules, f_maxLength, f_letters, f_ref, f_room, f_out, f_head, f_rootP, f_rootT, f_broken, f_inLeft, f_inRight, nI n, f_fresh, f_blocking, f_headBase, f_headExp, nI H, f_tailBase, f_tailExp, f_tailCut, nI Tl, a_used, a_kinds, a_partA, a_partB, a_lens, a_cur, a_next, a_begin, a_popL, a_popR, a_need, a_keyA, a_keyB, a_weight, a_part, a_remap, a_hits, a_span) :=
  ⟨n + 1, rx_partition_2 hn hH hT hg K n 0 a_part (by omega)⟩
end
end
section
/-! compact, rewrite -/
section
variable {f_maxRules f_maxLength f_letters f_ref f_room f_out f_head f_rootP f_rootT f_broken f_inLeft f_inRight f_size f_fresh f_blocking f_headBase f_headExp f_headMark f_tailBase f_tailExp f_tailCut f_tailMark : Int32} {a_used a_kinds a_partA a_partB a_lens a_begin a_popL a_popR a_need a_keyA a_keyB a_weight a_part a_remap a_hits a_span : Nat → Int32} {a_cur a_next : Nat → Int64}
variable {b : Nat → Nat} {n : Nat}
/-- what compact has done when it comes to rewrite -/
def rm_C (n n' : Nat) (rm1 w0 rm kA kB w : Nat → Int32) : Prop :=
  n' ≤ n ∧ (∀ j, j < n → rm1 j = 0 → ∃ r, r < n' ∧ rm j = nI r ∧ w r = w0 j) ∧ (∀ j j', j < n → j' < n → rm1 j = 0 → rm1 j' = 0 → rm j = rm j' → j = j') ∧ (∀ j, n ≤ j → rm j = rm1 j) ∧ (∀ i, i < n' → kA i = nI i ∧ kB i = 1)
theorem rx_append_lt {post : SX → Prop} {o c : Nat} (ho : o < 1024) (h1 : post (f_maxRules, f_maxLength, f_letters, f_ref, f_room, nI (o + 1), f_head, f_rootP, f_rootT, f_broken, f_inLeft, f_inRight, f_size, f_fresh, f_blocking, f_headBase, f_headExp, f_headMark, f_tailBase, f_tailExp, f_tailCut, f_tailMark, a_used, a_kinds, a_partA, a_partB, a_lens, a_cur, rc_pu a_next o c, a_begin, a_popL, a_popR, a_need, a_keyA, a_keyB, a_weight, a_part, a_remap, a_hits, a_span)) : wpX_append post (f_maxRules, f_maxLength, f_letters, f_ref, f_room, nI o, f_head, f_rootP, f_rootT, f_broken, f_inLeft, f_inRight, f_size, f_fresh, f_blocking, f_headBase, f_headExp, f_headMark, f_tailBase, f_tailExp, f_tailCut, f_tailMark, a_used, a_kinds, a_partA, a_partB, a_lens, a_cur, a_next, a_begin, a_popL, a_popR, a_need, a_keyA, a_keyB, a_weight, a_part, a_remap, a_hits, a_span) (nI c) := by
  unfold wpX_append
  refine pk_lt o 1024 (fun h => ?_) (fun h => by omega)
  refine rx_put h ?_
  exact nm_r (nI_1 o) h1
theorem rx_rewrite_7 {post : SX → Prop} {n' : Nat} {cur0 : Nat → Int64} (hg : rg_W b a_cur a_begin) (hr : ∀ k, k < b 32 → rc_c a_cur k < 256 → ∃ r, r < 256 ∧ a_remap (rc_c a_cur k) = nI r)
    (K : ∀ (a_cur' : Nat → Int64) (a_next' : Nat → Int64), (∀ k, k < b 32 → rc_c a_cur' k = if 256 ≤ rc_c a_cur k then rc_c a_cur k else rp_n a_remap (rc_c a_cur k)) → post (f_maxRules, f_maxLength, f_letters, f_ref, f_room, nI (b 32), f_head, f_rootP, f_rootT, f_broken, f_inLeft, f_inRight, nI n', f_fresh, f_blocking, f_headBase, f_headExp, f_headMark, f_tailBase, f_tailExp, f_tailCut, f_tailMark, a_used, a_kinds, a_partA, a_partB, a_lens, a_cur', a_next', a_begin, a_popL, a_popR, a_need, a_keyA, a_keyB, a_weight, a_part, a_remap, a_hits, a_span)) :
    ∀ d k (a_next' : Nat → Int64), k + d = b 32 → (∀ j, j < k → rc_c a_next' j = if 256 ≤ rc_c a_cur j then rc_c a_cur j else rp_n a_remap (rc_c a_cur j)) → wX_rewrite_7 post (d + 1) (nI k) f_maxRules f_maxLength f_letters f_ref f_room (nI k) f_head f_rootP f_rootT f_broken f_inLeft f_inRight (nI n') f_fresh f_blocking f_headBase f_headExp f_headMark f_tailBase f_tailExp f_tailCut f_tailMark a_used a_kinds a_partA a_partB a_lens a_cur a_next' a_begin a_popL a_popR a_need a_keyA a_keyB a_weight a_part a_remap a_hits a_span := by
  have hb := rg_b32 hg (x := 32) (by omega)
  have hbg := hg.2.2.2.1 32 (by omega)
  intro d
  induction d with
  | zero =>
    intro k a_next' hk hc
    have e : k = b 32 := by omega
    subst e
    refine pk_le (b 32) (b 32) (fun _ => ?_) (fun z => by omega) hbg
    exact rx_commit (fun cur' hc' => K cur' a_next' (fun k hk => by rw [hc' k (by omega)]; exact hc k hk))
  | succ d ih =>
    intro k a_next' hk hc
    have hk1 : k < b 32 := by omega
    refine pk_le (b 32) k (fun z => by omega) (fun _ => ?_) hbg
    have hl := rc_lt a_cur k
    have step : ∀ v, v < 65536 → (v = if 256 ≤ rc_c a_cur k then rc_c a_cur k else rp_n a_remap (rc_c a_cur k)) → wX_rewrite_42 post (wX_rewrite_7 post (d + 1)) (nI k) (nI v) f_maxRules f_maxLength f_letters f_ref f_room (nI k) f_head f_rootP f_rootT f_broken f_inLeft f_inRight (nI n') f_fresh f_blocking f_headBase f_headExp f_headMark f_tailBase f_tailExp f_tailCut f_tailMark a_used a_kinds a_partA a_partB a_lens a_cur a_next' a_begin a_popL a_popR a_need a_keyA a_keyB a_weight a_part a_remap a_hits a_span := by
      intro v hv he
      unfold wX_rewrite_42
      refine rx_append_lt (by omega) ?_
      refine nm_r (nI_1 k) (ih (k + 1) _ (by omega) (fun j hj => ?_))
      by_cases q : j = k
      · subst q; rw [rc_pu_s _ hv]; exact he
      · rw [rc_pu_n _ hv q]; exact hc j (by omega)
    refine rx_get (by omega) (pk_le 256 (rc_c a_cur k) (fun q => step _ hl (by rw [if_pos q])) (fun q => ?_))
    obtain ⟨r, r1, r2⟩ := hr k hk1 q
    rw [nI_clamp (by omega), r2]
    refine ⟨vp_in_nI q (by omega), step r (by omega) ?_⟩
    rw [if_neg (by omega)]
    unfold rp_n
    rw [r2, nI_clamp (by omega)]
theorem rx_rewrite {post : SX → Prop} {n' : Nat} (hg : rg_W b a_cur a_begin) (hr : ∀ k, k < b 32 → rc_c a_cur k < 256 → ∃ r, r < 256 ∧ a_remap (rc_c a_cur k) = nI r)
    (K : ∀ (a_cur' : Nat → Int64) (a_next' : Nat → Int64), (∀ k, k < b 32 → rc_c a_cur' k = if 256 ≤ rc_c a_cur k then rc_c a_cur k else rp_n a_remap (rc_c a_cur k)) → post (f_maxRules, f_maxLength, f_letters, f_ref, f_room, nI (b 32), f_head, f_rootP, f_rootT, f_broken, f_inLeft, f_inRight, nI n', f_fresh, f_blocking, f_headBase, f_headExp, f_headMark, f_tailBase, f_tailExp, f_tailCut, f_tailMark, a_used, a_kinds, a_partA, a_partB, a_lens, a_cur', a_next', a_begin, a_popL, a_popR, a_need, a_keyA, a_keyB, a_weight, a_part, a_remap, a_hits, a_span)) : wpX_rewrite post (f_maxRules, f_maxLength, f_letters, f_ref, f_room, f_out, f_head, f_rootP, f_rootT, f_broken, f_inLeft, f_inRight, nI n', f_fresh, f_blocking, f_headBase, f_headExp, f_headMark, f_tailBase, f_tailExp, f_tailCut, f_tailMark, a_used, a_kinds, a_partA, a_partB, a_lens, a_cur, a_next, a_begin, a_popL, a_popR, a_need, a_keyA, a_keyB, a_weight, a_part, a_remap, a_hits, a_span) :=
  ⟨b 32 + 1, rx_rewrite_7 (cur0 := a_cur) hg hr K (b 32) 0 a_next (by omega) (fun j hj => by omega)⟩
theorem rx_compact_65 {post : SX → Prop} {rm1 w0 : Nat → Int32} (hn : n ≤ 256) (hg : rg_W b a_cur a_begin) (hu : ∀ k, k < b 32 → rc_c a_cur k < 256 → rm1 (rc_c a_cur k) = 0)
    (K : ∀ (n' : Nat) (a_cur' : Nat → Int64) (a_next' : Nat → Int64) (a_keyA' : Nat → Int32) (a_keyB' : Nat → Int32) (a_weight' : Nat → Int32) (a_remap' : Nat → Int32), rm_C n n' rm1 w0 a_remap' a_keyA' a_keyB' a_weight' → (∀ k, k < b 32 → rc_c a_cur' k = if 256 ≤ rc_c a_cur k then rc_c a_cur k else rp_n a_remap' (rc_c a_cur k)) → post (f_maxRules, f_maxLength, f_letters, f_ref, f_room, nI (b 32), f_head, f_rootP, f_rootT, f_broken, f_inLeft, f_inRight, nI n', f_fresh, f_blocking, f_headBase, f_headExp, f_headMark, f_tailBase, f_tailExp, f_tailCut, f_tailMark, a_used, a_kinds, a_partA, a_partB, a_lens, a_cur', a_next', a_begin, a_popL, a_popR, a_need, a_keyA', a_keyB', a_weight', a_part, a_remap', a_hits, a_span)) :
    ∀ d i q (a_keyA' : Nat → Int32) (a_keyB' : Nat → Int32) (a_weight' : Nat → Int32) (a_remap' : Nat → Int32), i + d = n → q ≤ i → (∀ j, i ≤ j → a_remap' j = rm1 j ∧ a_weight' j = w0 j) → (∀ j, j < i → rm1 j = 0 → ∃ r, r < q ∧ a_remap' j = nI r ∧ a_weight' r = w0 j) → (∀ j j', j < i → j' < i → rm1 j = 0 → rm1 j' = 0 → a_remap' j = a_remap' j' → j = j') → (∀ j, j < q → a_keyA' j = nI j ∧ a_keyB' j = 1) →
    wX_compact_65 post f_maxRules f_maxLength f_letters f_ref f_room f_out f_head f_rootP f_rootT f_broken f_inLeft f_inRight (nI n) f_fresh f_blocking f_headBase f_headExp f_headMark f_tailBase f_tailExp f_tailCut f_tailMark (d + 1) (nI q) (nI i) a_used a_kinds a_partA a_partB a_lens a_cur a_next a_begin a_popL a_popR a_need a_keyA' a_keyB' a_weight' a_part a_remap' a_hits a_span := by
  intro d
  induction d with
  | zero =>
    intro i q a_keyA' a_keyB' a_weight' a_remap' hi hq k1 k2 k3 k4
    have e : i = n := by omega
    subst e
    refine pk_le i i (fun _ => ?_) (fun z => by omega)
    have hC : rm_C i q rm1 w0 a_remap' a_keyA' a_keyB' a_weight' := ⟨hq, k2, k3, fun j hj => (k1 j hj).1, k4⟩
    refine rx_rewrite hg (fun k hk hc => ?_) (fun a_cur' a_next' hc => K q a_cur' a_next' a_keyA' a_keyB' a_weight' a_remap' hC hc)
    have h0 := hu k hk hc
    rcases Nat.lt_or_ge (rc_c a_cur k) i with z | z
    · obtain ⟨r, r1, r2, _⟩ := k2 _ z h0
      exact ⟨r, by omega, r2⟩
    · refine ⟨0, by omega, ?_⟩
      rw [(k1 _ z).1, h0]; rfl
  | succ d ih =>
    intro i q a_keyA' a_keyB' a_weight' a_remap' hi hq k1 k2 k3 k4
    refine pk_le n i (fun z => by omega) (fun _ => ?_)
    have hv : vp_in (nI i) 256 := vp_in_nI (by omega) (by omega)
    have hw : vp_in (nI q) 256 := vp_in_nI (by omega) (by omega)
    rw [nI_clamp (n := i) (by omega), nI_clamp (n := q) (by omega)]
    obtain ⟨r1, r2⟩ := k1 i (Nat.le_refl _)
    refine ⟨hv, br_c (fun e => ?_) (fun e => ?_)⟩
    · have e0 : rm1 i = 0 := by rw [← r1]; exact e
      refine ⟨hv, nm_e ⟨hv, hw, nm_e ⟨hw, nm_e ⟨hw, nm_e (nm_r (nI_1 q) (nm_r (nI_1 i) ?_))⟩⟩⟩⟩
      refine ih (i + 1) (q + 1) _ _ _ _ (by omega) (by omega) (fun j hj => ?_) (fun j hj hj0 => ?_) (fun j j' hj hj' g1 g2 g3 => ?_) (fun j hj => ?_)
      · rw [pk_un (by omega), pk_un (by omega)]; exact k1 j (by omega)
      · by_cases z : j = i
        · subst z
          exact ⟨q, by omega, pk_us, by rw [pk_us]; exact r2⟩
        · obtain ⟨r, s1, s2, s3⟩ := k2 j (by omega) hj0
          exact ⟨r, by omega, by rw [pk_un z]; exact s2, by rw [pk_un (by omega)]; exact s3⟩
      · by_cases z : j = i
        · by_cases z' : j' = i
          · omega
          · subst z
            obtain ⟨r, s1, s2, s3⟩ := k2 j' (by omega) g2
            rw [pk_us, pk_un z', s2, nI_eq (by omega) (by omega)] at g3
            omega
        · by_cases z' : j' = i
          · subst z'
            obtain ⟨r, s1, s2, s3⟩ := k2 j (by omega) g1
            rw [pk_us, pk_un z, s2, nI_eq (by omega) (by omega)] at g3
            omega
          · rw [pk_un z, pk_un z'] at g3
            exact k3 j j' (by omega) (by omega) g1 g2 g3
      · by_cases z : j = q
        · subst z
          exact ⟨pk_us, pk_us⟩
        · rw [pk_un z, pk_un z]; exact k4 j (by omega)
    · have e0 : rm1 i ≠ 0 := by rw [← r1]; exact e
      refine nm_r (nI_1 i) (ih (i + 1) q a_keyA' a_keyB' a_weight' a_remap' (by omega) (by omega) (fun j hj => k1 j (by omega)) (fun j hj hj0 => ?_) (fun j j' hj hj' g1 g2 g3 => ?_) k4)
      · by_cases z : j = i
        · subst z; exact absurd hj0 e0
        · exact k2 j (by omega) hj0
      · by_cases z : j = i
        · subst z; exact absurd g1 e0
        · by_cases z' : j' = i
          · subst z'; exact absurd g2 e0
          · exact k3 j j' (by omega) (by omega) g1 g2 g3
theorem rx_compact_24 {post : SX → Prop} (hn : n ≤ 256) (hg : rg_W b a_cur a_begin)
    (K : ∀ (n' : Nat) (rm1 : Nat → Int32) (a_cur' : Nat → Int64) (a_next' : Nat → Int64) (a_keyA' : Nat → Int32) (a_keyB' : Nat → Int32) (a_weight' : Nat → Int32) (a_remap' : Nat → Int32), (∀ k, k < b 32 → rc_c a_cur k < 256 → rm1 (rc_c a_cur k) = 0) → rm_C n n' rm1 a_weight a_remap' a_keyA' a_keyB' a_weight' → (∀ k, k < b 32 → rc_c a_cur' k = if 256 ≤ rc_c a_cur k then rc_c a_cur k else rp_n a_remap' (rc_c a_cur k)) → post (f_maxRules, f_maxLength, f_letters, f_ref, f_room, nI (b 32), f_head, f_rootP, f_rootT, f_broken, f_inLeft, f_inRight, nI n', f_fresh, f_blocking, f_headBase, f_headExp, f_headMark, f_tailBase, f_tailExp, f_tailCut, f_tailMark, a_used, a_kinds, a_partA, a_partB, a_lens, a_cur', a_next', a_begin, a_popL, a_popR, a_need, a_keyA', a_keyB', a_weight', a_part, a_remap', a_hits, a_span)) :
    ∀ d k (a_remap' : Nat → Int32), k + d = b 32 → (∀ j, j < k → rc_c a_cur j < 256 → a_remap' (rc_c a_cur j) = 0) →
    wX_compact_24 post f_maxRules f_maxLength f_letters f_ref f_room f_out f_head f_rootP f_rootT f_broken f_inLeft f_inRight (nI n) f_fresh f_blocking f_headBase f_headExp f_headMark f_tailBase f_tailExp f_tailCut f_tailMark (d + 1) (nI k) a_used a_kinds a_partA a_partB a_lens a_cur a_next a_begin a_popL a_popR a_need a_keyA a_keyB a_weight a_part a_remap' a_hits a_span := by
  have hb := rg_b32 hg (x := 32) (by omega)
  have hbg := hg.2.2.2.1 32 (by omega)
  intro d
  induction d with
  | zero =>
    intro k a_remap' hk k2
    have e : k = b 32 := by omega
    subst e
    refine pk_le (b 32) (b 32) (fun _ => ?_) (fun z => by omega) hbg
    refine ⟨n + 1, ?_⟩
    exact rx_compact_65 hn hg k2 (fun n' a_cur' a_next' a_keyA' a_keyB' a_weight' a_remap'' h1 h2 => K n' a_remap' a_cur' a_next' a_keyA' a_keyB' a_weight' a_remap'' k2 h1 h2) n 0 0 a_keyA a_keyB a_weight a_remap' (by omega) (by omega) (fun j _ => ⟨rfl, rfl⟩) (fun j hj => by omega) (fun j j' hj => by omega) (fun j hj => by omega)
  | succ d ih =>
    intro k a_remap' hk k2
    refine pk_le (b 32) k (fun z => by omega) (fun _ => ?_) hbg
    refine rx_get (by omega) (pk_le 256 (rc_c a_cur k) (fun q => ?_) (fun q => ?_) rfl rfl (by omega) (by have := rc_lt a_cur k; omega))
    · refine nm_r (nI_1 k) (ih (k + 1) a_remap' (by omega) (fun j hj hc => ?_))
      by_cases z : j = k
      · subst z; omega
      · exact k2 j (by omega) hc
    · rw [nI_clamp (by omega)]
      refine ⟨vp_in_nI q (by omega), nm_e (nm_r (nI_1 k) (ih (k + 1) _ (by omega) (fun j hj hc => ?_)))⟩
      by_cases z : rc_c a_cur j = rc_c a_cur k
      · rw [z, pk_us]
      · rw [pk_un z]
        refine k2 j ?_ hc
        rcases Nat.lt_or_ge j k with y | y
        · exact y
        · have : j = k := by omega
          subst this; exact absurd rfl z
theorem rx_compact_2 {post : SX → Prop} (h : ∀ (a_remap' : Nat → Int32), ∃ n24, wX_compact_24 post f_maxRules f_maxLength f_letters f_ref f_room f_out f_head f_rootP f_rootT f_broken f_inLeft f_inRight f_size f_fresh f_blocking f_headBase f_headExp f_headMark f_tailBase f_tailExp f_tailCut f_tailMark n24 0 a_used a_kinds a_partA a_partB a_lens a_cur a_next a_begin a_popL a_popR a_need a_keyA a_keyB a_weight a_part a_remap' a_hits a_span) : ∀ d k (a_remap' : Nat → Int32), k + d = 256 → wX_compact_2 post f_maxRules f_maxLength f_letters f_ref f_room f_out f_head f_rootP f_rootT f_broken f_inLeft f_inRight f_size f_fresh f_blocking f_headBase f_headExp f_headMark f_tailBase f_tailExp f_tailCut f_tailMark (d + 1) (nI k) a_used a_kinds a_partA a_partB a_lens a_cur a_next a_begin a_popL a_popR a_need a_keyA a_keyB a_weight a_part a_remap' a_hits a_span := by
  intro d
  induction d with
  | zero =>
    intro k a_remap' hk
    exact pk_le 256 k (fun _ => h a_remap') (fun z => by omega)
  | succ d ih =>
    intro k a_remap' hk
    refine pk_le 256 k (fun z => by omega) (fun _ => ?_)
    rw [nI_clamp (by omega)]
    exact ⟨vp_in_nI (by omega) (by omega), nm_e (nm_r (nI_1 k) (ih (k + 1) _ (by omega)))⟩
theorem rx_compact {post : SX → Prop} (hn : n ≤ 256) (hg : rg_W b a_cur a_begin)
    (K : ∀ (n' : Nat) (rm1 : Nat → Int32) (a_cur' : Nat → Int64) (a_next' : Nat → Int64) (a_keyA' : Nat → Int32) (a_keyB' : Nat → Int32) (a_weight' : Nat → Int32) (a_remap' : Nat → Int32), (∀ k, k < b 32 → rc_c a_cur k < 256 → rm1 (rc_c a_cur k) = 0) → rm_C n n' rm1 a_weight a_remap' a_keyA' a_keyB' a_weight' → (∀ k, k < b 32 → rc_c a_cur' k = if 256 ≤ rc_c a_cur k then rc_c a_cur k else rp_n a_remap' (rc_c a_cur k)) → post (f_maxRules, f_maxLength, f_letters, f_ref, f_room, nI (b 32), f_head, f_rootP, f_rootT, f_broken, f_inLeft, f_inRight, nI n', f_fresh, f_blocking, f_headBase, f_headExp, f_headMark, f_tailBase, f_tailExp, f_tailCut, f_tailMark, a_used, a_kinds, a_partA, a_partB, a_lens, a_cur', a_next', a_begin, a_popL, a_popR, a_need, a_keyA', a_keyB', a_weight', a_part, a_remap', a_hits, a_span)) :
    wpX_compact post (f_maxRules, f_maxLength, f_letters, f_ref, f_room, f_out, f_head, f_rootP, f_rootT, f_broken, f_inLeft, f_inRight, nI n, f_fresh, f_blocking, f_headBase, f_headExp, f_headMark, f_tailBase, f_tailExp, f_tailCut, f_tailMark, a_used, a_kinds, a_partA, a_partB, a_lens, a_cur, a_next, a_begin, a_popL, a_popR, a_need, a_keyA, a_keyB, a_weight, a_part, a_remap, a_hits, a_span) :=
  ⟨257, rx_compact_2 (fun a_remap' => ⟨b 32 + 1, rx_compact_24 hn hg K (b 32) 0 a_remap' (by omega) (fun j hj => by omega)⟩) 256 0 a_remap rfl⟩
end
end
section
/-! a round, in plain lists: the blocks -/
def rg_G (rp rt n : Nat) (C E : Nat → List Nat) : Prop := ∀ x, x < 32 → (∀ c, c ∈ C x → rs_cell rp rt n x E c) ∧ E x = rs_fl E (C x) ∧ (∀ i, i ∈ E x → i < n)
def rg_RH (r rp rt : Nat) (wt : Nat → Nat) (L0 : List Nat) (E : Nat → List Nat) : Prop :=
  (∀ x, x < 32 → (E x).length ≤ 512 * (r + 1) ∧ rl_sw wt (E x) ≤ 512) ∧ rl_oc (E rp) wt (E rt) 0 = L0 ∧ ∃ p P', E rp = p :: P' ∧ 0 < wt p
def rk_a (n : Nat) (f : Nat → Int32) (c : Nat) : Nat := if c < n then rp_n f c else 0
theorem rk_lt {n : Nat} {f : Nat → Int32} {c : Nat} (h : c < n) : rk_a n f c = rp_n f c := if_pos h
theorem rg_TB0 {n : Nat} {kA kB w pt pt0 : Nat → Int32} {wt : Nat → Nat} (hn : n ≤ 256) (h : ∀ i, i < n → kA i = nI i ∧ kB i = 1 ∧ w i = nI (wt i)) : rs_TB true 0 n pt0 wt n kA kB w pt := by
  have hd : ∀ i, i < n → rs_dec true 0 kA kB i = [i] := by
    intro i hi
    obtain ⟨h1, h2, h3⟩ := h i hi
    exact rs_decB (e := 1) h1 h2 (by omega) (by omega)
  refine ⟨Nat.le_refl _, hn, (fun z => by cases z), fun _ => rfl, hd, fun i hi => ?_, fun i hi => ?_, fun i j hi hj e => ?_, fun _ i hi => ?_, (fun z => by cases z)⟩
  · rw [hd i hi]
    refine ⟨(fun z => by cases z), ⟨(fun b hb => by cases hb), trivial⟩, fun c hc => ?_⟩
    rw [List.mem_singleton] at hc; subst hc; exact hi
  · rw [hd i hi, (h i hi).2.2, rl_sw_cons, rl_sw_nil, Nat.add_zero]
  · rw [hd i hi, hd j hj] at e
    exact (List.cons.inj e).1
  · obtain ⟨h1, h2, h3⟩ := h i hi
    exact ⟨i, 1, h1, h2, hi, Nat.le_refl _, by omega⟩
/-- what the table of blocks says -/
def rk_B (n0 n : Nat) (wt ka kb : Nat → Nat) (kA kB w : Nat → Int32) : Prop :=
  (∀ c, ka c < 256) ∧ (∀ c, kb c ≤ 2 ^ 20) ∧ (∀ c, c < n → 1 ≤ kb c) ∧ (∀ c, c < n → kA c = nI (ka c) ∧ kB c = nI (kb c) ∧ ka c < n0) ∧ (∀ c, c < n0 → w c = nI (wt c)) ∧ (∀ c, c < n → w c = nI (kb c * wt (ka c))) ∧ (∀ i j, i < n → j < n → ka i = ka j → kb i = kb j → i = j) ∧ n0 ≤ n ∧ n ≤ 256 ∧ (∀ c, c < n → rs_dec true 0 kA kB c = ro_dec ka kb c)
theorem rk_of {n0 n : Nat} {kA kB w pt pt0 : Nat → Int32} {wt : Nat → Nat} (h : rs_TB true 0 n0 pt0 wt n kA kB w pt) : rk_B n0 n wt (rk_a n kA) (rk_a n kB) kA kB w := by
  obtain ⟨t1, t2, t3, t4, t5, t6, t7, t8, t9, t10⟩ := h
  have key : ∀ c, c < n → ∃ a e, kA c = nI a ∧ kB c = nI e ∧ a < n0 ∧ 1 ≤ e ∧ e ≤ 2 ^ 20 ∧ rk_a n kA c = a ∧ rk_a n kB c = e := by
    intro c hc
    obtain ⟨a, e, h1, h2, h3, h4, h5⟩ := t9 rfl c hc
    refine ⟨a, e, h1, h2, h3, h4, h5, ?_, ?_⟩
    · rw [rk_lt hc]; unfold rp_n; rw [h1, nI_clamp (by omega)]
    · rw [rk_lt hc]; unfold rp_n; rw [h2, nI_clamp (by omega)]
  have hdec : ∀ c, c < n → rs_dec true 0 kA kB c = ro_dec (rk_a n kA) (rk_a n kB) c := by
    intro c hc
    obtain ⟨a, e, h1, h2, h3, h4, h5, h6, h7⟩ := key c hc
    unfold ro_dec
    rw [rs_decB h1 h2 (by omega) (by omega), h6, h7]
  refine ⟨fun c => ?_, fun c => ?_, fun c hc => ?_, fun c hc => ?_, fun c hc => ?_, fun c hc => ?_, fun i j hi hj e1 e2 => ?_, t1, t2, hdec⟩
  · rcases Nat.lt_or_ge c n with q | q
    · obtain ⟨a, e, h1, h2, h3, h4, h5, h6, h7⟩ := key c q
      rw [h6]; omega
    · unfold rk_a; rw [if_neg (by omega)]; omega
  · rcases Nat.lt_or_ge c n with q | q
    · obtain ⟨a, e, h1, h2, h3, h4, h5, h6, h7⟩ := key c q
      rw [h7]; omega
    · unfold rk_a; rw [if_neg (by omega)]; omega
  · obtain ⟨a, e, h1, h2, h3, h4, h5, h6, h7⟩ := key c hc
    rw [h7]; exact h4
  · obtain ⟨a, e, h1, h2, h3, h4, h5, h6, h7⟩ := key c hc
    rw [h6, h7]; exact ⟨h1, h2, h3⟩
  · rw [t7 c (by omega), t5 c hc, rl_sw_cons, rl_sw_nil, Nat.add_zero]
  · rw [t7 c hc, hdec c hc]
    unfold ro_dec
    rw [rl_sw_rep]
  · refine t8 i j hi hj ?_
    rw [hdec i hi, hdec j hj]
    unfold ro_dec
    rw [e1, e2]
theorem rk_ch {R : Nat → Nat → Prop} (hR : ∀ a b, R a b ↔ a = b) {ka kb : Nat → Nat} : ∀ (l : List Nat), (∀ t, t ∈ l → 1 ≤ kb t) → rl_ch (rl_nb R) (l.map (ro_dec ka kb)) → rl_ch (fun s t => ka s ≠ ka t) l := by
  intro l
  induction l with
  | nil => intro _ _; trivial
  | cons a l ih =>
    intro h k
    refine ⟨fun b hb => ?_, ih (fun t ht => h t (by simp [ht])) k.2⟩
    have hb1 : b ∈ l := List.mem_of_mem_head? hb
    have k1 := k.1 (ro_dec ka kb b) (by rw [List.head?_map, hb]; rfl)
    have k2 := k1 (ka a) (ka b) (rs_last_rep (h a (by simp))) (rs_head_rep (h b (by simp [hb1])))
    exact fun e => k2 ((hR _ _).mpr e)
theorem rs_Rt {pt0 : Nat → Int32} (a b : Nat) : rs_R true pt0 a b ↔ a = b :=
  ⟨fun h => h.1 rfl, fun h => ⟨fun _ => h, fun z => by cases z⟩⟩
theorem rl_map_congr {f g : Nat → List Nat} {l : List Nat} {n : Nat} (h : ∀ c, c < n → f c = g c) (hl : ∀ i, i ∈ l → i < n) : l.map f = l.map g := List.map_congr_left (fun i hi => h i (hl i hi))
/-- the words of the rules after the sweep by blocks -/
def rk_W (rp rt n : Nat) (ka kb : Nat → Nat) (E C G : Nat → List Nat) : Prop :=
  rg_G rp rt n C G ∧ (∀ x, x < 32 → ∃ u v, E x = u ++ ((G x).map (ro_dec ka kb)).flatten ++ v) ∧ (∀ x, x = rp ∨ x = rt → E x = ((G x).map (ro_dec ka kb)).flatten ∧ rl_ch (fun s t => ka s ≠ ka t) (G x)) ∧
  (∀ z, (C rp).head? ≠ some (256 + z)) ∧ (∀ z, (C rp).getLast? ≠ some (256 + z)) ∧ C rp ≠ []
theorem rk_Wof {rp rt n0 n : Nat} {kA kB w pt pt0 : Nat → Int32} {wt : Nat → Nat} {E C G PL PR : Nat → List Nat} (hrp : rp < 32) (hrt : rt < 32) (h : rs_TB true 0 n0 pt0 wt n kA kB w pt) (hd : ∀ y, y < 32 → rs_Dn (rs_R true pt0) (rs_dec true 0 kA kB) n rp rt G y (E y) (C y) (PL y) (PR y)) (hE : E rp ≠ []) : rk_W rp rt n (rk_a n kA) (rk_a n kB) E C G := by
  have B := rk_of h
  obtain ⟨b1, b2, b3, b4, b5, b6, b7, b8, b9, b10⟩ := B
  have hroot : ∀ x, x = rp ∨ x = rt → E x = ((G x).map (ro_dec (rk_a n kA) (rk_a n kB))).flatten ∧ rl_ch (fun s t => rk_a n kA s ≠ rk_a n kA t) (G x) := by
    intro x hx
    have hx32 : x < 32 := by rcases hx with z | z <;> omega
    obtain ⟨d1, d2, d3, d4, d5, d6, d7, d8⟩ := hd x hx32
    obtain ⟨p1, p2, p3, p4⟩ := d8 hx
    rw [p1, p2, List.nil_append, List.append_nil, rl_map_congr b10 d3] at d6
    exact ⟨d6.1.symm, rk_ch rs_Rt _ (fun t ht => b3 t (d3 t ht)) d6.2.2⟩
  obtain ⟨d1, d2, d3, d4, d5, d6, d7, d8⟩ := hd rp hrp
  obtain ⟨p1, p2, p3, p4⟩ := d8 (Or.inl rfl)
  refine ⟨fun x hx => ?_, fun x hx => ?_, hroot, fun z hz => ?_, fun z hz => ?_, fun hz => ?_⟩
  · obtain ⟨d1, d2, d3, _⟩ := hd x hx
    exact ⟨d2, d1, d3⟩
  · have dn := hd x hx
    obtain ⟨s1, _⟩ := rs_Dn_spl dn
    rw [rl_map_congr b10 dn.2.2.1] at s1
    exact ⟨_, _, s1⟩
  · obtain ⟨c, hc⟩ := rl_head_ne hE
    exact p3 z hz c c hc ((rs_Rt _ _).mpr rfl)
  · obtain ⟨c, hc⟩ := rl_last_ne hE
    exact p4 z hz c c hc ((rs_Rt _ _).mpr rfl)
  · rw [hz] at d1
    have := (hroot rp (Or.inl rfl)).1
    rw [d1] at this
    exact hE this
theorem rk_letter {rp rt n x c : Nat} {E : Nat → List Nat} (h : rs_cell rp rt n x E c) (hz : ∀ z, c ≠ 256 + z) : c < n := by
  rcases h with h | ⟨z, h, _⟩
  · exact h
  · exact absurd h (hz z)
end
section
/-! a round, in plain lists: the split -/
def rq_cell (S : Nat → List Nat) (c : Nat) : List Nat := if 256 ≤ c then [c] else S c
theorem rp_OUT_cons {f : Nat → List Nat} {i j : Nat} (h : i < j) : rp_OUT f i j = f i ++ rp_OUT f (i + 1) j := by
  unfold rp_OUT
  have e : j - i = (j - (i + 1)) + 1 := by omega
  rw [e, List.range_succ_eq_map, List.map_cons, List.flatten_cons, List.map_map]
  congr 2
  refine List.map_congr_left (fun t _ => ?_)
  show f (i + (t + 1)) = f (i + 1 + t)
  congr 1; omega
theorem rq_OUT {f S : Nat → List Nat} {cur : Nat → Int64} {i j : Nat} (h : ∀ k, i ≤ k → k < j → f k = rq_cell S (rc_c cur k)) : rp_OUT f i j = ((rc_sg cur i j).map (rq_cell S)).flatten := by
  unfold rp_OUT rc_sg
  rw [List.map_map]
  congr 1
  refine List.map_congr_left (fun t ht => ?_)
  rw [List.mem_range] at ht
  exact h _ (by omega) (by omega)
theorem rl_sw_one {l : List Nat} : rl_sw (fun _ => 1) l = l.length := by
  induction l with
  | nil => rfl
  | cons a l ih => rw [rl_sw_cons, ih, List.length_cons, Nat.add_comm]
section
variable {hd m tb te nF n0 n : Nat} {wt ka kb : Nat → Nat} {kA kB w : Nat → Int32}
def rq_ok (hd m tb te nF n : Nat) (ka kb : Nat → Nat) (kA kB : Nat → Int32) (t : Nat) : Prop := t < nF ∧ rp_df kA kB n (ka t) (rp_mid hd m tb te (ka t) (kb t))
def rq_w (hd m tb te nF : Nat) (wt : Nat → Nat) (kA kB : Nat → Int32) (i : Nat) : Nat := if i = nF then m * wt hd else if i = nF + 1 then rp_cut hd tb m te * wt tb else rp_n kB i * wt (rp_n kA i)
def rq_k (hd tb nF : Nat) (kA : Nat → Int32) (i : Nat) : Nat := if i = nF + 1 then tb else if i = nF then hd else rp_n kA i
def rq_x (hd m tb te nF : Nat) (kB : Nat → Int32) (i : Nat) : Nat := if i = nF + 1 then rp_cut hd tb m te else if i = nF then m else rp_n kB i
theorem rq_weights (h : rp_TS nF n0 wt hd m tb te n kA kB w) (hn0 : n0 ≤ 256) : ∀ i, i < n → w i = nI (rq_w hd m tb te nF wt kA kB i) := by
  obtain ⟨t1, t2, t3, ⟨t4, t5, t6, t7⟩, t8, t9⟩ := h
  intro i hi
  unfold rq_w
  by_cases q1 : i = nF
  · rw [if_pos q1, q1]; exact t6
  · rw [if_neg q1]
    by_cases q2 : i = nF + 1
    · rw [if_pos q2, q2]; exact t7
    · rw [if_neg q2]
      obtain ⟨a, e, h1, h2, h3, h4, h5, h6⟩ := t8 i hi q1 q2
      unfold rp_n
      rw [h1, h2, nI_clamp (by omega), nI_clamp (by omega)]
      exact h6
theorem rq_mi (h : rp_TS nF n0 wt hd m tb te n kA kB w) {t : Nat} (hka : ka t < 256) (hkb : kb t ≤ 2 ^ 20) (ok : rq_ok hd m tb te nF n ka kb kA kB t) (h0 : 0 < rp_mid hd m tb te (ka t) (kb t)) : rp_mi kA kB (nI (ka t)) (nI (rp_mid hd m tb te (ka t) (kb t))) n < n ∧ rp_mi kA kB (nI (ka t)) (nI (rp_mid hd m tb te (ka t) (kb t))) n ≠ nF ∧ rp_mi kA kB (nI (ka t)) (nI (rp_mid hd m tb te (ka t) (kb t))) n ≠ nF + 1 ∧ rp_n kA (rp_mi kA kB (nI (ka t)) (nI (rp_mid hd m tb te (ka t) (kb t))) n) = ka t ∧ rp_n kB (rp_mi kA kB (nI (ka t)) (nI (rp_mid hd m tb te (ka t) (kb t))) n) = rp_mid hd m tb te (ka t) (kb t) := by
  obtain ⟨i, i1, i2, i3⟩ := ok.2 h0
  have hm := @rp_mid_eq hd m tb te (ka t) (kb t)
  rw [rp_TS_mi h (by omega) i1 i2 i3]
  obtain ⟨t1, t2, t3, ⟨t4, t5, t6, t7⟩, t8, t9⟩ := h
  refine ⟨i1, fun z => ?_, fun z => ?_, ?_, ?_⟩
  · rw [z, t4] at i2; exact rp_m1 (by omega) i2.symm
  · rw [z, t5] at i2; exact rp_m1 (by omega) i2.symm
  · unfold rp_n; rw [i2, nI_clamp (by omega)]
  · unfold rp_n; rw [i3, nI_clamp (by omega)]
theorem rq_sum {f : Nat → Nat} {t : Nat} : rl_sw f (rp_S hd m tb te nF (nF + 1) ka kb kA kB n t) = (if rp_tl tb te (ka t) (kb t) then f (nF + 1) else 0) + ((if 0 < rp_mid hd m tb te (ka t) (kb t) then f (rp_mi kA kB (nI (ka t)) (nI (rp_mid hd m tb te (ka t) (kb t))) n) else 0) + (if rp_tl hd m (ka t) (kb t) then f nF else 0)) := by
  unfold rp_S
  rw [rl_sw_app, rl_sw_app]
  congr 1
  · split
    · rw [rl_sw_cons, rl_sw_nil, Nat.add_zero]
    · rfl
  · congr 1
    · split
      · rw [rl_sw_cons, rl_sw_nil, Nat.add_zero]
      · rfl
    · split
      · rw [rl_sw_cons, rl_sw_nil, Nat.add_zero]
      · rfl
theorem rq_tl {tb te xa e : Nat} : rp_tl tb te xa e = true ↔ xa = tb ∧ te ≤ e := by
  unfold rp_tl; exact decide_eq_true_iff
theorem rq_mem {t z : Nat} (hz : z ∈ rp_S hd m tb te nF (nF + 1) ka kb kA kB n t) : (z = nF + 1 ∧ ka t = tb ∧ te ≤ kb t) ∨ (z = rp_mi kA kB (nI (ka t)) (nI (rp_mid hd m tb te (ka t) (kb t))) n ∧ 0 < rp_mid hd m tb te (ka t) (kb t)) ∨ (z = nF ∧ ka t = hd ∧ m ≤ kb t) := by
  unfold rp_S at hz
  rcases List.mem_append.mp hz with q | q
  · by_cases c : rp_tl tb te (ka t) (kb t) = true
    · rw [if_pos c, List.mem_singleton] at q
      exact Or.inl ⟨q, rq_tl.mp c⟩
    · rw [if_neg c] at q; cases q
  · rcases List.mem_append.mp q with q | q
    · by_cases c : 0 < rp_mid hd m tb te (ka t) (kb t)
      · rw [if_pos c, List.mem_singleton] at q
        exact Or.inr (Or.inl ⟨q, c⟩)
      · rw [if_neg c] at q; cases q
    · by_cases c : rp_tl hd m (ka t) (kb t) = true
      · rw [if_pos c, List.mem_singleton] at q
        exact Or.inr (Or.inr ⟨q, rq_tl.mp c⟩)
      · rw [if_neg c] at q; cases q
theorem rq_lt (h : rp_TS nF n0 wt hd m tb te n kA kB w) {t z : Nat} (hka : ka t < 256) (hkb : kb t ≤ 2 ^ 20) (ok : rq_ok hd m tb te nF n ka kb kA kB t) (hz : z ∈ rp_S hd m tb te nF (nF + 1) ka kb kA kB n t) : z < n := by
  have t1 := h.1
  rcases rq_mem hz with ⟨q, _⟩ | ⟨q, q0⟩ | ⟨q, _⟩
  · omega
  · rw [q]; exact (rq_mi h hka hkb ok q0).1
  · omega
theorem rq_rs (h : rp_TS nF n0 wt hd m tb te n kA kB w) (hka : ∀ c, ka c < 256) (hkb : ∀ c, kb c ≤ 2 ^ 20) (hk1 : ∀ c, c < nF → 1 ≤ kb c) (hinj : ∀ i j, i < nF → j < nF → ka i = ka j → kb i = kb j → i = j) (hm : 1 ≤ m) (hte : 1 ≤ te) : ro_rs (rq_ok hd m tb te nF n ka kb kA kB) ka kb (rq_k hd tb nF kA) (rq_x hd m tb te nF kB) (rp_S hd m tb te nF (nF + 1) ka kb kA kB n) hd m tb te nF (nF + 1) wt (rq_w hd m tb te nF wt kA kB) := by
  have kT : rq_k hd tb nF kA (nF + 1) = tb := if_pos rfl
  have kH : rq_k hd tb nF kA nF = hd := by unfold rq_k; rw [if_neg (by omega), if_pos rfl]
  have xT : rq_x hd m tb te nF kB (nF + 1) = rp_cut hd tb m te := if_pos rfl
  have xH : rq_x hd m tb te nF kB nF = m := by unfold rq_x; rw [if_neg (by omega), if_pos rfl]
  have wH : rq_w hd m tb te nF wt kA kB nF = m * wt hd := if_pos rfl
  have wT : rq_w hd m tb te nF wt kA kB (nF + 1) = rp_cut hd tb m te * wt tb := by unfold rq_w; rw [if_neg (by omega), if_pos rfl]
  have kM : ∀ i, i ≠ nF → i ≠ nF + 1 → rq_k hd tb nF kA i = rp_n kA i ∧ rq_x hd m tb te nF kB i = rp_n kB i ∧ rq_w hd m tb te nF wt kA kB i = rp_n kB i * wt (rp_n kA i) := by
    intro i h1 h2
    unfold rq_k rq_x rq_w
    rw [if_neg h2, if_neg h1, if_neg h2, if_neg h1, if_neg h1, if_neg h2]
    exact ⟨rfl, rfl, rfl⟩
  have hsum : ∀ t, rq_ok hd m tb te nF n ka kb kA kB t → rl_sw (rq_x hd m tb te nF kB) (rp_S hd m tb te nF (nF + 1) ka kb kA kB n t) = kb t := by
    intro t ok
    rw [rq_sum, xT, xH]
    have hme := @rp_mid_eq hd m tb te (ka t) (kb t)
    by_cases q : 0 < rp_mid hd m tb te (ka t) (kb t)
    · obtain ⟨m1, m2, m3, m4, m5⟩ := rq_mi h (hka t) (hkb t) ok q
      rw [if_pos q, (kM _ m2 m3).2.1, m5]
      omega
    · rw [if_neg q]; omega
  have hwsum : ∀ t, rq_ok hd m tb te nF n ka kb kA kB t → rl_sw (rq_w hd m tb te nF wt kA kB) (rp_S hd m tb te nF (nF + 1) ka kb kA kB n t) = kb t * wt (ka t) := by
    intro t ok
    rw [rq_sum, wT, wH]
    have hme := @rp_mid_eq hd m tb te (ka t) (kb t)
    have e1 : (if rp_tl tb te (ka t) (kb t) then rp_cut hd tb m te * wt tb else 0) = (if rp_tl tb te (ka t) (kb t) then rp_cut hd tb m te else 0) * wt (ka t) := by
      by_cases c : rp_tl tb te (ka t) (kb t) = true
      · rw [if_pos c, if_pos c, (rq_tl.mp c).1]
      · rw [if_neg c, if_neg c, Nat.zero_mul]
    have e2 : (if rp_tl hd m (ka t) (kb t) then m * wt hd else 0) = (if rp_tl hd m (ka t) (kb t) then m else 0) * wt (ka t) := by
      by_cases c : rp_tl hd m (ka t) (kb t) = true
      · rw [if_pos c, if_pos c, (rq_tl.mp c).1]
      · rw [if_neg c, if_neg c, Nat.zero_mul]
    have e3 : (if 0 < rp_mid hd m tb te (ka t) (kb t) then rq_w hd m tb te nF wt kA kB (rp_mi kA kB (nI (ka t)) (nI (rp_mid hd m tb te (ka t) (kb t))) n) else 0) = rp_mid hd m tb te (ka t) (kb t) * wt (ka t) := by
      by_cases q : 0 < rp_mid hd m tb te (ka t) (kb t)
      · obtain ⟨m1, m2, m3, m4, m5⟩ := rq_mi h (hka t) (hkb t) ok q
        rw [if_pos q, (kM _ m2 m3).2.2, m4, m5]
      · have : rp_mid hd m tb te (ka t) (kb t) = 0 := by omega
        rw [if_neg q, this, Nat.zero_mul]
    rw [e1, e2, e3, ← Nat.add_mul, ← Nat.add_mul, ← Nat.add_assoc, hme]
  refine ⟨fun t ok => hk1 t ok.1, fun t ok => ?_, fun t ok z hz => ?_, hsum, fun t ok => ?_, fun t ok e1 e2 => ?_, fun t ok hno x hx => ?_, hwsum, fun s t o1 o2 => hinj s t o1.1 o2.1, kT, hm, hte⟩
  · intro z
    have := hsum t ok
    rw [z, rl_sw_nil] at this
    have := hk1 t ok.1
    omega
  · rcases rq_mem hz with ⟨q, q1, q2⟩ | ⟨q, q0⟩ | ⟨q, q1, q2⟩
    · rw [q, kT, q1]
    · obtain ⟨m1, m2, m3, m4, m5⟩ := rq_mi h (hka t) (hkb t) ok q0
      rw [q, (kM _ m2 m3).1, m4]
    · rw [q, kH, q1]
  · constructor
    · intro hh
      have hin := List.mem_of_mem_head? hh
      rcases rq_mem hin with ⟨_, q1, q2⟩ | ⟨q, q0⟩ | ⟨q, _⟩
      · exact ⟨q1, q2⟩
      · exact absurd q.symm (rq_mi h (hka t) (hkb t) ok q0).2.2.1
      · omega
    · intro hh
      unfold rp_S
      rw [if_pos (rq_tl.mpr hh)]; rfl
  · refine ⟨(if rp_tl tb te (ka t) (kb t) then [nF + 1] else []) ++ (if 0 < rp_mid hd m tb te (ka t) (kb t) then [rp_mi kA kB (nI (ka t)) (nI (rp_mid hd m tb te (ka t) (kb t))) n] else []), ?_, fun x hx => ?_, ?_⟩
    · unfold rp_S
      rw [if_pos (rq_tl.mpr ⟨e1, e2⟩), List.append_assoc]
    · rcases List.mem_append.mp hx with q | q
      · by_cases c : rp_tl tb te (ka t) (kb t) = true
        · rw [if_pos c, List.mem_singleton] at q; omega
        · rw [if_neg c] at q; cases q
      · by_cases c : 0 < rp_mid hd m tb te (ka t) (kb t)
        · rw [if_pos c, List.mem_singleton] at q
          rw [q]; exact (rq_mi h (hka t) (hkb t) ok c).2.1
        · rw [if_neg c] at q; cases q
    · have hw := hwsum t ok
      have eS : rp_S hd m tb te nF (nF + 1) ka kb kA kB n t = ((if rp_tl tb te (ka t) (kb t) then [nF + 1] else []) ++ (if 0 < rp_mid hd m tb te (ka t) (kb t) then [rp_mi kA kB (nI (ka t)) (nI (rp_mid hd m tb te (ka t) (kb t))) n] else [])) ++ [nF] := by
        unfold rp_S
        rw [if_pos (c := rp_tl hd m (ka t) (kb t) = true) (rq_tl.mpr ⟨e1, e2⟩), List.append_assoc]
      have e1' : wt (ka t) = wt hd := by rw [e1]
      rw [eS, rl_sw_app, rl_sw_cons, rl_sw_nil, wH, e1'] at hw
      rw [Nat.sub_mul]
      show _ = kb t * wt hd - (m * wt hd + 0)
      exact (Nat.sub_eq_of_eq_add hw.symm).symm
  · rcases rq_mem hx with ⟨q, _⟩ | ⟨q, q0⟩ | ⟨q, q1, q2⟩
    · omega
    · rw [q]; exact (rq_mi h (hka t) (hkb t) ok q0).2.1
    · exact absurd ⟨q1, q2⟩ hno
theorem rq_len (hm : 1 ≤ m) (hte : 1 ≤ te) (hhd : 0 < wt hd) {t : Nat} (hk : 1 ≤ kb t) : (rp_S hd m tb te nF (nF + 1) ka kb kA kB n t).length ≤ kb t + kb t * wt (ka t) := by
  have e : (rp_S hd m tb te nF (nF + 1) ka kb kA kB n t).length = rl_sw (fun _ => 1) (rp_S hd m tb te nF (nF + 1) ka kb kA kB n t) := rl_sw_one.symm
  rw [e, rq_sum]
  have hme := @rp_mid_eq hd m tb te (ka t) (kb t)
  have e2 : (if 0 < rp_mid hd m tb te (ka t) (kb t) then 1 else 0) ≤ rp_mid hd m tb te (ka t) (kb t) := by split <;> omega
  have e3 : (if rp_tl hd m (ka t) (kb t) then 1 else 0) ≤ (if rp_tl hd m (ka t) (kb t) then m else 0) := by split <;> omega
  by_cases c : rp_tl tb te (ka t) (kb t) = true
  · rw [if_pos c] at hme ⊢
    by_cases q : hd = tb
    · have h1 : ka t = hd := by rw [q]; exact (rq_tl.mp c).1
      have h2 : kb t * 1 ≤ kb t * wt (ka t) := Nat.mul_le_mul_left _ (by rw [h1]; exact hhd)
      omega
    · have h1 : rp_cut hd tb m te = te := if_neg q
      rw [h1] at hme
      omega
  · rw [if_neg c] at hme ⊢
    omega
end
end
section
/-! a round, in plain lists: the grammar behind the split -/
theorem rs_fl_mem {E : Nat → List Nat} {l : List Nat} {t : Nat} (h : t ∈ rs_fl E l) : ∃ c, c ∈ l ∧ t ∈ rs_cx E c := by
  unfold rs_fl at h
  obtain ⟨g, h1, h2⟩ := List.mem_flatten.mp h
  obtain ⟨c, h3, rfl⟩ := List.mem_map.mp h1
  exact ⟨c, h3, h2⟩
theorem rl_mfl_mem {S : Nat → List Nat} {l : List Nat} {t : Nat} (h : t ∈ (l.map S).flatten) : ∃ c, c ∈ l ∧ t ∈ S c := by
  obtain ⟨g, h1, h2⟩ := List.mem_flatten.mp h
  obtain ⟨c, h3, rfl⟩ := List.mem_map.mp h1
  exact ⟨c, h3, h2⟩
theorem rl_mfl_app {S : Nat → List Nat} {l m : List Nat} : ((l ++ m).map S).flatten = (l.map S).flatten ++ (m.map S).flatten := by
  rw [List.map_append, List.flatten_append]
theorem rl_mfl_cons {S : Nat → List Nat} {a : Nat} {l : List Nat} : ((a :: l).map S).flatten = S a ++ (l.map S).flatten := by
  rw [List.map_cons, List.flatten_cons]
theorem rl_mfl_ne {S : Nat → List Nat} {l : List Nat} (hl : l ≠ []) (h : ∀ t, t ∈ l → S t ≠ []) : (l.map S).flatten ≠ [] := by
  cases l with
  | nil => exact absurd rfl hl
  | cons a l =>
    rw [rl_mfl_cons]
    exact fun z => h a (by simp) (List.append_eq_nil_iff.mp z).1
/-- letters of a word come from cells of rules other than rp -/
theorem rg_from {rp rt n : Nat} {C E : Nat → List Nat} (hG : rg_G rp rt n C E) (hn : n ≤ 256) {Q : Nat → Prop} (hQ : ∀ x c, x < 32 → x ≠ rp → c ∈ C x → c < 256 → Q c) : ∀ N x, x < N → x < 32 → x ≠ rp → ∀ t, t ∈ E x → Q t := by
  intro N
  induction N with
  | zero => intro x hx; omega
  | succ N ih =>
    intro x hx hx32 hne t ht
    obtain ⟨g1, g2, g3⟩ := hG x hx32
    rw [g2] at ht
    obtain ⟨c, hc, htc⟩ := rs_fl_mem ht
    rcases g1 c hc with q | ⟨z, rfl, q2, q3, q4, q5, q6⟩
    · rw [rs_cx_l (by omega), List.mem_singleton] at htc
      subst htc
      exact hQ x t hx32 hne hc (by omega)
    · rw [rs_cx_r] at htc
      exact ih z (by omega) (by omega) q5 t htc
section
variable {hd m tb te nF n0 n : Nat} {wt ka kb : Nat → Nat} {kA kB w : Nat → Int32} {S : Nat → List Nat}
theorem rq_lenl {l : List Nat} (hS : ∀ t, t ∈ l → (S t).length ≤ kb t + kb t * wt (ka t)) : (l.map S).flatten.length ≤ (l.map (ro_dec ka kb)).flatten.length + rl_sw wt (l.map (ro_dec ka kb)).flatten := by
  induction l with
  | nil => exact Nat.le_refl _
  | cons a l ih =>
    have h1 := hS a (by simp)
    have h2 := ih (fun t ht => hS t (by simp [ht]))
    rw [rl_mfl_cons, rl_mfl_cons, List.length_append, List.length_append, rl_sw_app]
    have h3 : (ro_dec ka kb a).length = kb a := by unfold ro_dec; rw [List.length_replicate]
    have h4 : rl_sw wt (ro_dec ka kb a) = kb a * wt (ka a) := by unfold ro_dec; rw [rl_sw_rep]
    omega
theorem rq_swl {w2 : Nat → Nat} {l : List Nat} (hS : ∀ t, t ∈ l → rl_sw w2 (S t) = kb t * wt (ka t)) : rl_sw w2 (l.map S).flatten = rl_sw wt (l.map (ro_dec ka kb)).flatten := by
  induction l with
  | nil => rfl
  | cons a l ih =>
    rw [rl_mfl_cons, rl_mfl_cons, rl_sw_app, rl_sw_app, hS a (by simp), ih (fun t ht => hS t (by simp [ht]))]
    have h4 : rl_sw wt (ro_dec ka kb a) = kb a * wt (ka a) := by unfold ro_dec; rw [rl_sw_rep]
    rw [h4]
def rq_E (rp H Tl : Nat) (S G : Nat → List Nat) (Mc : List Nat) (x : Nat) : List Nat := if x = rp then H :: (((rs_fl G Mc).map S).flatten ++ [Tl]) else ((G x).map S).flatten
theorem rq_fl {rp rt x H Tl : Nat} {G : Nat → List Nat} {Mc : List Nat} (hn : n ≤ 256) (hF : nF ≤ 256) : ∀ (l : List Nat), (∀ c, c ∈ l → rs_cell rp rt nF x G c) → (∀ t, t ∈ rs_fl G l → ∀ z, z ∈ S t → z < n) → rs_fl (rq_E rp H Tl S G Mc) (l.map (rq_cell S)).flatten = ((rs_fl G l).map S).flatten := by
  intro l
  induction l with
  | nil => intro _ _; rfl
  | cons c l ih =>
    intro h1 h2
    have h2' : ∀ t, t ∈ rs_fl G l → ∀ z, z ∈ S t → z < n := fun t ht => h2 t (by rw [rs_fl_cons]; exact List.mem_append.mpr (Or.inr ht))
    rw [rl_mfl_cons, rs_fl_app, rs_fl_cons, rl_mfl_app, ih (fun d hd => h1 d (by simp [hd])) h2']
    congr 1
    rcases h1 c (by simp) with q | ⟨z, rfl, q2, q3, q4, q5, q6⟩
    · unfold rq_cell
      rw [if_neg (by omega), rs_cx_l (by omega), rs_mfl1]
      refine rs_fl_let (fun d hd => ?_)
      have := h2 c (by rw [rs_fl_cons, rs_cx_l (by omega)]; simp) d hd
      omega
    · unfold rq_cell
      rw [if_pos (by omega), rs_fl_one, rs_cx_r, rs_cx_r]
      exact if_neg q5
theorem rq_cells {rp rt x H Tl : Nat} {G : Nat → List Nat} {Mc : List Nat} (hF : nF ≤ 256) {l : List Nat} (h1 : ∀ c, c ∈ l → rs_cell rp rt nF x G c) (h2 : ∀ t, t ∈ rs_fl G l → ∀ z, z ∈ S t → z < n) (h3 : ∀ t, t ∈ rs_fl G l → S t ≠ []) : ∀ c, c ∈ (l.map (rq_cell S)).flatten → rs_cell rp rt n x (rq_E rp H Tl S G Mc) c := by
  intro c hc
  obtain ⟨d, hd, hcd⟩ := rl_mfl_mem hc
  have hin : ∀ t, t ∈ rs_cx G d → t ∈ rs_fl G l := by
    intro t ht
    obtain ⟨l1, l2, rfl⟩ := List.append_of_mem hd
    rw [rs_fl_app, rs_fl_cons]
    simp [ht]
  rcases h1 d hd with q | ⟨z, rfl, q2, q3, q4, q5, q6⟩
  · unfold rq_cell at hcd
    rw [if_neg (by omega)] at hcd
    exact Or.inl (h2 d (hin d (by rw [rs_cx_l (by omega)]; simp)) c hcd)
  · unfold rq_cell at hcd
    rw [if_pos (by omega), List.mem_singleton] at hcd
    refine Or.inr ⟨z, hcd, q2, ?_, q4, q5, q6⟩
    unfold rq_E
    rw [if_neg q5]
    exact rl_mfl_ne q3 (fun t ht => h3 t (hin t (by rw [rs_cx_r]; exact ht)))
end
theorem rq_main {r rp rt n0 nF n hd m tb te : Nat} {wt ka kb b : Nat → Nat} {kA0 kB0 w0 kA kB w : Nat → Int32} {cur : Nat → Int64} {E G : Nat → List Nat} {L0 : List Nat} (hrp : rp < 32) (hrt : rt < 32) (hpt : rp ≠ rt) (hB : rk_B n0 nF wt ka kb kA0 kB0 w0) (hW : rk_W rp rt nF ka kb E (fun x => rc_sg cur (b x) (b (x + 1))) G) (hb : ∀ x, x < 32 → b x ≤ b (x + 1)) (h2 : b rp + 2 ≤ b (rp + 1)) (e1 : hd = ka (rc_c cur (b rp))) (e2 : m = kb (rc_c cur (b rp))) (e3 : tb = ka (rc_c cur (b (rp + 1) - 1))) (e4 : te = kb (rc_c cur (b (rp + 1) - 1))) (hSS : rp_SS (b rp) (b (rp + 1) - 1) hd m tb te nF (nF + 1) nF n0 wt ka kb cur (b 32) n kA kB w) (hRH : rg_RH r rp rt wt L0 E) :
    ∃ E2 : Nat → List Nat, rg_G rp rt n (fun x => rp_OUT (rp_F (b rp) (b (rp + 1) - 1) hd m tb te nF (nF + 1) ka kb cur n kA kB) (b x) (b (x + 1))) E2 ∧ rg_RH (r + 1) rp rt (rq_w hd m tb te nF wt kA kB) L0 E2 ∧ (E2 rp).head? = some nF ∧ (E2 rp).getLast? = some (nF + 1) := by
  obtain ⟨B1, B2, B3, B4, B5, B6, B7, B8, B9, B10⟩ := hB
  obtain ⟨W1, W2, W3, W4, W5, W6⟩ := hW
  obtain ⟨R1, R2, p, P', R3, R4⟩ := hRH
  obtain ⟨TS, DF⟩ := hSS
  have hn : n ≤ 256 := TS.2.1
  have hnF : nF + 2 ≤ n := TS.1
  obtain ⟨j, hj⟩ : ∃ j, b (rp + 1) = j + 1 := ⟨b (rp + 1) - 1, by omega⟩
  have hj1 : b (rp + 1) - 1 = j := by omega
  rw [hj1] at e3 e4 DF ⊢
  generalize hi1 : b rp = i1 at *
  have hij : i1 < j := by omega
  -- the cells of the pattern's root
  have hC : rc_sg cur i1 (j + 1) = rc_c cur i1 :: (rc_sg cur (i1 + 1) j ++ [rc_c cur j]) := by
    rw [rc_sg_cons (by omega), rc_sg_snoc (by omega)]
  have W1p := W1 rp hrp
  dsimp only at W1p W4 W5 W6
  rw [hi1, hj, hC] at W1p W4 W5 W6
  have lc1 : rc_c cur i1 < nF := rk_letter (W1p.1 _ (by simp)) (fun z hz => W4 z (by rw [hz]; rfl))
  have lc2 : rc_c cur j < nF := rk_letter (W1p.1 _ (by simp)) (fun z hz => W5 z (by
    rw [← List.cons_append, List.getLast?_concat, hz]))
  generalize hc1 : rc_c cur i1 = c1 at *
  generalize hc2 : rc_c cur j = c2 at *
  generalize hMc : rc_sg cur (i1 + 1) j = Mc at *
  have hm1 : 1 ≤ m := by rw [e2]; exact B3 _ lc1
  have ht1 : 1 ≤ te := by rw [e4]; exact B3 _ lc2
  have gMc : ∀ c, c ∈ Mc → rs_cell rp rt nF rp G c := fun c hc => W1p.1 c (by simp [hc])
  have hGrp : G rp = c1 :: (rs_fl G Mc ++ [c2]) := by
    rw [W1p.2.1, rs_fl_cons, rs_cx_l (by omega), rs_fl_app, rs_fl_one, rs_cx_l (by omega)]; rfl
  have segs : ∀ x, x < 32 → x ≠ rp → ∀ k, b x ≤ k → k < b (x + 1) → k ≠ i1 ∧ k ≠ j := by
    intro x hx hne k k1 k2
    rcases Nat.lt_or_ge x rp with q | q
    · have := rg_le hb (by omega : x + 1 ≤ rp) (by omega)
      omega
    · have := rg_le hb (by omega : rp + 1 ≤ x) (by omega)
      omega
  have okG : ∀ x, x < 32 → x ≠ rp → ∀ t, t ∈ G x → rq_ok hd m tb te nF n ka kb kA kB t := by
    intro x hx hne t ht
    refine ⟨(W1 x hx).2.2 t ht, ?_⟩
    refine rg_from W1 B9 (Q := fun t => rp_df kA kB n (ka t) (rp_mid hd m tb te (ka t) (kb t))) (fun y c hy hyn hc hc2 => ?_) 32 x hx hx hne t ht
    obtain ⟨k, k1, k2, rfl⟩ := rc_sg_mem hc
    obtain ⟨s1, s2⟩ := segs y hy hyn k k1 k2
    have := rg_le hb (by omega : y + 1 ≤ 32) (Nat.le_refl _)
    exact DF k (by omega) s1 s2 hc2
  have okM : ∀ t, t ∈ rs_fl G Mc → rq_ok hd m tb te nF n ka kb kA kB t := by
    intro t ht
    obtain ⟨c, hc, htc⟩ := rs_fl_mem ht
    rcases gMc c hc with q | ⟨z, rfl, q2, q3, q4, q5, q6⟩
    · rw [rs_cx_l (by omega), List.mem_singleton] at htc
      subst htc
      refine ⟨q, ?_⟩
      rw [← hMc] at hc
      obtain ⟨k, k1, k2, rfl⟩ := rc_sg_mem hc
      have := rg_le hb (by omega : rp + 1 ≤ 32) (Nat.le_refl _)
      exact DF k (by omega) (by omega) (by omega) (by omega)
    · rw [rs_cx_r] at htc
      exact okG z (by omega) q5 t htc
  have RS := rq_rs TS B1 B2 B3 B7 hm1 ht1
  have Slt : ∀ t, rq_ok hd m tb te nF n ka kb kA kB t → ∀ z, z ∈ rp_S hd m tb te nF (nF + 1) ka kb kA kB n t → z < n := fun t ok z hz => rq_lt TS (B1 t) (B2 t) ok hz
  have Sne := RS.2.1
  have Sw := RS.2.2.2.2.2.2.2.1
  have hhd : 0 < wt hd := by
    have h0 := (W3 rp (Or.inl rfl)).1
    rw [R3, hGrp, rl_mfl_cons] at h0
    have h1 : ro_dec ka kb c1 = List.replicate m hd := by unfold ro_dec; rw [e1, e2]
    obtain ⟨q, hq⟩ : ∃ q, m = q + 1 := ⟨m - 1, by omega⟩
    rw [h1, hq, List.replicate_succ, List.cons_append] at h0
    rw [← (List.cons.inj h0).1]; exact R4
  have Slen : ∀ t, rq_ok hd m tb te nF n ka kb kA kB t → (rp_S hd m tb te nF (nF + 1) ka kb kA kB n t).length ≤ kb t + kb t * wt (ka t) := fun t ok => rq_len hm1 ht1 hhd (B3 t ok.1)
  have wH : rq_w hd m tb te nF wt kA kB nF = m * wt hd := if_pos rfl
  have wT : rq_w hd m tb te nF wt kA kB (nF + 1) = rp_cut hd tb m te * wt tb := by unfold rq_w; rw [if_neg (by omega), if_pos rfl]
  have wT' : rp_cut hd tb m te * wt tb ≤ te * wt tb := Nat.mul_le_mul_right _ (by unfold rp_cut; split <;> omega)
  have Fout : ∀ k, k ≠ i1 → k ≠ j → rp_F i1 j hd m tb te nF (nF + 1) ka kb cur n kA kB k = rq_cell (rp_S hd m tb te nF (nF + 1) ka kb kA kB n) (rc_c cur k) := by
    intro k k1 k2
    unfold rp_F rp_out rq_cell
    rw [if_neg k1, if_neg k2]
  generalize hS : rp_S hd m tb te nF (nF + 1) ka kb kA kB n = S at *
  have C2n : ∀ x, x < 32 → x ≠ rp → rp_OUT (rp_F i1 j hd m tb te nF (nF + 1) ka kb cur n kA kB) (b x) (b (x + 1)) = ((rc_sg cur (b x) (b (x + 1))).map (rq_cell S)).flatten := fun x hx hne => rq_OUT (fun k k1 k2 => Fout k (segs x hx hne k k1 k2).1 (segs x hx hne k k1 k2).2)
  have C2p : rp_OUT (rp_F i1 j hd m tb te nF (nF + 1) ka kb cur n kA kB) i1 (j + 1) = nF :: ((Mc.map (rq_cell S)).flatten ++ [nF + 1]) := by
    rw [rp_OUT_cons (by omega), rp_OUT_snoc (by omega), rq_OUT (S := S) (cur := cur) (fun k k1 k2 => Fout k (by omega) (by omega)), hMc]
    have f1 : rp_F i1 j hd m tb te nF (nF + 1) ka kb cur n kA kB i1 = [nF] := if_pos rfl
    have f2 : rp_F i1 j hd m tb te nF (nF + 1) ka kb cur n kA kB j = [nF + 1] := by
      unfold rp_F rp_out
      rw [if_neg (by omega), if_pos rfl]
    rw [f1, f2]; rfl
  have Ep : rq_E rp nF (nF + 1) S G Mc rp = nF :: (((rs_fl G Mc).map S).flatten ++ [nF + 1]) := if_pos rfl
  have En : ∀ x, x ≠ rp → rq_E rp nF (nF + 1) S G Mc x = ((G x).map S).flatten := fun x hx => if_neg hx
  refine ⟨rq_E rp nF (nF + 1) S G Mc, fun x hx => ?_, ⟨fun x hx => ?_, ?_, nF, _, Ep, ?_⟩, ?_, ?_⟩
  · by_cases hx2 : x = rp
    · subst hx2
      dsimp only
      rw [hi1, hj, C2p]
      have cl := rq_cells (x := x) (H := nF) (Tl := nF + 1) (Mc := Mc) B9 gMc (fun t ht => Slt t (okM t ht)) (fun t ht => Sne t (okM t ht))
      refine ⟨fun c hc => ?_, ?_, fun i hi => ?_⟩
      · rcases List.mem_cons.mp hc with q | q
        · exact Or.inl (by omega)
        · rcases List.mem_append.mp q with q | q
          · exact cl c q
          · rw [List.mem_singleton] at q; exact Or.inl (by omega)
      · rw [Ep, rs_fl_cons, rs_cx_l (by omega), rs_fl_app, rs_fl_one, rs_cx_l (by omega), rq_fl hn B9 Mc gMc (fun t ht => Slt t (okM t ht))]; rfl
      · rw [Ep] at hi
        rcases List.mem_cons.mp hi with q | q
        · omega
        · rcases List.mem_append.mp q with q | q
          · obtain ⟨t, ht, hit⟩ := rl_mfl_mem q
            exact Slt t (okM t ht) i hit
          · rw [List.mem_singleton] at q; omega
    · dsimp only
      rw [C2n x hx hx2]
      obtain ⟨g1, g2, g3⟩ := W1 x hx
      dsimp only at g1 g2
      have o1 : ∀ t, t ∈ rs_fl G (rc_sg cur (b x) (b (x + 1))) → rq_ok hd m tb te nF n ka kb kA kB t := fun t ht => okG x hx hx2 t (by rw [g2]; exact ht)
      refine ⟨rq_cells B9 g1 (fun t ht => Slt t (o1 t ht)) (fun t ht => Sne t (o1 t ht)), ?_, fun i hi => ?_⟩
      · rw [En x hx2, rq_fl hn B9 _ g1 (fun t ht => Slt t (o1 t ht)), ← g2]
      · rw [En x hx2] at hi
        obtain ⟨t, ht, hit⟩ := rl_mfl_mem hi
        exact Slt t (okG x hx hx2 t ht) i hit
  · obtain ⟨r1, r2⟩ := R1 x hx
    by_cases hx2 : x = rp
    · subst hx2
      rw [Ep]
      have h0 := (W3 x (Or.inl rfl)).1
      rw [hGrp, rl_mfl_cons, rl_mfl_app, rs_mfl1] at h0
      rw [h0, List.length_append, List.length_append] at r1
      rw [h0, rl_sw_app, rl_sw_app] at r2
      have l1 := rq_lenl (S := S) (ka := ka) (kb := kb) (wt := wt) (fun t ht => Slen t (okM t ht))
      have l2 := rq_swl (S := S) (ka := ka) (kb := kb) (wt := wt) (fun t ht => Sw t (okM t ht))
      have d1 : ro_dec ka kb c1 = List.replicate m hd := by unfold ro_dec; rw [e1, e2]
      have d2 : ro_dec ka kb c2 = List.replicate te tb := by unfold ro_dec; rw [e3, e4]
      rw [d1, d2, List.length_replicate, List.length_replicate] at r1
      rw [d1, d2, rl_sw_rep, rl_sw_rep] at r2
      constructor
      · rw [List.length_cons, List.length_append, List.length_singleton]
        omega
      · rw [rl_sw_cons, rl_sw_app, rl_sw_cons, rl_sw_nil, l2, wH, wT]
        omega
    · rw [En x hx2]
      obtain ⟨u, v, huv⟩ := W2 x hx
      rw [huv, List.length_append, List.length_append] at r1
      rw [huv, rl_sw_app, rl_sw_app] at r2
      have l1 := rq_lenl (S := S) (ka := ka) (kb := kb) (wt := wt) (fun t ht => Slen t (okG x hx hx2 t ht))
      have l2 := rq_swl (S := S) (ka := ka) (kb := kb) (wt := wt) (fun t ht => Sw t (okG x hx hx2 t ht))
      constructor
      · omega
      · rw [l2]; omega
  · rw [← R2, Ep, En rt (fun z => hpt z.symm)]
    have h0 := (W3 rp (Or.inl rfl))
    have h1 := (W3 rt (Or.inr rfl))
    rw [h1.1]
    have hch := h0.2
    rw [hGrp] at hch
    have hch2 := hch.2
    obtain ⟨k1, k2, k3⟩ := rl_ch_app.mp hch2
    have h00 := h0.1
    rw [hGrp, rl_mfl_cons, rl_mfl_app, rs_mfl1] at h00
    have d1 : ro_dec ka kb c1 = List.replicate m hd := by unfold ro_dec; rw [e1, e2]
    have d2 : ro_dec ka kb c2 = List.replicate te tb := by unfold ro_dec; rw [e3, e4]
    rw [h00, d1, d2]
    refine (ro_split RS okM k1 (fun z hz => ?_) (fun z hz => ?_) (fun hz => ?_) (G rt) 0 (okG rt hrt (fun z => hpt z.symm)) h1.2).symm
    · rw [e3]; exact k3 z c2 hz rfl
    · have := hch.1 z (by rw [rl_head_app (fun q => by rw [q] at hz; cases hz)]; exact hz)
      rw [e1]; exact fun q => this q.symm
    · have := hch.1 c2 (by rw [hz]; rfl)
      rw [e1, e3]; exact this
  · rw [wH]; exact Nat.mul_pos hm1 hhd
  · rw [Ep]; rfl
  · rw [Ep, ← List.cons_append, List.getLast?_concat]
end
section
/-! a round, in plain lists: pairs, renaming -/
theorem rl_len_fl {dec : Nat → List Nat} {l : List Nat} (h : ∀ i, i ∈ l → dec i ≠ []) : l.length ≤ (l.map dec).flatten.length := by
  induction l with
  | nil => exact Nat.le_refl _
  | cons a l ih =>
    rw [rl_mfl_cons, List.length_append, List.length_cons]
    have h1 := ih (fun i hi => h i (by simp [hi]))
    have h2 : 0 < (dec a).length := List.length_pos_iff.mpr (h a (by simp))
    omega
theorem rl_sw_mem {w : Nat → Nat} {l : List Nat} {a : Nat} (h : a ∈ l) : w a ≤ rl_sw w l := by
  obtain ⟨l1, l2, rfl⟩ := List.append_of_mem h
  rw [rl_sw_app, rl_sw_cons]
  omega
theorem rr_pair {r rp rt n2 n3 H T : Nat} {pt kA kB w pt' : Nat → Int32} {wt2 : Nat → Nat} {E2 C3 G PL PR : Nat → List Nat} {L0 : List Nat} (hrp : rp < 32) (hrt : rt < 32) (h : rs_TB false n2 n2 pt wt2 n3 kA kB w pt') (hd : ∀ y, y < 32 → rs_Dn (rs_R false pt) (rs_dec false n2 kA kB) n3 rp rt G y (E2 y) (C3 y) (PL y) (PR y)) (hRH : rg_RH r rp rt wt2 L0 E2) (hH : (E2 rp).head? = some H) (hT : (E2 rp).getLast? = some T) (pH : pt H = 1) (pT : pt T = 2) : rg_G rp rt n3 C3 G ∧ rg_RH r rp rt (fun i => rl_sw wt2 (rs_dec false n2 kA kB i)) L0 G := by
  obtain ⟨t1, t2, t3, t4, t5, t6, t7, t8, t9, t10⟩ := h
  obtain ⟨R1, R2, p, P', R3, R4⟩ := hRH
  have root : ∀ x, x = rp ∨ x = rt → rl_gr (rs_R false pt) (E2 x) ((G x).map (rs_dec false n2 kA kB)) := by
    intro x hx
    have hx32 : x < 32 := by rcases hx with z | z <;> omega
    obtain ⟨d1, d2, d3, d4, d5, d6, d7, d8⟩ := hd x hx32
    obtain ⟨p1, p2, _⟩ := d8 hx
    rw [p1, p2, List.nil_append, List.append_nil] at d6
    exact d6
  have gp := root rp (Or.inl rfl)
  have gt := root rt (Or.inr rfl)
  have dp := hd rp hrp
  have dt := hd rt hrt
  have nep : G rp ≠ [] := by
    intro z
    have := gp.1
    rw [z] at this
    rw [← this] at R3
    cases R3
  refine ⟨fun x hx => ⟨(hd x hx).2.1, (hd x hx).1, (hd x hx).2.2.1⟩, fun x hx => ?_, ?_, ?_⟩
  · obtain ⟨r1, r2⟩ := R1 x hx
    have dn := hd x hx
    obtain ⟨s1, s2, s3, s4⟩ := rs_Dn_spl dn
    rw [s1, List.length_append, List.length_append] at r1
    rw [s1, rl_sw_app, rl_sw_app] at r2
    have l1 := rl_len_fl (dec := rs_dec false n2 kA kB) (l := G x) (fun i hi => (t6 i (dn.2.2.1 i hi)).1)
    have l2 : rl_sw wt2 ((G x).map (rs_dec false n2 kA kB)).flatten = rl_sw (fun i => rl_sw wt2 (rs_dec false n2 kA kB i)) (G x) := rl_sw_flat (fun a _ => rfl)
    constructor
    · omega
    · rw [← l2]; omega
  · rw [← R2]
    have e1 := gp.1
    have e2 := gt.1
    have gp' := gp
    have gt' := gt
    rw [← e1] at gp' hH hT
    rw [← e2] at gt'
    rw [← e1, ← e2]
    refine (ro_gr (w := wt2) gp' nep (fun a b hb => ?_) (fun a b ha => ?_) (G rt) 0 gt' (fun i j hi hj => t8 i j (dt.2.2.1 i hi) (dp.2.2.1 j hj)) (fun i hi => rfl)).symm
    · rw [hH] at hb
      cases hb
      intro z
      have := (z.2 rfl).2
      rw [pH] at this
      exact absurd this (by decide)
    · rw [hT] at ha
      cases ha
      intro z
      have := (z.2 rfl).1
      rw [pT] at this
      exact absurd this (by decide)
  · cases hG : G rp with
    | nil => exact absurd hG nep
    | cons a l =>
      refine ⟨a, l, rfl, ?_⟩
      have e1 := gp.1
      rw [hG, rl_mfl_cons, R3] at e1
      have na := (t6 a (dp.2.2.1 a (by rw [hG]; simp))).1
      show 0 < rl_sw wt2 (rs_dec false n2 kA kB a)
      cases hda : rs_dec false n2 kA kB a with
      | nil => exact absurd hda na
      | cons c cs =>
        rw [hda, List.cons_append] at e1
        rw [rl_sw_cons, (List.cons.inj e1).1]
        omega
theorem rg_from2 {rp rt n : Nat} {C E : Nat → List Nat} (hG : rg_G rp rt n C E) (hn : n ≤ 256) {Q : Nat → Prop} (hQ : ∀ x c, x < 32 → c ∈ C x → c < 256 → Q c) : ∀ N x, x < N → x < 32 → ∀ t, t ∈ E x → Q t := by
  intro N
  induction N with
  | zero => intro x hx; omega
  | succ N ih =>
    intro x hx hx32 t ht
    obtain ⟨g1, g2, g3⟩ := hG x hx32
    rw [g2] at ht
    obtain ⟨c, hc, htc⟩ := rs_fl_mem ht
    rcases g1 c hc with q | ⟨z, rfl, q2, q3, q4, q5, q6⟩
    · rw [rs_cx_l (by omega), List.mem_singleton] at htc
      subst htc
      exact hQ x t hx32 hc (by omega)
    · rw [rs_cx_r] at htc
      exact ih z (by omega) (by omega) t htc
def rr_u (w : Nat → Int32) (i : Nat) : Nat := (w i).toBitVec.toNat
theorem rr_uN (x : Int32) : x = nI x.toBitVec.toNat := by
  obtain ⟨n, hn, rfl⟩ := wb_of32 x
  rw [pk_tn hn]
def rr_f (ρ : Nat → Nat) (c : Nat) : Nat := if 256 ≤ c then c else ρ c
theorem rr_comp {r rp rt n3 n4 : Nat} {b : Nat → Nat} {cur3 cur4 : Nat → Int64} {w3 rm1 rm kA4 kB4 w4 : Nat → Int32} {wt3 : Nat → Nat} {G : Nat → List Nat} {L0 : List Nat} (hn3 : n3 ≤ 256) (hrp : rp < 32) (hrt : rt < 32) (hb : ∀ x, x < 32 → b x ≤ b (x + 1)) (hw3 : ∀ i, i < n3 → w3 i = nI (wt3 i)) (hG : rg_G rp rt n3 (fun x => rc_sg cur3 (b x) (b (x + 1))) G) (hRH : rg_RH r rp rt wt3 L0 G) (hu : ∀ k, k < b 32 → rc_c cur3 k < 256 → rm1 (rc_c cur3 k) = 0) (hC : rm_C n3 n4 rm1 w3 rm kA4 kB4 w4) (hcur : ∀ k, k < b 32 → rc_c cur4 k = if 256 ≤ rc_c cur3 k then rc_c cur3 k else rp_n rm (rc_c cur3 k)) :
    n4 ≤ 256 ∧ (∀ i, i < n4 → kA4 i = nI i ∧ kB4 i = 1 ∧ w4 i = nI (rr_u w4 i)) ∧ ∃ E4 : Nat → List Nat, rg_G rp rt n4 (fun x => rc_sg cur4 (b x) (b (x + 1))) E4 ∧ rg_RH r rp rt (rr_u w4) L0 E4 := by
  obtain ⟨c1, c2, c3, c4, c5⟩ := hC
  obtain ⟨R1, R2, p, P', R3, R4⟩ := hRH
  have used : ∀ x, x < 32 → ∀ t, t ∈ G x → rm1 t = 0 := fun x hx t ht => rg_from2 hG hn3 (Q := fun t => rm1 t = 0) (fun y c hy hc hc2 => by
    obtain ⟨k, k1, k2, rfl⟩ := rc_sg_mem hc
    have := rg_le hb (by omega : y + 1 ≤ 32) (Nat.le_refl _)
    exact hu k (by omega) hc2) 32 x hx hx t ht
  have usedc : ∀ x, x < 32 → ∀ c, c ∈ rc_sg cur3 (b x) (b (x + 1)) → c < 256 → rm1 c = 0 := by
    intro x hx c hc hc2
    obtain ⟨k, k1, k2, rfl⟩ := rc_sg_mem hc
    have := rg_le hb (by omega : x + 1 ≤ 32) (Nat.le_refl _)
    exact hu k (by omega) hc2
  have rho : ∀ t, t < n3 → rm1 t = 0 → rp_n rm t < n4 ∧ rm t = nI (rp_n rm t) ∧ w4 (rp_n rm t) = w3 t := by
    intro t ht h0
    obtain ⟨q, q1, q2, q3⟩ := c2 t ht h0
    have e : rp_n rm t = q := by unfold rp_n; rw [q2, nI_clamp (by omega)]
    rw [e]; exact ⟨q1, q2, q3⟩
  have inj : ∀ s t, s < n3 → t < n3 → rm1 s = 0 → rm1 t = 0 → rp_n rm s = rp_n rm t → s = t := by
    intro s t hs ht s0 t0 e
    refine c3 s t hs ht s0 t0 ?_
    rw [(rho s hs s0).2.1, (rho t ht t0).2.1, e]
  have wgt : ∀ x, x < 32 → ∀ t, t ∈ G x → rr_u w4 (rp_n rm t) = wt3 t := by
    intro x hx t ht
    have tn := (hG x hx).2.2 t ht
    unfold rr_u
    rw [(rho t tn (used x hx t ht)).2.2, hw3 t tn]
    have := rl_sw_mem (w := wt3) ht
    have := (R1 x hx).2
    exact pk_tn (by omega)
  have esg : ∀ x, x < 32 → rc_sg cur4 (b x) (b (x + 1)) = (rc_sg cur3 (b x) (b (x + 1))).map (rr_f (rp_n rm)) := by
    intro x hx
    unfold rc_sg
    rw [List.map_map]
    refine List.map_congr_left (fun t ht => ?_)
    rw [List.mem_range] at ht
    have := rg_le hb (by omega : x + 1 ≤ 32) (Nat.le_refl _)
    exact hcur _ (by omega)
  have flat : ∀ x l, (∀ c, c ∈ l → rs_cell rp rt n3 x G c) → (∀ c, c ∈ l → c < 256 → rm1 c = 0) → rs_fl (fun y => (G y).map (rp_n rm)) (l.map (rr_f (rp_n rm))) = (rs_fl G l).map (rp_n rm) := by
    intro x l
    induction l with
    | nil => intro _ _; rfl
    | cons c l ih =>
      intro h1 h2
      rw [List.map_cons, rs_fl_cons, rs_fl_cons, List.map_append, ih (fun d hd => h1 d (by simp [hd])) (fun d hd => h2 d (by simp [hd]))]
      congr 1
      rcases h1 c (by simp) with q | ⟨z, rfl, _⟩
      · have e0 := rho c q (h2 c (by simp) (by omega))
        unfold rr_f
        rw [if_neg (by omega), rs_cx_l (by omega), rs_cx_l (by omega)]; rfl
      · unfold rr_f
        rw [if_pos (by omega), rs_cx_r, rs_cx_r]
  refine ⟨by omega, fun i hi => ⟨(c5 i hi).1, (c5 i hi).2, rr_uN _⟩, fun y => (G y).map (rp_n rm), fun x hx => ?_, fun x hx => ?_, ?_, ?_⟩
  · obtain ⟨g1, g2, g3⟩ := hG x hx
    dsimp only at g1 g2 ⊢
    rw [esg x hx]
    refine ⟨fun c hc => ?_, ?_, fun i hi => ?_⟩
    · obtain ⟨d, hd, rfl⟩ := List.mem_map.mp hc
      rcases g1 d hd with q | ⟨z, rfl, q2, q3, q4⟩
      · refine Or.inl ?_
        unfold rr_f
        rw [if_neg (by omega)]
        exact (rho d q (usedc x hx d hd (by omega))).1
      · refine Or.inr ⟨z, ?_, q2, fun e => q3 (List.map_eq_nil_iff.mp e), q4⟩
        unfold rr_f
        rw [if_pos (by omega)]
    · rw [flat x _ g1 (usedc x hx), ← g2]
    · obtain ⟨t, ht, rfl⟩ := List.mem_map.mp hi
      exact (rho t (g3 t ht) (used x hx t ht)).1
  · obtain ⟨r1, r2⟩ := R1 x hx
    dsimp only
    rw [List.length_map]
    refine ⟨r1, ?_⟩
    have e : rl_sw (rr_u w4) ((G x).map (rp_n rm)) = rl_sw wt3 (G x) := by
      unfold rl_sw
      rw [List.map_map]
      congr 1
      exact List.map_congr_left (fun t ht => wgt x hx t ht)
    rw [e]; exact r2
  · dsimp only
    rw [← R2]
    exact ro_map (G rt) 0 (fun i j hi hj => inj i j ((hG rt hrt).2.2 i hi) ((hG rp hrp).2.2 j hj) (used rt hrt i hi) (used rp hrp j hj)) (fun i hi => wgt rt hrt i hi)
  · refine ⟨rp_n rm p, P'.map (rp_n rm), by dsimp only; rw [R3]; rfl, ?_⟩
    rw [wgt rp hrp p (by rw [R3]; simp)]
    exact R4
end
section
/-! recompress -/
def rf_RS (r rp rt : Nat) (L0 : List Nat) (b : Nat → Nat) (n : Nat) (cur : Nat → Int64) (kA kB w : Nat → Int32) : Prop :=
  ∃ (wt : Nat → Nat) (E : Nat → List Nat), rg_G rp rt n (fun x => rc_sg cur (b x) (b (x + 1))) E ∧ rg_RH r rp rt wt L0 E ∧ ∀ i, i < n → kA i = nI i ∧ kB i = 1 ∧ w i = nI (wt i)
def rf_FIN (rp rt : Nat) (L0 : List Nat) (b : Nat → Nat) (n : Nat) (cur : Nat → Int64) (kA kB w : Nat → Int32) : Prop :=
  ∃ (n0 : Nat) (wt ka kb : Nat → Nat) (G : Nat → List Nat), rk_B n0 n wt ka kb kA kB w ∧ rg_G rp rt n (fun x => rc_sg cur (b x) (b (x + 1))) G ∧ rc_c cur (b rp) < n ∧ b rp < b (rp + 1) ∧ L0 = ro_fin ka kb wt (ka (rc_c cur (b rp))) (kb (rc_c cur (b rp))) (G rt) 0
theorem rr_TBp {n : Nat} {kA kB w pt : Nat → Int32} {wt : Nat → Nat} (hn : n ≤ 256) (h : ∀ i, i < n → w i = nI (wt i)) : rs_TB false n n pt wt n kA kB w pt := by
  have hd : ∀ i, i < n → rs_dec false n kA kB i = [i] := fun i hi => rs_decP0 hi
  refine ⟨Nat.le_refl _, hn, fun _ => rfl, (fun z => by cases z), hd, fun i hi => ?_, fun i hi => ?_, fun i j hi hj e => ?_, (fun z => by cases z), fun _ i hi => ⟨fun _ => rfl, fun z => by omega⟩⟩
  · rw [hd i hi]
    refine ⟨(fun z => by cases z), ⟨(fun b hb => by cases hb), trivial⟩, fun c hc => ?_⟩
    rw [List.mem_singleton] at hc; subst hc; exact hi
  · rw [hd i hi, h i hi, rl_sw_cons, rl_sw_nil, Nat.add_zero]
  · rw [hd i hi, hd j hj] at e
    exact (List.cons.inj e).1
theorem rf_seg {b : Nat → Nat} {k : Nat} (h0 : b 0 = 0) : ∀ N, k < b N → ∃ x, x < N ∧ b x ≤ k ∧ k < b (x + 1) := by
  intro N
  induction N with
  | zero => intro h; omega
  | succ N ih =>
    intro h
    rcases Nat.lt_or_ge k (b N) with q | q
    · obtain ⟨x, h1, h2, h3⟩ := ih q
      exact ⟨x, by omega, h2, h3⟩
    · exact ⟨N, by omega, q, h⟩
theorem rf_cell {rp rt n : Nat} {b : Nat → Nat} {cur : Nat → Int64} {G : Nat → List Nat} (h0 : b 0 = 0) (hG : rg_G rp rt n (fun x => rc_sg cur (b x) (b (x + 1))) G) : ∀ k, k < b 32 → rc_c cur k < 256 → rc_c cur k < n := by
  intro k hk hc
  obtain ⟨x, h1, h2, h3⟩ := rf_seg h0 32 hk
  rcases (hG x h1).1 _ (rc_sg_in h2 h3) with q | ⟨z, q, _⟩
  · exact q
  · omega
section
variable {f_maxRules f_maxLength f_letters f_ref f_room f_out f_head f_rootP f_rootT f_broken f_inLeft f_inRight f_size f_fresh f_blocking f_headBase f_headExp f_headMark f_tailBase f_tailExp f_tailCut f_tailMark : Int32} {a_used a_kinds a_partA a_partB a_lens a_begin a_popL a_popR a_need a_keyA a_keyB a_weight a_part a_remap a_hits a_span : Nat → Int32} {a_cur a_next : Nat → Int64}
variable {rp rt : Nat} {L0 : List Nat}
theorem rx_round_rest {post : SX → Prop} {J : Int32 → Int32 → Int32 → Int32 → Int32 → Int32 → Int32 → Int32 → Int32 → Int32 → Int32 → Int32 → Int32 → Int32 → Int32 → Int32 → Int32 → Int32 → Int32 → Int32 → Int32 → Int32 → Int32 → Int32 → (Nat → Int32) → (Nat → Int32) → (Nat → Int32) → (Nat → Int32) → (Nat → Int32) → (Nat → Int64) → (Nat → Int64) → (Nat → Int32) → (Nat → Int32) → (Nat → Int32) → (Nat → Int32) → (Nat → Int32) → (Nat → Int32) → (Nat → Int32) → (Nat → Int32) → (Nat → Int32) → (Nat → Int32) → (Nat → Int32) → Prop} {r n1 n0 : Nat} {b1 wt : Nat → Nat} {E PL PR : Nat → List Nat} {pt0 : Nat → Int32} (hr : r < 64) (hrp : rp < 32) (hrt : rt < 32) (hpt : rp ≠ rt) (hg : rg_W b1 a_cur a_begin) (hn : n1 ≤ 256) (hdiff : b1 (rp + 1) - b1 rp ≠ 1)
    (hs : f_broken = 0 → rg_RH r rp rt wt L0 E ∧ rs_TB true 0 n0 pt0 wt n1 a_keyA a_keyB a_weight a_part ∧ ∃ G : Nat → List Nat, ∀ y, y < 32 → rs_Dn (rs_R true pt0) (rs_dec true 0 a_keyA a_keyB) n1 rp rt G y (E y) (rc_sg a_cur (b1 y) (b1 (y + 1))) (PL y) (PR y))
    (K : ∀ (b' : Nat → Nat) (n' : Nat) (f_out' : Int32) (f_head' : Int32) (f_broken' : Int32) (f_fresh' : Int32) (f_blocking' : Int32) (f_headBase' : Int32) (f_headExp' : Int32) (f_headMark' : Int32) (f_tailBase' : Int32) (f_tailExp' : Int32) (f_tailCut' : Int32) (f_tailMark' : Int32) (a_cur' : Nat → Int64) (a_next' : Nat → Int64) (a_begin' : Nat → Int32) (a_popL' : Nat → Int32) (a_popR' : Nat → Int32) (a_keyA' : Nat → Int32) (a_keyB' : Nat → Int32) (a_weight' : Nat → Int32) (a_part' : Nat → Int32) (a_remap' : Nat → Int32), rg_W b' a_cur' a_begin' → n' ≤ 256 → (f_broken' = 0 → rf_RS (r + 1) rp rt L0 b' n' a_cur' a_keyA' a_keyB' a_weight') → J 0 (nI (r + 1)) f_maxRules f_maxLength f_letters f_ref f_room f_out' f_head' (nI rp) (nI rt) f_broken' f_inLeft f_inRight (nI n') f_fresh' f_blocking' f_headBase' f_headExp' f_headMark' f_tailBase' f_tailExp' f_tailCut' f_tailMark' a_used a_kinds a_partA a_partB a_lens a_cur' a_next' a_begin' a_popL' a_popR' a_need a_keyA' a_keyB' a_weight' a_part' a_remap' a_hits a_span) :
    wX_recompress_60 post J (nI r) 0 f_maxRules f_maxLength f_letters f_ref f_room f_out f_head (nI rp) (nI rt) f_broken f_inLeft f_inRight (nI n1) (nI 0) f_blocking f_headBase f_headExp f_headMark f_tailBase f_tailExp f_tailCut f_tailMark a_used a_kinds a_partA a_partB a_lens a_cur a_next a_begin a_popL a_popR a_need a_keyA a_keyB a_weight a_part a_remap a_hits a_span := by
  unfold wX_recompress_60
  refine br_t rfl (br_c (fun hb => ?_) (fun hb => nm_r (nI_1 r) (K b1 n1 _ _ _ _ _ _ _ _ _ _ _ _ _ _ _ _ _ _ _ _ _ _ hg hn (fun z => absurd z hb))))
  obtain ⟨hRH, hTB, G, hD⟩ := hs hb
  have hE : E rp ≠ [] := by
    obtain ⟨_, _, p, P', h1, _⟩ := hRH
    rw [h1]; exact fun z => by cases z
  have B := rk_of hTB
  have Wd := rk_Wof hrp hrt hTB hD hE
  obtain ⟨B1, B2, B3, B4, B5, B6, B7, B8, B9, B10⟩ := id B
  obtain ⟨W1, W2, W3, W4, W5, W6⟩ := id Wd
  dsimp only at W4 W5 W6
  have hne : b1 rp < b1 (rp + 1) := by
    rcases Nat.lt_or_ge (b1 rp) (b1 (rp + 1)) with q | q
    · exact q
    · exact absurd (rc_sg_nil q) W6
  have h2 : b1 rp + 2 ≤ b1 (rp + 1) := by omega
  have cc1 : rc_c a_cur (b1 rp) < 256 := by
    have := rk_letter ((W1 rp hrp).1 _ (rc_sg_in (Nat.le_refl _) hne)) (fun z hz => W4 z (by rw [rc_sg_cons hne, hz]; rfl))
    omega
  have cc2 : rc_c a_cur (b1 (rp + 1) - 1) < 256 := by
    have := rk_letter ((W1 rp hrp).1 _ (rc_sg_in (k := b1 (rp + 1) - 1) (by omega) (by omega))) (fun z hz => W5 z (by
      obtain ⟨q, hq⟩ : ∃ q, b1 (rp + 1) = q + 1 := ⟨b1 (rp + 1) - 1, by omega⟩
      rw [hq, Nat.add_sub_cancel] at hz
      rw [hq, rc_sg_snoc (by omega), List.getLast?_concat, hz]))
    omega
  refine rx_split (n0 := n0) (wt := wt) (ka := rk_a n1 a_keyA) (kb := rk_a n1 a_keyB) hrp hg hne hn (rf_cell hg.1 W1) B1 B2 B3 B4 B5 B6 B7 B8 cc1 cc2 rfl rfl rfl rfl (fun c n2 H Tl f_out' a_cur' a_next' a_begin' a_keyA' a_keyB' a_weight' a_part' f_broken' k1 k2 k3 k4 k5 k6 => ?_)
  dsimp only
  refine rx_partition (b := c) k3 k4 k5 k1 (fun a_part'' p1 p2 => ?_)
  dsimp only
  -- the words behind the split
  obtain ⟨E2, wt2, hE2⟩ : ∃ (E2 : Nat → List Nat) (wt2 : Nat → Nat), f_broken' = 0 → H ≠ Tl ∧ rg_G rp rt n2 (fun x => rc_sg a_cur' (c x) (c (x + 1))) E2 ∧ rg_RH (r + 1) rp rt wt2 L0 E2 ∧ (E2 rp).head? = some H ∧ (E2 rp).getLast? = some Tl ∧ ∀ i, i < n2 → a_weight' i = nI (wt2 i) := by
    by_cases hb2 : f_broken' = 0
    · obtain ⟨q1, q2, q3, q4, q5⟩ := k6 hb2
      obtain ⟨E2, m1, m2, m3, m4⟩ := rq_main hrp hrt hpt B Wd hg.2.1 h2 rfl rfl rfl rfl q4 hRH
      refine ⟨E2, _, fun _ => ⟨by omega, fun x hx => ?_, m2, by rw [q2]; exact m3, by rw [q3]; exact m4, rq_weights q4.1 (by omega)⟩⟩
      have := m1 x hx
      dsimp only at this ⊢
      rw [q5 x hx]; exact this
    · exact ⟨fun _ => [], fun _ => 0, fun z => absurd z hb2⟩
  refine rx_sweep (bl := false) (fr := n2) (n0 := n2) (wt := wt2) (W := E2) (b0 := c) (fun z => by cases z) (fun _ => rfl) k3 k1 hrp hrt (fun hb2 => ?_) (fun b3 n3 f_out'' f_head' a_cur'' a_next'' a_begin'' a_popL' a_popR' f_broken'' a_keyA'' a_keyB'' a_weight'' a_part''' l1 l2 l3 l4 => ?_)
  · obtain ⟨q1, q2, q3, q4, q5, q6⟩ := hE2 hb2
    refine ⟨rr_TBp k3 q6, fun x hx => ⟨(q2 x hx).1, (q2 x hx).2.1, ?_⟩⟩
    have := (q3.1 x hx).1
    omega
  dsimp only
  refine rx_compact (n := n3) (b := b3) l3 l1 (fun n4 rm1 a_cur''' a_next''' a_keyA''' a_keyB''' a_weight''' a_remap' m1 m2 m3 => ?_)
  dsimp only
  have hrm : n4 ≤ n3 := m2.1
  refine nm_r (nI_1 r) (K b3 n4 _ _ _ _ _ _ _ _ _ _ _ _ _ _ _ _ _ _ _ _ _ _ ?_ (by omega) (fun hb3 => ?_))
  · obtain ⟨g1, g2, g3, g4, g5⟩ := l1
    refine ⟨g1, g2, g3, g4, fun x hx k k1 k2 => ?_⟩
    have hle := rg_le g2 (by omega : x + 1 ≤ 32) (Nat.le_refl _)
    have h5 := g5 x hx k k1 k2
    rw [m3 k (by omega)]
    by_cases q : 256 ≤ rc_c a_cur'' k
    · rw [if_pos q]; exact h5
    · rw [if_neg q]
      have h0 := m1 k (by omega) (by omega)
      unfold rp_n
      rcases Nat.lt_or_ge (rc_c a_cur'' k) n3 with z | z
      · obtain ⟨s, s1, s2, s3⟩ := m2.2.1 _ z h0
        rw [s2, nI_clamp (by omega)]; omega
      · rw [m2.2.2.2.1 _ z, h0]
        show (0 : Int32).toNatClampNeg < 256 + x
        rw [sb_cl0]; omega
  · obtain ⟨u1, u2, G3, u3⟩ := l4 hb3
    obtain ⟨q1, q2, q3, q4, q5, q6⟩ := hE2 u1
    obtain ⟨v1, v2⟩ := rr_pair hrp hrt u2 u3 q3 q4 q5 (p2 q1) p1
    obtain ⟨w1, w2, E4, w3, w4⟩ := rr_comp l3 hrp hrt l1.2.1 u2.2.2.2.2.2.2.1 v1 v2 m1 m2 m3
    exact ⟨_, E4, w3, w4, w2⟩
end
end
section
/-! recompress: the rounds -/
section
variable {f_maxRules f_maxLength f_letters f_ref f_room f_out f_head f_rootP f_rootT f_broken f_inLeft f_inRight f_size f_fresh f_blocking f_headBase f_headExp f_headMark f_tailBase f_tailExp f_tailCut f_tailMark : Int32} {a_used a_kinds a_partA a_partB a_lens a_begin a_popL a_popR a_need a_keyA a_keyB a_weight a_part a_remap a_hits a_span : Nat → Int32} {a_cur a_next : Nat → Int64}
variable {rp rt : Nat} {L0 : List Nat}
theorem rx_rc1 {post : SX → Prop} {d : Nat} {x2 : Int32} (h : post (f_maxRules, f_maxLength, f_letters, f_ref, f_room, f_out, f_head, f_rootP, f_rootT, f_broken, f_inLeft, f_inRight, f_size, f_fresh, f_blocking, f_headBase, f_headExp, f_headMark, f_tailBase, f_tailExp, f_tailCut, f_tailMark, a_used, a_kinds, a_partA, a_partB, a_lens, a_cur, a_next, a_begin, a_popL, a_popR, a_need, a_keyA, a_keyB, a_weight, a_part, a_remap, a_hits, a_span)) : wX_recompress_8 post (d + 1) 1 x2 f_maxRules f_maxLength f_letters f_ref f_room f_out f_head f_rootP f_rootT f_broken f_inLeft f_inRight f_size f_fresh f_blocking f_headBase f_headExp f_headMark f_tailBase f_tailExp f_tailCut f_tailMark a_used a_kinds a_partA a_partB a_lens a_cur a_next a_begin a_popL a_popR a_need a_keyA a_keyB a_weight a_part a_remap a_hits a_span := by
  have k : wX_recompress_95 post 1 f_maxRules f_maxLength f_letters f_ref f_room f_out f_head f_rootP f_rootT f_broken f_inLeft f_inRight f_size f_fresh f_blocking f_headBase f_headExp f_headMark f_tailBase f_tailExp f_tailCut f_tailMark a_used a_kinds a_partA a_partB a_lens a_cur a_next a_begin a_popL a_popR a_need a_keyA a_keyB a_weight a_part a_remap a_hits a_span := br_f (by decide) h
  exact br_c (fun _ => k) (fun _ => br_f (by decide) k)
theorem rf_fin {r n n1 : Nat} {b1 wt : Nat → Nat} {cur : Nat → Int64} {kA kB w pt pt0 : Nat → Int32} {E G PL PR : Nat → List Nat} (hrp : rp < 32) (hrt : rt < 32) (hdiff : b1 (rp + 1) - b1 rp = 1) (hRH : rg_RH r rp rt wt L0 E) (hTB : rs_TB true 0 n pt0 wt n1 kA kB w pt) (hD : ∀ y, y < 32 → rs_Dn (rs_R true pt0) (rs_dec true 0 kA kB) n1 rp rt G y (E y) (rc_sg cur (b1 y) (b1 (y + 1))) (PL y) (PR y)) : rf_FIN rp rt L0 b1 n1 cur kA kB w := by
  have hE : E rp ≠ [] := by
    obtain ⟨_, _, p, P', h1, _⟩ := hRH
    rw [h1]; exact fun z => by cases z
  have B := rk_of hTB
  obtain ⟨W1, W2, W3, W4, W5, W6⟩ := rk_Wof hrp hrt hTB hD hE
  dsimp only at W4
  have hb : b1 (rp + 1) = b1 rp + 1 := by omega
  have hC : rc_sg cur (b1 rp) (b1 (rp + 1)) = [rc_c cur (b1 rp)] := by
    rw [hb, rc_sg_snoc (Nat.le_refl _), rc_sg_nil (Nat.le_refl _)]; rfl
  have W1p := W1 rp hrp
  dsimp only at W1p
  rw [hC] at W1p W4
  have lc : rc_c cur (b1 rp) < n1 := rk_letter (W1p.1 _ (by simp)) (fun z hz => W4 z (by rw [hz]; rfl))
  have hG : G rp = [rc_c cur (b1 rp)] := by
    have := B.2.2.2.2.2.2.2.2.1
    rw [W1p.2.1, rs_fl_one, rs_cx_l (by omega)]
  refine ⟨n, wt, _, _, G, B, W1, lc, by omega, ?_⟩
  rw [← hRH.2.1, (W3 rp (Or.inl rfl)).1, hG, rs_mfl1, (W3 rt (Or.inr rfl)).1]
  exact ro_fin_eq (ok := fun t => t < n1) B.2.2.1 (B.2.2.1 _ lc) (G rt) 0 (fun t ht => (W1 rt hrt).2.2 t ht) (W3 rt (Or.inr rfl)).2
theorem rx_recompress_8 {post : SX → Prop} (hrp : rp < 32) (hrt : rt < 32) (hpt : rp ≠ rt)
    (K : ∀ (b : Nat → Nat) (n : Nat) (f_out' : Int32) (f_head' : Int32) (f_broken' : Int32) (f_fresh' : Int32) (f_blocking' : Int32) (f_headBase' : Int32) (f_headExp' : Int32) (f_headMark' : Int32) (f_tailBase' : Int32) (f_tailExp' : Int32) (f_tailCut' : Int32) (f_tailMark' : Int32) (a_cur' : Nat → Int64) (a_next' : Nat → Int64) (a_begin' : Nat → Int32) (a_popL' : Nat → Int32) (a_popR' : Nat → Int32) (a_keyA' : Nat → Int32) (a_keyB' : Nat → Int32) (a_weight' : Nat → Int32) (a_part' : Nat → Int32) (a_remap' : Nat → Int32), rg_W b a_cur' a_begin' → (f_broken' = 0 → rf_FIN rp rt L0 b n a_cur' a_keyA' a_keyB' a_weight') → post (f_maxRules, f_maxLength, f_letters, f_ref, f_room, f_out', f_head', nI rp, nI rt, f_broken', f_inLeft, f_inRight, nI n, f_fresh', f_blocking', f_headBase', f_headExp', f_headMark', f_tailBase', f_tailExp', f_tailCut', f_tailMark', a_used, a_kinds, a_partA, a_partB, a_lens, a_cur', a_next', a_begin', a_popL', a_popR', a_need, a_keyA', a_keyB', a_weight', a_part', a_remap', a_hits, a_span)) :
    ∀ (d r : Nat) (b : Nat → Nat) (n : Nat) (f_out' : Int32) (f_head' : Int32) (f_broken' : Int32) (f_fresh' : Int32) (f_blocking' : Int32) (f_headBase' : Int32) (f_headExp' : Int32) (f_headMark' : Int32) (f_tailBase' : Int32) (f_tailExp' : Int32) (f_tailCut' : Int32) (f_tailMark' : Int32) (a_cur' : Nat → Int64) (a_next' : Nat → Int64) (a_begin' : Nat → Int32) (a_popL' : Nat → Int32) (a_popR' : Nat → Int32) (a_keyA' : Nat → Int32) (a_keyB' : Nat → Int32) (a_weight' : Nat → Int32) (a_part' : Nat → Int32) (a_remap' : Nat → Int32), r + d = 64 → rg_W b a_cur' a_begin' → n ≤ 256 → (f_broken' = 0 → rf_RS r rp rt L0 b n a_cur' a_keyA' a_keyB' a_weight') →
    wX_recompress_8 post (d + 1) 0 (nI r) f_maxRules f_maxLength f_letters f_ref f_room f_out' f_head' (nI rp) (nI rt) f_broken' f_inLeft f_inRight (nI n) f_fresh' f_blocking' f_headBase' f_headExp' f_headMark' f_tailBase' f_tailExp' f_tailCut' f_tailMark' a_used a_kinds a_partA a_partB a_lens a_cur' a_next' a_begin' a_popL' a_popR' a_need a_keyA' a_keyB' a_weight' a_part' a_remap' a_hits a_span := by
  intro d
  induction d with
  | zero =>
    intro r b n f_out' f_head' f_broken' f_fresh' f_blocking' f_headBase' f_headExp' f_headMark' f_tailBase' f_tailExp' f_tailCut' f_tailMark' a_cur' a_next' a_begin' a_popL' a_popR' a_keyA' a_keyB' a_weight' a_part' a_remap' hrd hg hn hs
    refine pk_le 64 r (fun _ => ?_) (fun z => by omega)
    exact br_t rfl (K b n _ _ _ _ _ _ _ _ _ _ _ _ _ _ _ _ _ _ _ _ _ _ hg (fun hb => absurd hb (by decide)))
  | succ d ih =>
    intro r b n f_out' f_head' f_broken' f_fresh' f_blocking' f_headBase' f_headExp' f_headMark' f_tailBase' f_tailExp' f_tailCut' f_tailMark' a_cur' a_next' a_begin' a_popL' a_popR' a_keyA' a_keyB' a_weight' a_part' a_remap' hrd hg hn hs
    refine pk_le 64 r (fun z => by omega) (fun _ => br_t rfl (br_c (fun hb => ?_) (fun hb => ?_)))
    · obtain ⟨wt, E, r1, r2, r3⟩ := hs hb
      have hTB := rg_TB0 (pt := a_part') (pt0 := a_part') hn r3
      refine rx_sweep (bl := true) (fr := 0) (n0 := n) (wt := wt) (W := E) (b0 := b) (fun _ => rfl) (fun z => by cases z) hn hg hrp hrt (fun _ => ⟨hTB, fun x hx => ⟨(r1 x hx).1, (r1 x hx).2.1, ?_⟩⟩) (fun b1 n1 f_out'' f_head'' a_cur'' a_next'' a_begin'' a_popL'' a_popR'' f_broken'' a_keyA'' a_keyB'' a_weight'' a_part'' l1 l2 l3 l4 => ?_)
      · have := (r2.1 x hx).1
        omega
      · dsimp only
        have hle := l1.2.1 rp hrp
        rw [nI_1, nI_clamp (by omega), nI_clamp (by omega), l1.2.2.2.1 (rp + 1) (by omega), l1.2.2.2.1 rp (by omega), pk_sub hle]
        have hb1 := rg_b32 l1 (x := rp + 1) (by omega)
        refine ⟨vp_in_nI (by omega) (by omega), vp_in_nI (by omega) (by omega), pk_eq (b1 (rp + 1) - b1 rp) 1 (fun e => ?_) (fun e => ?_)⟩
        · unfold wX_recompress_60
          refine br_f (by decide) (nm_e (rx_rc1 (K b1 n1 _ _ _ _ _ _ _ _ _ _ _ _ _ _ _ _ _ _ _ _ _ _ l1 (fun hb2 => ?_))))
          obtain ⟨u1, u2, G, u3⟩ := l4 hb2
          exact rf_fin hrp hrt e r2 u2 u3
        · refine rx_round_rest (L0 := L0) (n0 := n) (wt := wt) (E := E) (PL := fun y => rs_pop (a_popL'' y)) (PR := fun y => rs_pop (a_popR'' y)) (pt0 := a_part') (by omega) hrp hrt hpt l1 l3 e (fun hb2 => ?_) (fun b' n' f_out''' f_head''' f_broken''' f_fresh'' f_blocking'' f_headBase'' f_headExp'' f_headMark'' f_tailBase'' f_tailExp'' f_tailCut'' f_tailMark'' a_cur''' a_next''' a_begin''' a_popL''' a_popR''' a_keyA''' a_keyB''' a_weight''' a_part''' a_remap'' q1 q2 q3 => ?_)
          · obtain ⟨u1, u2, u3⟩ := l4 hb2
            exact ⟨r2, u2, u3⟩
          · exact ih (r + 1) b' n' _ _ _ _ _ _ _ _ _ _ _ _ _ _ _ _ _ _ _ _ _ _ (by omega) q1 q2 q3
    · exact br_t rfl (K b n _ _ _ _ _ _ _ _ _ _ _ _ _ _ _ _ _ _ _ _ _ _ hg (fun hb => absurd hb (by decide)))
end
end
section
/-! load -/
def ri_V (us : Nat → Nat) (x : Nat) : Prop := x < 32 ∧ x % 16 < us (x / 16)
/-- the grammars as entered, and the strings of their symbols -/
def ri_GR (lt : Nat) (us : Nat → Nat) (E0 : Nat → List Nat) (kinds partA partB lens : Nat → Int32) : Prop :=
  lt ≤ 8 ∧ ∀ x, ri_V us x → (E0 x).length ≤ 512 ∧ E0 x ≠ [] ∧ lens x = nI (E0 x).length ∧ ((kinds x = 1 ∧ ∃ l, l < lt ∧ partA x = nI l ∧ E0 x = [l]) ∨ (kinds x = 2 ∧ ∃ p q, p < x % 16 ∧ q < x % 16 ∧ partA x = nI p ∧ partB x = nI q ∧ E0 x = E0 (x / 16 * 16 + p) ++ E0 (x / 16 * 16 + q)))
theorem ri_and16 : ∀ x, x < 32 → nI x &&& 16 = nI (x / 16 * 16) := by decide +kernel
def ri_ch (part : Nat → Int32) (x : Nat) : Nat := x / 16 * 16 + rp_n part x
def ri_x : Nat → Int32
  | 0 => -1
  | c + 1 => nI c
theorem ri_xm (c : Nat) : nI c + (-1) = ri_x c := by
  cases c with
  | zero => decide
  | succ c => exact pk_m1 c
theorem ri_chV {us : Nat → Nat} {x p : Nat} (hx : ri_V us x) (hp : p < x % 16) : ri_V us (x / 16 * 16 + p) ∧ x / 16 * 16 + p < x ∧ (x / 16 * 16 + p) / 16 = x / 16 := by
  obtain ⟨h1, h2⟩ := hx
  have h3 : (x / 16 * 16 + p) / 16 = x / 16 := by omega
  have h4 : (x / 16 * 16 + p) % 16 = p := by omega
  refine ⟨⟨by omega, ?_⟩, by omega, h3⟩
  rw [h3, h4]; omega
/-- what markNeeded leaves -/
def ri_N (us : Nat → Nat) (rp rt : Nat) (kinds partA partB need : Nat → Int32) (c : Nat) : Prop :=
  (∀ y, y < 32 → need y ≠ 0 → ri_V us y ∧ (y < 16 → y ≤ rp) ∧ (16 ≤ y → y ≤ rt)) ∧ need rp ≠ 0 ∧ need rt ≠ 0 ∧ (∀ y, c ≤ y → y < 32 → need y ≠ 0 → kinds y = 2 → need (ri_ch partA y) ≠ 0 ∧ need (ri_ch partB y) ≠ 0)
section
variable {f_maxRules f_maxLength f_letters f_ref f_room f_out f_head f_rootP f_rootT f_broken f_inLeft f_inRight f_size f_fresh f_blocking f_headBase f_headExp f_headMark f_tailBase f_tailExp f_tailCut f_tailMark : Int32} {a_used a_kinds a_partA a_partB a_lens a_begin a_popL a_popR a_need a_keyA a_keyB a_weight a_part a_remap a_hits a_span : Nat → Int32} {a_cur a_next : Nat → Int64}
variable {lt rp rt : Nat} {us : Nat → Nat} {E0 : Nat → List Nat}
theorem rx_mark_44 {post : SX → Prop} (hG : ri_GR lt us E0 a_kinds a_partA a_partB a_lens) (K : ∀ (a_need' : Nat → Int32), ri_N us rp rt a_kinds a_partA a_partB a_need' 0 → post (f_maxRules, f_maxLength, f_letters, f_ref, f_room, f_out, f_head, f_rootP, f_rootT, f_broken, f_inLeft, f_inRight, f_size, f_fresh, f_blocking, f_headBase, f_headExp, f_headMark, f_tailBase, f_tailExp, f_tailCut, f_tailMark, a_used, a_kinds, a_partA, a_partB, a_lens, a_cur, a_next, a_begin, a_popL, a_popR, a_need', a_keyA, a_keyB, a_weight, a_part, a_remap, a_hits, a_span)) : ∀ c (a_need' : Nat → Int32), c ≤ 32 → ri_N us rp rt a_kinds a_partA a_partB a_need' c → wX_markNeeded_44 post f_maxRules f_maxLength f_letters f_ref f_room f_out f_head f_rootP f_rootT f_broken f_inLeft f_inRight f_size f_fresh f_blocking f_headBase f_headExp f_headMark f_tailBase f_tailExp f_tailCut f_tailMark (c + 1) (ri_x c) a_used a_kinds a_partA a_partB a_lens a_cur a_next a_begin a_popL a_popR a_need' a_keyA a_keyB a_weight a_part a_remap a_hits a_span := by
  intro c
  induction c with
  | zero =>
    intro a_need' hc hN
    exact br_t (by decide) (K a_need' hN)
  | succ c ih =>
    intro a_need' hc hN
    refine br_f (nI_pos (by omega)) ?_
    have hv : vp_in (nI c) 32 := vp_in_nI (by omega) (by omega)
    show vp_in (nI c) 32 ∧ _
    rw [show ri_x (c + 1) = nI c from rfl, nI_clamp (by omega)]
    obtain ⟨n1, n2, n3, n4⟩ := hN
    refine ⟨hv, br_c (fun e => ?_) (fun e => ⟨hv, br_c (fun e2 => ?_) (fun e2 => ?_)⟩)⟩
    · refine nm_r (ri_xm c) (ih a_need' (by omega) ⟨n1, n2, n3, fun y h1 h2 h3 h4 => ?_⟩)
      by_cases q : y = c
      · subst q; exact absurd e h3
      · exact n4 y (by omega) h2 h3 h4
    · obtain ⟨v1, v2, v3⟩ := n1 c (by omega) e
      obtain ⟨g1, g2, g3, g4⟩ := hG.2 c v1
      rcases g4 with ⟨g5, _⟩ | ⟨g5, p, q, hp, hq, ep, eq, _⟩
      · rw [e2] at g5; exact absurd g5 (by decide)
      · obtain ⟨cp1, cp2, cp3⟩ := ri_chV v1 hp
        obtain ⟨cq1, cq2, cq3⟩ := ri_chV v1 hq
        have hcp : ri_ch a_partA c = c / 16 * 16 + p := by unfold ri_ch rp_n; rw [ep, nI_clamp (by omega)]
        have hcq : ri_ch a_partB c = c / 16 * 16 + q := by unfold ri_ch rp_n; rw [eq, nI_clamp (by omega)]
        rw [ep, eq, ri_and16 c (by omega), nI_add, nI_add, nI_clamp (by omega), nI_clamp (by omega)]
        refine ⟨hv, vp_in_nI (by omega) (by omega), nm_e ⟨hv, vp_in_nI (by omega) (by omega), nm_e (nm_r (ri_xm c) (ih _ (by omega) ?_))⟩⟩
        have n1v : vp_nar .boolean 1 = 1 := rfl
        rw [n1v]
        have up : ∀ y, a_need' y ≠ 0 → upd (upd a_need' (c / 16 * 16 + p) 1) (c / 16 * 16 + q) 1 y ≠ 0 := by
          intro y hy
          by_cases z1 : y = c / 16 * 16 + q
          · rw [z1, pk_us]; decide
          · rw [pk_un z1]
            by_cases z2 : y = c / 16 * 16 + p
            · rw [z2, pk_us]; decide
            · rw [pk_un z2]; exact hy
        have uq : upd (upd a_need' (c / 16 * 16 + p) 1) (c / 16 * 16 + q) 1 (c / 16 * 16 + q) ≠ 0 := by rw [pk_us]; decide
        have upp : upd (upd a_need' (c / 16 * 16 + p) 1) (c / 16 * 16 + q) 1 (c / 16 * 16 + p) ≠ 0 := by
          by_cases z1 : c / 16 * 16 + p = c / 16 * 16 + q
          · rw [z1, pk_us]; decide
          · rw [pk_un z1, pk_us]; decide
        refine ⟨fun y hy hne => ?_, up _ n2, up _ n3, fun y h1 h2 h3 h4 => ?_⟩
        · by_cases z1 : y = c / 16 * 16 + q
          · subst z1; exact ⟨cq1, fun z => by have := v2 (by omega); omega, fun z => by have := v3 (by omega); omega⟩
          · rw [pk_un z1] at hne
            by_cases z2 : y = c / 16 * 16 + p
            · subst z2; exact ⟨cp1, fun z => by have := v2 (by omega); omega, fun z => by have := v3 (by omega); omega⟩
            · rw [pk_un z2] at hne; exact n1 y hy hne
        · by_cases z : y = c
          · subst z
            rw [hcp, hcq]; exact ⟨upp, uq⟩
          · have hy0 : a_need' y ≠ 0 := by
              rw [pk_un (by omega), pk_un (by omega)] at h3; exact h3
            obtain ⟨w1, w2⟩ := n4 y (by omega) h2 hy0 h4
            exact ⟨up _ w1, up _ w2⟩
    · refine nm_r (ri_xm c) (ih a_need' (by omega) ⟨n1, n2, n3, fun y h1 h2 h3 h4 => ?_⟩)
      by_cases q : y = c
      · subst q; exact absurd h4 e2
      · exact n4 y (by omega) h2 h3 h4
theorem rx_mark_2 {post : SX → Prop} (hrp : rp < 16) (hrt : 16 ≤ rt) (hrt2 : rt < 32) (hP : ri_V us rp) (hT : ri_V us rt) (K : ∀ (a_need' : Nat → Int32), ri_N us rp rt a_kinds a_partA a_partB a_need' 32 → ∃ n44, wX_markNeeded_44 post f_maxRules f_maxLength f_letters f_ref f_room f_out f_head (nI rp) (nI rt) f_broken f_inLeft f_inRight f_size f_fresh f_blocking f_headBase f_headExp f_headMark f_tailBase f_tailExp f_tailCut f_tailMark n44 31 a_used a_kinds a_partA a_partB a_lens a_cur a_next a_begin a_popL a_popR a_need' a_keyA a_keyB a_weight a_part a_remap a_hits a_span) : ∀ d x (a_need' : Nat → Int32), x + d = 32 → (∀ y, y < x → a_need' y = if y = rp ∨ y = rt then 1 else 0) → wX_markNeeded_2 post f_maxRules f_maxLength f_letters f_ref f_room f_out f_head (nI rp) (nI rt) f_broken f_inLeft f_inRight f_size f_fresh f_blocking f_headBase f_headExp f_headMark f_tailBase f_tailExp f_tailCut f_tailMark (d + 1) (nI x) a_used a_kinds a_partA a_partB a_lens a_cur a_next a_begin a_popL a_popR a_need' a_keyA a_keyB a_weight a_part a_remap a_hits a_span := by
  intro d
  induction d with
  | zero =>
    intro x a_need' hx hN
    refine pk_le 32 x (fun _ => K a_need' ⟨fun y hy hne => ?_, ?_, ?_, fun y h1 h2 => by omega⟩) (fun z => by omega)
    · rw [hN y (by omega)] at hne
      by_cases q : y = rp ∨ y = rt
      · rcases q with q | q
        · subst q; exact ⟨hP, fun _ => Nat.le_refl _, fun z => by omega⟩
        · subst q; exact ⟨hT, fun z => by omega, fun _ => Nat.le_refl _⟩
      · rw [if_neg q] at hne; exact absurd rfl hne
    · rw [hN rp (by omega), if_pos (Or.inl rfl)]; decide
    · rw [hN rt (by omega), if_pos (Or.inr rfl)]; decide
  | succ d ih =>
    intro x a_need' hx hN
    refine pk_le 32 x (fun z => by omega) (fun _ => ?_)
    have hv : vp_in (nI x) 32 := vp_in_nI (by omega) (by omega)
    rw [nI_clamp (by omega)]
    have step : ∀ v : Int32, v = (if x = rp ∨ x = rt then 1 else 0) → ∀ y, y < x + 1 → upd a_need' x v y = if y = rp ∨ y = rt then 1 else 0 := by
      intro v hv y hy
      by_cases q : y = x
      · subst q; rw [pk_us]; exact hv
      · rw [pk_un q]; exact hN y (by omega)
    refine pk_eq x rp (fun q => ⟨hv, nm_e (nm_r (nI_1 x) (ih (x + 1) _ (by omega) (step _ ?_)))⟩) (fun q => pk_eq x rt (fun q2 => ⟨hv, nm_e (nm_r (nI_1 x) (ih (x + 1) _ (by omega) (step _ ?_)))⟩) (fun q2 => ⟨hv, nm_e (nm_r (nI_1 x) (ih (x + 1) _ (by omega) (step _ ?_)))⟩))
    · rw [if_pos (Or.inl q)]; rfl
    · rw [if_pos (Or.inr q2)]; rfl
    · rw [if_neg (by rintro (z | z) <;> omega)]; rfl
theorem rx_mark {post : SX → Prop} (hrp : rp < 16) (hrt : 16 ≤ rt) (hrt2 : rt < 32) (hP : ri_V us rp) (hT : ri_V us rt) (hG : ri_GR lt us E0 a_kinds a_partA a_partB a_lens) (K : ∀ (a_need' : Nat → Int32), ri_N us rp rt a_kinds a_partA a_partB a_need' 0 → post (f_maxRules, f_maxLength, f_letters, f_ref, f_room, f_out, f_head, nI rp, nI rt, f_broken, f_inLeft, f_inRight, f_size, f_fresh, f_blocking, f_headBase, f_headExp, f_headMark, f_tailBase, f_tailExp, f_tailCut, f_tailMark, a_used, a_kinds, a_partA, a_partB, a_lens, a_cur, a_next, a_begin, a_popL, a_popR, a_need', a_keyA, a_keyB, a_weight, a_part, a_remap, a_hits, a_span)) : wpX_markNeeded post (f_maxRules, f_maxLength, f_letters, f_ref, f_room, f_out, f_head, nI rp, nI rt, f_broken, f_inLeft, f_inRight, f_size, f_fresh, f_blocking, f_headBase, f_headExp, f_headMark, f_tailBase, f_tailExp, f_tailCut, f_tailMark, a_used, a_kinds, a_partA, a_partB, a_lens, a_cur, a_next, a_begin, a_popL, a_popR, a_need, a_keyA, a_keyB, a_weight, a_part, a_remap, a_hits, a_span) :=
  ⟨33, rx_mark_2 hrp hrt hrt2 hP hT (fun a_need' hN => ⟨33, rx_mark_44 hG K 32 a_need' (Nat.le_refl _) hN⟩) 32 0 a_need rfl (fun y hy => by omega)⟩
def ri_CL (kinds partA partB need : Nat → Int32) (y : Nat) : List Nat := if need y = 0 then [] else if kinds y = 1 then [rp_n partA y] else [256 + ri_ch partA y, 256 + ri_ch partB y]
theorem rx_loadRule {post : SX → Prop} {x h o n : Nat} {next0 : Nat → Int64} (hx : ri_V us x) (hG : ri_GR lt us E0 a_kinds a_partA a_partB a_lens) (hw : rs_Wk x h 0 next0 o n a_next) (K : ∀ (o' : Nat) (a_next' : Nat → Int64) (f_broken' : Int32), rs_Wk x h 0 next0 o' n a_next' → (f_broken' = 0 → f_broken = 0 ∧ rc_sg a_next' h o' = rc_sg a_next h o ++ (if a_kinds x = 1 then [rp_n a_partA x] else [256 + ri_ch a_partA x, 256 + ri_ch a_partB x])) → post (f_maxRules, f_maxLength, f_letters, f_ref, f_room, nI o', f_head, f_rootP, f_rootT, f_broken', f_inLeft, f_inRight, f_size, f_fresh, f_blocking, f_headBase, f_headExp, f_headMark, f_tailBase, f_tailExp, f_tailCut, f_tailMark, a_used, a_kinds, a_partA, a_partB, a_lens, a_cur, a_next', a_begin, a_popL, a_popR, a_need, a_keyA, a_keyB, a_weight, a_part, a_remap, a_hits, a_span)) : wpX_loadRule post (f_maxRules, f_maxLength, f_letters, f_ref, f_room, nI o, f_head, f_rootP, f_rootT, f_broken, f_inLeft, f_inRight, f_size, f_fresh, f_blocking, f_headBase, f_headExp, f_headMark, f_tailBase, f_tailExp, f_tailCut, f_tailMark, a_used, a_kinds, a_partA, a_partB, a_lens, a_cur, a_next, a_begin, a_popL, a_popR, a_need, a_keyA, a_keyB, a_weight, a_part, a_remap, a_hits, a_span) (nI x) := by
  unfold wpX_loadRule
  dsimp only
  have hx32 := hx.1
  have hv : vp_in (nI x) 32 := vp_in_nI hx32 (by omega)
  rw [nI_clamp (by omega)]
  have hlt := hG.1
  obtain ⟨g1, g2, g3, g4⟩ := hG.2 x hx
  refine ⟨hv, ?_⟩
  rcases g4 with ⟨g5, l, hl, el, _⟩ | ⟨g5, p, q, hp, hq, ep, eq, _⟩
  · refine br_t g5 ⟨hv, ?_⟩
    have e : rp_n a_partA x = l := by unfold rp_n; rw [el, nI_clamp (by omega)]
    rw [if_pos g5, e] at K
    rw [el]
    exact rx_app2 hx32 (by omega) hw K
  · have g6 : ¬ a_kinds x = 1 := by rw [g5]; decide
    refine br_f g6 ⟨hv, ?_⟩
    obtain ⟨cp1, cp2, cp3⟩ := ri_chV hx hp
    obtain ⟨cq1, cq2, cq3⟩ := ri_chV hx hq
    have hcp : ri_ch a_partA x = x / 16 * 16 + p := by unfold ri_ch rp_n; rw [ep, nI_clamp (by omega)]
    have hcq : ri_ch a_partB x = x / 16 * 16 + q := by unfold ri_ch rp_n; rw [eq, nI_clamp (by omega)]
    rw [if_neg g6, hcp, hcq] at K
    have e1 : (256 + (nI x &&& 16)) + a_partA x = nI (256 + (x / 16 * 16 + p)) := by
      rw [ri_and16 x hx32, ep, show (256 : Int32) = nI 256 from rfl, nI_add, nI_add, Nat.add_assoc]
    have e2 : (256 + (nI x &&& 16)) + a_partB x = nI (256 + (x / 16 * 16 + q)) := by
      rw [ri_and16 x hx32, eq, show (256 : Int32) = nI 256 from rfl, nI_add, nI_add, Nat.add_assoc]
    rw [e1]
    refine rx_app2 hx32 (by omega) hw (fun o' a_next' f_broken' k1 k2 => ?_)
    dsimp only
    rw [e2]
    refine ⟨hv, rx_app2 hx32 (by omega) k1 (fun o'' a_next'' f_broken'' l1 l2 => K o'' a_next'' f_broken'' l1 (fun hb => ?_))⟩
    obtain ⟨l3, l4⟩ := l2 hb
    obtain ⟨k3, k4⟩ := k2 l3
    refine ⟨k3, ?_⟩
    rw [l4, k4, List.append_assoc]; rfl
end
end
section
/-! load: all rules; recompress as a whole -/
/-- what was loaded is a grammar of the two strings -/
theorem ri_RS {lt rp rt : Nat} {us b : Nat → Nat} {E0 : Nat → List Nat} {kinds partA partB lens need kA kB w : Nat → Int32} {cur : Nat → Int64} (hrp : rp < 16) (hrt : 16 ≤ rt) (hrt2 : rt < 32) (hP : ri_V us rp) (hT : ri_V us rt) (hG : ri_GR lt us E0 kinds partA partB lens) (hN : ri_N us rp rt kinds partA partB need 0) (hC : ∀ y, y < 32 → rc_sg cur (b y) (b (y + 1)) = ri_CL kinds partA partB need y) (hk : ∀ i, i < lt → kA i = nI i ∧ kB i = 1 ∧ w i = 1) : rf_RS 0 rp rt (ro_L0 (E0 rp) (E0 rt)) b lt cur kA kB w := by
  obtain ⟨n1, n2, n3, n4⟩ := hN
  have En : ∀ y, need y ≠ 0 → (fun y => if need y = 0 then [] else E0 y) y = E0 y := fun y hy => if_neg hy
  have Ez : ∀ y, need y = 0 → (fun y => if need y = 0 then [] else E0 y) y = [] := fun y hy => if_pos hy
  have lets : ∀ N x, x < N → ri_V us x → ∀ i, i ∈ E0 x → i < lt := by
    intro N
    induction N with
    | zero => intro x hx; omega
    | succ N ih =>
      intro x hx hV i hi
      obtain ⟨g1, g2, g3, g4⟩ := hG.2 x hV
      rcases g4 with ⟨g5, l, hl, el, e0⟩ | ⟨g5, p, q, hp, hq, ep, eq, e0⟩
      · rw [e0, List.mem_singleton] at hi; omega
      · rw [e0] at hi
        obtain ⟨cp1, cp2, cp3⟩ := ri_chV hV hp
        obtain ⟨cq1, cq2, cq3⟩ := ri_chV hV hq
        rcases List.mem_append.mp hi with z | z
        · exact ih _ (by omega) cp1 i z
        · exact ih _ (by omega) cq1 i z
  refine ⟨fun _ => 1, fun y => if need y = 0 then [] else E0 y, fun x hx => ?_, ⟨fun x hx => ?_, ?_, ?_⟩, fun i hi => hk i hi⟩
  · dsimp only
    rw [hC x hx]
    unfold ri_CL
    by_cases q : need x = 0
    · rw [if_pos q, if_pos q]
      exact ⟨fun c hc => (by cases hc), rfl, fun i hi => (by cases hi)⟩
    · rw [if_neg q, if_neg q]
      obtain ⟨v1, v2, v3⟩ := n1 x hx q
      obtain ⟨g1, g2, g3, g4⟩ := hG.2 x v1
      have hlt := hG.1
      rcases g4 with ⟨g5, l, hl, el, e0⟩ | ⟨g5, p, r, hp, hr, ep, er, e0⟩
      · rw [if_pos g5, e0]
        have e : rp_n partA x = l := by unfold rp_n; rw [el, nI_clamp (by omega)]
        rw [e]
        refine ⟨fun c hc => ?_, ?_, fun i hi => ?_⟩
        · rw [List.mem_singleton] at hc; subst hc; exact Or.inl hl
        · rw [rs_fl_one, rs_cx_l (by omega)]
        · rw [List.mem_singleton] at hi; subst hi; exact hl
      · have g6 : ¬ kinds x = 1 := by rw [g5]; decide
        rw [if_neg g6]
        obtain ⟨m1, m2⟩ := n4 x (by omega) hx q g5
        obtain ⟨cp1, cp2, cp3⟩ := ri_chV v1 hp
        obtain ⟨cr1, cr2, cr3⟩ := ri_chV v1 hr
        have hcp : ri_ch partA x = x / 16 * 16 + p := by unfold ri_ch rp_n; rw [ep, nI_clamp (by omega)]
        have hcr : ri_ch partB x = x / 16 * 16 + r := by unfold ri_ch rp_n; rw [er, nI_clamp (by omega)]
        rw [hcp] at m1 ⊢
        rw [hcr] at m2 ⊢
        have cell : ∀ z, need z ≠ 0 → ri_V us z → z < x → z / 16 = x / 16 → rs_cell rp rt lt x (fun y => if need y = 0 then [] else E0 y) (256 + z) := by
          intro z h1 h2 h3 h4
          refine Or.inr ⟨z, rfl, h3, ?_, fun _ => by omega, ?_, ?_⟩
          · dsimp only
            rw [if_neg h1]; exact (hG.2 z h2).2.1
          · intro e
            have := v2 (by omega)
            omega
          · intro e
            have := v3 (by omega)
            omega
        refine ⟨fun c hc => ?_, ?_, fun i hi => lets (x + 1) x (by omega) v1 i hi⟩
        · rcases List.mem_cons.mp hc with z | z
          · rw [z]; exact cell _ m1 cp1 cp2 cp3
          · rw [List.mem_singleton] at z
            rw [z]; exact cell _ m2 cr1 cr2 cr3
        · rw [rs_fl_cons, rs_fl_one, rs_cx_r, rs_cx_r]
          rw [if_neg m1, if_neg m2]; exact e0
  · dsimp only
    rw [rl_sw_one]
    by_cases q : need x = 0
    · rw [if_pos q]; exact ⟨Nat.zero_le _, Nat.zero_le _⟩
    · rw [if_neg q]
      have := (hG.2 x (n1 x hx q).1).1
      exact ⟨by omega, this⟩
  · dsimp only
    rw [if_neg n2, if_neg n3, ro_L0_eq]
    have : (fun p => 0 + p) = (id : Nat → Nat) := by funext p; show 0 + p = p; omega
    rw [this, List.map_id]
  · dsimp only
    rw [if_neg n2]
    have := (hG.2 rp hP).2.1
    cases h : E0 rp with
    | nil => exact absurd h this
    | cons a l => exact ⟨a, l, rfl, by decide⟩
section
variable {f_maxRules f_maxLength f_letters f_ref f_room f_out f_head f_rootP f_rootT f_broken f_inLeft f_inRight f_size f_fresh f_blocking f_headBase f_headExp f_headMark f_tailBase f_tailExp f_tailCut f_tailMark : Int32} {a_used a_kinds a_partA a_partB a_lens a_begin a_popL a_popR a_need a_keyA a_keyB a_weight a_part a_remap a_hits a_span : Nat → Int32} {a_cur a_next : Nat → Int64}
variable {lt rp rt : Nat} {us : Nat → Nat} {E0 : Nat → List Nat}
def ri_LI (kinds partA partB need : Nat → Int32) (x : Nat) (b : Nat → Nat) (beg : Nat → Int32) (next : Nat → Int64) (br : Int32) : Prop :=
  b 0 = 0 ∧ (∀ y, y < x → b y ≤ b (y + 1)) ∧ b x ≤ 1024 ∧ (∀ y, y ≤ x → beg y = nI (b y)) ∧ (∀ y, y < x → ∀ k, b y ≤ k → k < b (y + 1) → rc_c next k < 256 + y) ∧ (br = 0 → ∀ y, y < x → rc_sg next (b y) (b (y + 1)) = ri_CL kinds partA partB need y)
theorem rx_load_61 {post : SX → Prop} (hG : ri_GR lt us E0 a_kinds a_partA a_partB a_lens) (hN : ∀ y, y < 32 → a_need y ≠ 0 → ri_V us y)
    (K : ∀ (b : Nat → Nat) (a_next' : Nat → Int64) (a_begin' : Nat → Int32) (f_broken' : Int32), ri_LI a_kinds a_partA a_partB a_need 32 b a_begin' a_next' f_broken' → ∀ (a_cur' : Nat → Int64), (∀ k, k < 1024 → rc_c a_cur' k = rc_c a_next' k) → post (f_maxRules, f_maxLength, f_letters, f_ref, f_room, nI (b 32), f_head, f_rootP, f_rootT, f_broken', f_inLeft, f_inRight, f_size, f_fresh, f_blocking, f_headBase, f_headExp, f_headMark, f_tailBase, f_tailExp, f_tailCut, f_tailMark, a_used, a_kinds, a_partA, a_partB, a_lens, a_cur', a_next', a_begin', a_popL, a_popR, a_need, a_keyA, a_keyB, a_weight, a_part, a_remap, a_hits, a_span)) :
    ∀ (d x : Nat) (b : Nat → Nat) (a_next' : Nat → Int64) (a_begin' : Nat → Int32) (f_broken' : Int32), x + d = 32 → ri_LI a_kinds a_partA a_partB a_need x b a_begin' a_next' f_broken' → wX_load_61 post (d + 1) (nI x) f_maxRules f_maxLength f_letters f_ref f_room (nI (b x)) f_head f_rootP f_rootT f_broken' f_inLeft f_inRight f_size f_fresh f_blocking f_headBase f_headExp f_headMark f_tailBase f_tailExp f_tailCut f_tailMark a_used a_kinds a_partA a_partB a_lens a_cur a_next' a_begin' a_popL a_popR a_need a_keyA a_keyB a_weight a_part a_remap a_hits a_span := by
  intro d
  induction d with
  | zero =>
    intro x b a_next' a_begin' f_broken' hx hI
    have e : x = 32 := by omega
    subst e
    refine pk_le 32 32 (fun _ => ?_) (fun z => by omega)
    exact rx_commit (fun cur' hc => K b a_next' a_begin' f_broken' hI cur' hc)
  | succ d ih =>
    intro x b a_next' a_begin' f_broken' hxd hI
    have hx : x < 32 := by omega
    obtain ⟨i1, i2, i3, i4, i5, i6⟩ := hI
    refine pk_le 32 x (fun z => by omega) (fun _ => ?_)
    have hv : vp_in (nI x) 32 := vp_in_nI hx (by omega)
    rw [nI_clamp (by omega)]
    have fin : ∀ (o' : Nat) (a_next'' : Nat → Int64) (f_broken'' : Int32), rs_Wk x (b x) 0 a_next' o' 0 a_next'' → (f_broken'' = 0 → f_broken' = 0 ∧ rc_sg a_next'' (b x) o' = ri_CL a_kinds a_partA a_partB a_need x) → wX_load_81 post (wX_load_61 post (d + 1)) (nI x) f_maxRules f_maxLength f_letters f_ref f_room (nI o') f_head f_rootP f_rootT f_broken'' f_inLeft f_inRight f_size f_fresh f_blocking f_headBase f_headExp f_headMark f_tailBase f_tailExp f_tailCut f_tailMark a_used a_kinds a_partA a_partB a_lens a_cur a_next'' a_begin' a_popL a_popR a_need a_keyA a_keyB a_weight a_part a_remap a_hits a_span := by
      intro o' a_next'' f_broken'' hw hs
      obtain ⟨w1, w2, w3, w4, w5, w6⟩ := hw
      unfold wX_load_81
      rw [nI_1, nI_clamp (by omega)]
      refine ⟨vp_in_nI (by omega) (by omega), nm_e (nm_e ?_)⟩
      have hbb : ∀ y, y ≤ x → (fun y => if y ≤ x then b y else o') y = b y := fun y hy => if_pos hy
      have hbs : (fun y => if y ≤ x then b y else o') (x + 1) = o' := if_neg (by omega)
      have := ih (x + 1) (fun y => if y ≤ x then b y else o') a_next'' (upd a_begin' (x + 1) (nI o')) f_broken'' (by omega) ⟨?_, fun y hy => ?_, ?_, fun y hy => ?_, fun y hy k z1 z2 => ?_, fun hb y hy => ?_⟩
      · rw [if_neg (by omega)] at this
        exact this
      · rw [hbb 0 (by omega)]; exact i1
      · rcases Nat.lt_or_ge y x with q | q
        · rw [hbb y (by omega), hbb (y + 1) (by omega)]; exact i2 y q
        · have : y = x := by omega
          subst this
          rw [hbb y (by omega), hbs]; exact w1
      · rw [hbs]; exact w2
      · rcases Nat.lt_or_ge x y with q | q
        · have : y = x + 1 := by omega
          subst this
          rw [pk_us, hbs]
        · rw [pk_un (by omega), hbb y q]; exact i4 y q
      · rcases Nat.lt_or_ge y x with q | q
        · rw [hbb y (by omega)] at z1
          rw [hbb (y + 1) (by omega)] at z2
          have hle := rg_le i2 (by omega : y + 1 ≤ x) (Nat.le_refl _)
          rw [w6 k (by omega)]
          exact i5 y q k z1 z2
        · have : y = x := by omega
          subst this
          rw [hbb y (by omega)] at z1
          rw [hbs] at z2
          exact w5 k z1 z2
      · obtain ⟨s1, s2⟩ := hs hb
        by_cases e : y = x
        · subst e
          rw [hbb y (by omega), hbs]
          exact s2
        · have hy' : y < x := by omega
          rw [hbb y (by omega), hbb (y + 1) (by omega), ← i6 s1 y hy']
          refine rc_sg_congr (fun k z1 z2 => w6 k ?_)
          have := rg_le i2 (by omega : y + 1 ≤ x) (Nat.le_refl _)
          omega
    have hw0 : rs_Wk x (b x) 0 a_next' (b x) 0 a_next' := ⟨Nat.le_refl _, i3, Nat.le_refl _, by omega, fun k z1 z2 => by omega, fun _ _ => rfl⟩
    refine ⟨hv, br_c (fun e => ?_) (fun e => ?_)⟩
    · refine fin (b x) a_next' f_broken' hw0 (fun hb => ⟨hb, ?_⟩)
      rw [rc_sg_nil (Nat.le_refl _)]
      unfold ri_CL
      rw [if_pos e]
    · refine rx_loadRule (hN x hx e) hG hw0 (fun o' a_next'' f_broken'' k1 k2 => fin o' a_next'' f_broken'' k1 (fun hb => ?_))
      obtain ⟨k3, k4⟩ := k2 hb
      refine ⟨k3, ?_⟩
      rw [k4, rc_sg_nil (Nat.le_refl _), List.nil_append]
      unfold ri_CL
      rw [if_neg e]
theorem rx_load_19 {post : SX → Prop} (hlt : lt ≤ 8) (K : ∀ (a_keyA' : Nat → Int32) (a_keyB' : Nat → Int32) (a_weight' : Nat → Int32), (∀ i, i < lt → a_keyA' i = nI i ∧ a_keyB' i = 1 ∧ a_weight' i = 1) → ∃ n61, wX_load_61 post n61 0 f_maxRules f_maxLength (nI lt) f_ref f_room 0 f_head f_rootP f_rootT f_broken f_inLeft f_inRight f_size f_fresh f_blocking f_headBase f_headExp f_headMark f_tailBase f_tailExp f_tailCut f_tailMark a_used a_kinds a_partA a_partB a_lens a_cur a_next a_begin a_popL a_popR a_need a_keyA' a_keyB' a_weight' a_part a_remap a_hits a_span) : ∀ d c (a_keyA' : Nat → Int32) (a_keyB' : Nat → Int32) (a_weight' : Nat → Int32), c + d = lt → (∀ i, i < c → a_keyA' i = nI i ∧ a_keyB' i = 1 ∧ a_weight' i = 1) → wX_load_19 post f_maxRules f_maxLength (nI lt) f_ref f_room f_out f_head f_rootP f_rootT f_broken f_inLeft f_inRight f_size f_fresh f_blocking f_headBase f_headExp f_headMark f_tailBase f_tailExp f_tailCut f_tailMark (d + 1) (nI c) a_used a_kinds a_partA a_partB a_lens a_cur a_next a_begin a_popL a_popR a_need a_keyA' a_keyB' a_weight' a_part a_remap a_hits a_span := by
  intro d
  induction d with
  | zero =>
    intro c a_keyA' a_keyB' a_weight' hc hk
    have e : c = lt := by omega
    subst e
    exact pk_le c c (fun _ => K a_keyA' a_keyB' a_weight' hk) (fun z => by omega)
  | succ d ih =>
    intro c a_keyA' a_keyB' a_weight' hc hk
    refine pk_le lt c (fun z => by omega) (fun _ => ?_)
    have hv : vp_in (nI c) 256 := vp_in_nI (by omega) (by omega)
    rw [nI_clamp (by omega)]
    refine ⟨hv, nm_e ⟨hv, nm_e ⟨hv, nm_e (nm_r (nI_1 c) (ih (c + 1) _ _ _ (by omega) (fun i hi => ?_)))⟩⟩⟩
    by_cases q : i = c
    · subst q; exact ⟨pk_us, pk_us, pk_us⟩
    · rw [pk_un q, pk_un q, pk_un q]; exact hk i (by omega)
theorem rx_load {post : SX → Prop} (hrp : rp < 16) (hrt : 16 ≤ rt) (hrt2 : rt < 32) (hP : ri_V us rp) (hT : ri_V us rt) (hG : ri_GR lt us E0 a_kinds a_partA a_partB a_lens) (hb0 : a_begin 0 = 0)
    (K : ∀ (b : Nat → Nat) (f_out' : Int32) (f_broken' : Int32) (a_need' : Nat → Int32) (a_keyA' : Nat → Int32) (a_keyB' : Nat → Int32) (a_weight' : Nat → Int32) (a_cur' : Nat → Int64) (a_next' : Nat → Int64) (a_begin' : Nat → Int32), rg_W b a_cur' a_begin' → (f_broken' = 0 → rf_RS 0 rp rt (ro_L0 (E0 rp) (E0 rt)) b lt a_cur' a_keyA' a_keyB' a_weight') → post (f_maxRules, f_maxLength, nI lt, f_ref, f_room, f_out', f_head, nI rp, nI rt, f_broken', f_inLeft, f_inRight, nI lt, f_fresh, f_blocking, f_headBase, f_headExp, f_headMark, f_tailBase, f_tailExp, f_tailCut, f_tailMark, a_used, a_kinds, a_partA, a_partB, a_lens, a_cur', a_next', a_begin', a_popL, a_popR, a_need', a_keyA', a_keyB', a_weight', a_part, a_remap, a_hits, a_span)) :
    wpX_load post (f_maxRules, f_maxLength, nI lt, f_ref, f_room, f_out, f_head, nI rp, nI rt, f_broken, f_inLeft, f_inRight, f_size, f_fresh, f_blocking, f_headBase, f_headExp, f_headMark, f_tailBase, f_tailExp, f_tailCut, f_tailMark, a_used, a_kinds, a_partA, a_partB, a_lens, a_cur, a_next, a_begin, a_popL, a_popR, a_need, a_keyA, a_keyB, a_weight, a_part, a_remap, a_hits, a_span) := by
  unfold wpX_load
  refine rx_mark (us := us) (lt := lt) (E0 := E0) hrp hrt hrt2 hP hT hG (fun a_need' hN => ?_)
  dsimp only
  refine ⟨lt + 1, rx_load_19 hG.1 (fun a_keyA' a_keyB' a_weight' hk => ⟨33, ?_⟩) lt 0 a_keyA a_keyB a_weight (by omega) (fun i hi => by omega)⟩
  refine rx_load_61 (us := us) (lt := lt) (E0 := E0) hG (fun y hy hne => (hN.1 y hy hne).1) (fun b a_next' a_begin' f_broken' hI cur' hc => ?_) 32 0 (fun _ => 0) a_next a_begin 0 rfl ⟨rfl, fun y hy => by omega, Nat.zero_le _, fun y hy => ?_, fun y hy => by omega, fun _ y hy => by omega⟩
  · obtain ⟨i1, i2, i3, i4, i5, i6⟩ := hI
    refine K b _ f_broken' a_need' a_keyA' a_keyB' a_weight' cur' a_next' a_begin' ⟨i1, i2, i3, i4, fun y hy k z1 z2 => ?_⟩ (fun hb => ?_)
    · have := rg_le i2 (by omega : y + 1 ≤ 32) (Nat.le_refl _)
      rw [hc k (by omega)]
      exact i5 y hy k z1 z2
    · refine ri_RS hrp hrt hrt2 hP hT hG hN (fun y hy => ?_) hk
      rw [← i6 hb y hy]
      exact rc_sg_congr (fun k z1 z2 => hc k (by have := rg_le i2 (by omega : y + 1 ≤ 32) (Nat.le_refl _); omega))
  · have : y = 0 := by omega
    subst this
    exact hb0
theorem rx_recompress {post : SX → Prop} (hrp : rp < 16) (hrt : 16 ≤ rt) (hrt2 : rt < 32) (hP : ri_V us rp) (hT : ri_V us rt) (hG : ri_GR lt us E0 a_kinds a_partA a_partB a_lens) (hb0 : a_begin 0 = 0)
    (K : ∀ (b : Nat → Nat) (n : Nat) (f_out' : Int32) (f_head' : Int32) (f_broken' : Int32) (f_fresh' : Int32) (f_blocking' : Int32) (f_headBase' : Int32) (f_headExp' : Int32) (f_headMark' : Int32) (f_tailBase' : Int32) (f_tailExp' : Int32) (f_tailCut' : Int32) (f_tailMark' : Int32) (a_cur' : Nat → Int64) (a_next' : Nat → Int64) (a_begin' : Nat → Int32) (a_popL' : Nat → Int32) (a_popR' : Nat → Int32) (a_need' : Nat → Int32) (a_keyA' : Nat → Int32) (a_keyB' : Nat → Int32) (a_weight' : Nat → Int32) (a_part' : Nat → Int32) (a_remap' : Nat → Int32), rg_W b a_cur' a_begin' → (f_broken' = 0 → rf_FIN rp rt (ro_L0 (E0 rp) (E0 rt)) b n a_cur' a_keyA' a_keyB' a_weight') → post (f_maxRules, f_maxLength, nI lt, f_ref, f_room, f_out', f_head', nI rp, nI rt, f_broken', f_inLeft, f_inRight, nI n, f_fresh', f_blocking', f_headBase', f_headExp', f_headMark', f_tailBase', f_tailExp', f_tailCut', f_tailMark', a_used, a_kinds, a_partA, a_partB, a_lens, a_cur', a_next', a_begin', a_popL', a_popR', a_need', a_keyA', a_keyB', a_weight', a_part', a_remap', a_hits, a_span)) :
    wpX_recompress post (f_maxRules, f_maxLength, nI lt, f_ref, f_room, f_out, f_head, nI rp, nI rt, f_broken, f_inLeft, f_inRight, f_size, f_fresh, f_blocking, f_headBase, f_headExp, f_headMark, f_tailBase, f_tailExp, f_tailCut, f_tailMark, a_used, a_kinds, a_partA, a_partB, a_lens, a_cur, a_next, a_begin, a_popL, a_popR, a_need, a_keyA, a_keyB, a_weight, a_part, a_remap, a_hits, a_span) := by
  unfold wpX_recompress
  refine rx_load (us := us) (lt := lt) (E0 := E0) hrp hrt hrt2 hP hT hG hb0 (fun b f_out' f_broken' a_need' a_keyA' a_keyB' a_weight' a_cur' a_next' a_begin' hg hs => ⟨65, ?_⟩)
  have hlt := hG.1
  refine rx_recompress_8 (L0 := ro_L0 (E0 rp) (E0 rt)) (by omega) hrt2 (by omega) (fun b' n f_out'' f_head' f_broken'' f_fresh' f_blocking' f_headBase' f_headExp' f_headMark' f_tailBase' f_tailExp' f_tailCut' f_tailMark' a_cur'' a_next'' a_begin'' a_popL' a_popR' a_keyA'' a_keyB'' a_weight'' a_part' a_remap' q1 q2 => ?_) 64 0 b lt _ _ _ _ _ _ _ _ _ _ _ _ _ _ _ _ _ _ _ _ _ _ rfl hg (by omega) hs
  exact K b' n _ _ _ _ _ _ _ _ _ _ _ _ _ _ _ _ _ _ _ _ _ _ _ q1 q2
end
end
section
/-! tally, descend -/
def rt_h (ka kb : Nat → Nat) (a m t : Nat) : Nat := if ka t = a ∧ m ≤ kb t then kb t - m + 1 else 0
def rt_s (wt ka kb : Nat → Nat) (t : Nat) : Nat := kb t * wt (ka t)
theorem rt_len {ka kb wt : Nat → Nat} {a m : Nat} : ∀ (l : List Nat) (s : Nat), (ro_fin ka kb wt a m l s).length = rl_sw (rt_h ka kb a m) l := by
  intro l
  induction l with
  | nil => intro s; rfl
  | cons t l ih =>
    intro s
    rw [rl_sw_cons, ← ih (s + kb t * wt (ka t))]
    show ((if ka t = a ∧ m ≤ kb t then (List.range (kb t - m + 1)).map (fun j => s + j * wt a) else []) ++ _).length = _
    rw [List.length_append]
    congr 1
    unfold rt_h
    by_cases q : ka t = a ∧ m ≤ kb t
    · rw [if_pos q, if_pos q, List.length_map, List.length_range]
    · rw [if_neg q, if_neg q]; rfl
section
variable {f_maxRules f_maxLength f_letters f_ref f_room f_out f_head f_rootP f_rootT f_broken f_inLeft f_inRight f_size f_fresh f_blocking f_headBase f_headExp f_headMark f_tailBase f_tailExp f_tailCut f_tailMark : Int32} {a_used a_kinds a_partA a_partB a_lens a_begin a_popL a_popR a_need a_keyA a_keyB a_weight a_part a_remap a_hits a_span : Nat → Int32} {a_cur a_next : Nat → Int64}
variable {rp rt n n0 a m : Nat} {b wt ka kb : Nat → Nat} {G : Nat → List Nat}
theorem rx_cellHits {post : Int32 → Prop} {x c : Nat} (hx : 16 ≤ x) (hx2 : x < 32) (hB : rk_B n0 n wt ka kb a_keyA a_keyB a_weight) (ha : a < 256) (hm : m ≤ 2 ^ 20) (hc : rs_cell rp rt n x G c) (hh : ∀ z, 16 ≤ z → z < x → a_hits z = nI (rl_sw (rt_h ka kb a m) (G z))) (h : post (nI (rl_sw (rt_h ka kb a m) (rs_cx G c)))) : wpX_cellHits post (f_maxRules, f_maxLength, f_letters, f_ref, f_room, f_out, f_head, f_rootP, f_rootT, f_broken, f_inLeft, f_inRight, f_size, f_fresh, f_blocking, nI a, nI m, f_headMark, f_tailBase, f_tailExp, f_tailCut, f_tailMark, a_used, a_kinds, a_partA, a_partB, a_lens, a_cur, a_next, a_begin, a_popL, a_popR, a_need, a_keyA, a_keyB, a_weight, a_part, a_remap, a_hits, a_span) (nI c) := by
  obtain ⟨B1, B2, B3, B4, B5, B6, B7, B8, B9, B10⟩ := hB
  unfold wpX_cellHits
  dsimp only
  rcases hc with hc | ⟨z, rfl, z1, z2, z3, _⟩
  · rw [rs_cx_l (by omega), rl_sw_cons, rl_sw_nil, Nat.add_zero] at h
    have hv : vp_in (nI c) 256 := vp_in_nI (by omega) (by omega)
    obtain ⟨k1, k2, k3⟩ := B4 c hc
    have k4 := B2 c
    have k5 := B1 c
    refine pk_lt c 256 (fun _ => ?_) (fun z => by omega)
    rw [nI_clamp (by omega), k1, k2]
    unfold rt_h at h
    refine ⟨hv, pk_eq (ka c) a (fun e1 => ⟨hv, pk_le m (kb c) (fun e2 => ⟨hv, ?_⟩) (fun e2 => ?_)⟩) (fun e1 => ?_)⟩
    · rw [if_pos ⟨e1, e2⟩] at h
      rw [pk_sub e2, nI_1]; exact h
    · rw [if_neg (fun z => by omega)] at h; exact h
    · rw [if_neg (fun z => e1 z.1)] at h; exact h
  · rw [rs_cx_r] at h
    refine pk_lt (256 + z) 256 (fun z => by omega) (fun _ => ?_)
    have esub : nI (256 + z) - 256 = nI z := by
      have := pk_sub (a := 256 + z) (b := 256) (by omega)
      rw [Nat.add_sub_cancel_left] at this
      exact this
    rw [esub, nI_clamp (by omega), hh z (z3 hx) z1]
    exact ⟨vp_in_nI (by omega) (by omega), h⟩
theorem rx_cellSpan {post : Int32 → Prop} {x c : Nat} (hx : 16 ≤ x) (hx2 : x < 32) (hB : rk_B n0 n wt ka kb a_keyA a_keyB a_weight) (hc : rs_cell rp rt n x G c) (hh : ∀ z, 16 ≤ z → z < x → a_span z = nI (rl_sw (rt_s wt ka kb) (G z))) (h : post (nI (rl_sw (rt_s wt ka kb) (rs_cx G c)))) : wpX_cellSpan post (f_maxRules, f_maxLength, f_letters, f_ref, f_room, f_out, f_head, f_rootP, f_rootT, f_broken, f_inLeft, f_inRight, f_size, f_fresh, f_blocking, f_headBase, f_headExp, f_headMark, f_tailBase, f_tailExp, f_tailCut, f_tailMark, a_used, a_kinds, a_partA, a_partB, a_lens, a_cur, a_next, a_begin, a_popL, a_popR, a_need, a_keyA, a_keyB, a_weight, a_part, a_remap, a_hits, a_span) (nI c) := by
  obtain ⟨B1, B2, B3, B4, B5, B6, B7, B8, B9, B10⟩ := hB
  unfold wpX_cellSpan
  dsimp only
  rcases hc with hc | ⟨z, rfl, z1, z2, z3, _⟩
  · rw [rs_cx_l (by omega), rl_sw_cons, rl_sw_nil, Nat.add_zero] at h
    refine pk_lt c 256 (fun _ => ⟨vp_in_nI (by omega) (by omega), ?_⟩) (fun z => by omega)
    rw [nI_clamp (by omega), B6 c hc]; exact h
  · rw [rs_cx_r] at h
    refine pk_lt (256 + z) 256 (fun z => by omega) (fun _ => ?_)
    have esub : nI (256 + z) - 256 = nI z := by
      have := pk_sub (a := 256 + z) (b := 256) (by omega)
      rw [Nat.add_sub_cancel_left] at this
      exact this
    rw [esub, nI_clamp (by omega), hh z (z3 hx) z1]
    exact ⟨vp_in_nI (by omega) (by omega), h⟩
def rt_I (wt ka kb : Nat → Nat) (a m : Nat) (G : Nat → List Nat) (hits span : Nat → Int32) (x : Nat) : Prop := ∀ z, 16 ≤ z → z < x → hits z = nI (rl_sw (rt_h ka kb a m) (G z)) ∧ span z = nI (rl_sw (rt_s wt ka kb) (G z))
theorem rx_tally_64 {post : SX → Prop} {J : Int32 → (Nat → Int32) → (Nat → Int32) → (Nat → Int32) → (Nat → Int32) → (Nat → Int32) → (Nat → Int64) → (Nat → Int64) → (Nat → Int32) → (Nat → Int32) → (Nat → Int32) → (Nat → Int32) → (Nat → Int32) → (Nat → Int32) → (Nat → Int32) → (Nat → Int32) → (Nat → Int32) → (Nat → Int32) → (Nat → Int32) → Prop} {x : Nat} (hx : 16 ≤ x) (hx2 : x < 32) (hg : rg_W b a_cur a_begin) (hB : rk_B n0 n wt ka kb a_keyA a_keyB a_weight) (hG : rg_G rp rt n (fun x => rc_sg a_cur (b x) (b (x + 1))) G) (ha : a < 256) (hm : m ≤ 2 ^ 20)
    (K : ∀ (a_hits' : Nat → Int32) (a_span' : Nat → Int32), rt_I wt ka kb a m G a_hits' a_span' (x + 1) → J (nI (x + 1)) a_used a_kinds a_partA a_partB a_lens a_cur a_next a_begin a_popL a_popR a_need a_keyA a_keyB a_weight a_part a_remap a_hits' a_span') :
    ∀ d k (a_hits' : Nat → Int32) (a_span' : Nat → Int32), k + d = b (x + 1) → b x ≤ k → rt_I wt ka kb a m G a_hits' a_span' x → a_hits' x = nI (rl_sw (rt_h ka kb a m) (rs_fl G (rc_sg a_cur (b x) k))) → a_span' x = nI (rl_sw (rt_s wt ka kb) (rs_fl G (rc_sg a_cur (b x) k))) → wX_tally_64 post J (nI x) f_maxRules f_maxLength f_letters f_ref f_room f_out f_head f_rootP f_rootT f_broken f_inLeft f_inRight f_size f_fresh f_blocking (nI a) (nI m) f_headMark f_tailBase f_tailExp f_tailCut f_tailMark (d + 1) (nI k) a_used a_kinds a_partA a_partB a_lens a_cur a_next a_begin a_popL a_popR a_need a_keyA a_keyB a_weight a_part a_remap a_hits' a_span' := by
  have hb1 := rg_b32 hg (x := x + 1) (by omega)
  have hbg := hg.2.2.2.1 (x + 1) (by omega)
  intro d
  induction d with
  | zero =>
    intro k a_hits' a_span' hk hbk hI h1 h2
    have e : k = b (x + 1) := by omega
    subst e
    refine ⟨by rw [nI_1]; exact vp_in_nI (by omega) (by omega), ?_⟩
    rw [nI_1, nI_clamp (by omega), hbg]
    refine pk_le (b (x + 1)) (b (x + 1)) (fun _ => nm_e (K a_hits' a_span' (fun z z1 z2 => ?_))) (fun z => by omega)
    by_cases q : z = x
    · subst q
      have := (hG z hx2).2.1
      dsimp only at this
      rw [this]; exact ⟨h1, h2⟩
    · exact hI z z1 (by omega)
  | succ d ih =>
    intro k a_hits' a_span' hk hbk hI h1 h2
    refine ⟨by rw [nI_1]; exact vp_in_nI (by omega) (by omega), ?_⟩
    rw [nI_1 x, nI_clamp (n := x + 1) (by omega), hbg, nI_clamp (n := x) (by omega)]
    refine pk_le (b (x + 1)) k (fun z => by omega) (fun _ => rx_get (by omega) ?_)
    have hv : vp_in (nI x) 32 := vp_in_nI (by omega) (by omega)
    have hc := (hG x hx2).1 _ (rc_sg_in hbk (by omega : k < b (x + 1)))
    have e0 : rs_fl G (rc_sg a_cur (b x) (k + 1)) = rs_fl G (rc_sg a_cur (b x) k) ++ rs_cx G (rc_c a_cur k) := by
      rw [rc_sg_snoc hbk, rs_fl_app, rs_fl_one]
    refine ⟨hv, rx_cellHits hx hx2 hB ha hm hc (fun z z1 z2 => (hI z z1 z2).1) ⟨hv, nm_e ⟨hv, rx_cellSpan hx hx2 hB hc (fun z z1 z2 => (hI z z1 z2).2) ⟨hv, nm_e (nm_r (nI_1 k) ?_)⟩⟩⟩⟩
    refine ih (k + 1) _ _ (by omega) (by omega) (fun z z1 z2 => ?_) ?_ ?_
    · rw [pk_un (by omega), pk_un (by omega)]; exact hI z z1 z2
    · rw [pk_us, h1, nI_add, e0, rl_sw_app]
    · rw [pk_us, h2, nI_add, e0, rl_sw_app]
theorem rx_tally_37 {post : SX → Prop} (hg : rg_W b a_cur a_begin) (hB : rk_B n0 n wt ka kb a_keyA a_keyB a_weight) (hG : rg_G rp rt n (fun x => rc_sg a_cur (b x) (b (x + 1))) G) (ha : a < 256) (hm : m ≤ 2 ^ 20)
    (K : ∀ (a_hits' : Nat → Int32) (a_span' : Nat → Int32), rt_I wt ka kb a m G a_hits' a_span' 32 → post (f_maxRules, f_maxLength, f_letters, f_ref, f_room, f_out, f_head, f_rootP, f_rootT, f_broken, f_inLeft, f_inRight, f_size, f_fresh, f_blocking, nI a, nI m, f_headMark, f_tailBase, f_tailExp, f_tailCut, f_tailMark, a_used, a_kinds, a_partA, a_partB, a_lens, a_cur, a_next, a_begin, a_popL, a_popR, a_need, a_keyA, a_keyB, a_weight, a_part, a_remap, a_hits', a_span')) :
    ∀ d x (a_hits' : Nat → Int32) (a_span' : Nat → Int32), x + d = 32 → 16 ≤ x → rt_I wt ka kb a m G a_hits' a_span' x → wX_tally_37 post f_maxRules f_maxLength f_letters f_ref f_room f_out f_head f_rootP f_rootT f_broken f_inLeft f_inRight f_size f_fresh f_blocking (nI a) (nI m) f_headMark f_tailBase f_tailExp f_tailCut f_tailMark (d + 1) (nI x) a_used a_kinds a_partA a_partB a_lens a_cur a_next a_begin a_popL a_popR a_need a_keyA a_keyB a_weight a_part a_remap a_hits' a_span' := by
  intro d
  induction d with
  | zero =>
    intro x a_hits' a_span' hx h16 hI
    have e : x = 32 := by omega
    subst e
    exact pk_le 32 32 (fun _ => K a_hits' a_span' hI) (fun z => by omega)
  | succ d ih =>
    intro x a_hits' a_span' hx h16 hI
    refine pk_le 32 x (fun z => by omega) (fun _ => ?_)
    have hv : vp_in (nI x) 32 := vp_in_nI (by omega) (by omega)
    have hle := hg.2.1 x (by omega)
    rw [nI_clamp (by omega)]
    refine ⟨hv, nm_e ⟨hv, nm_e ⟨vp_in_nI (by omega) (by omega), nm_r (hg.2.2.2.1 x (by omega)) ⟨b (x + 1) - b x + 1, ?_⟩⟩⟩⟩
    refine rx_tally_64 h16 (by omega) hg hB hG ha hm (fun a_hits'' a_span'' q => ih (x + 1) _ _ (by omega) (by omega) q) (b (x + 1) - b x) (b x) _ _ (by omega) (Nat.le_refl _) (fun z z1 z2 => ?_) ?_ ?_
    · rw [pk_un (by omega), pk_un (by omega)]; exact hI z z1 z2
    · rw [pk_us, rc_sg_nil (Nat.le_refl _)]; rfl
    · rw [pk_us, rc_sg_nil (Nat.le_refl _)]; rfl
theorem rx_tally {post : SX → Prop} (hrp : rp < 32) (hg : rg_W b a_cur a_begin) (hB : rk_B n0 n wt ka kb a_keyA a_keyB a_weight) (hG : rg_G rp rt n (fun x => rc_sg a_cur (b x) (b (x + 1))) G) (hc : rc_c a_cur (b rp) < n) (hne : b rp < 1024)
    (K : ∀ (a_hits' : Nat → Int32) (a_span' : Nat → Int32), rt_I wt ka kb (ka (rc_c a_cur (b rp))) (kb (rc_c a_cur (b rp))) G a_hits' a_span' 32 → post (f_maxRules, f_maxLength, f_letters, f_ref, f_room, f_out, f_head, nI rp, f_rootT, f_broken, f_inLeft, f_inRight, f_size, f_fresh, f_blocking, nI (ka (rc_c a_cur (b rp))), nI (kb (rc_c a_cur (b rp))), f_headMark, f_tailBase, f_tailExp, f_tailCut, f_tailMark, a_used, a_kinds, a_partA, a_partB, a_lens, a_cur, a_next, a_begin, a_popL, a_popR, a_need, a_keyA, a_keyB, a_weight, a_part, a_remap, a_hits', a_span')) : wpX_tally post (f_maxRules, f_maxLength, f_letters, f_ref, f_room, f_out, f_head, nI rp, f_rootT, f_broken, f_inLeft, f_inRight, f_size, f_fresh, f_blocking, f_headBase, f_headExp, f_headMark, f_tailBase, f_tailExp, f_tailCut, f_tailMark, a_used, a_kinds, a_partA, a_partB, a_lens, a_cur, a_next, a_begin, a_popL, a_popR, a_need, a_keyA, a_keyB, a_weight, a_part, a_remap, a_hits, a_span) := by
  obtain ⟨B1, B2, B3, B4, B5, B6, B7, B8, B9, B10⟩ := id hB
  unfold wpX_tally
  dsimp only
  rw [nI_clamp (by omega), hg.2.2.2.1 rp (by omega)]
  refine ⟨vp_in_nI (by omega) (by omega), rx_get hne ?_⟩
  have hv : vp_in (nI (rc_c a_cur (b rp))) 256 := vp_in_nI (by omega) (by omega)
  rw [nI_clamp (by omega)]
  obtain ⟨k1, k2, k3⟩ := B4 _ hc
  refine ⟨hv, nm_r k1 ⟨hv, nm_r k2 ⟨17, ?_⟩⟩⟩
  exact rx_tally_37 hg hB hG (B1 _) (B2 _) K 16 16 _ _ rfl (Nat.le_refl _) (fun z z1 z2 => by omega)
end
end
section
/-! descend -/
section
variable {f_maxRules f_maxLength f_letters f_ref f_room f_out f_head f_rootP f_rootT f_broken f_inLeft f_inRight f_size f_fresh f_blocking f_headBase f_headExp f_headMark f_tailBase f_tailExp f_tailCut f_tailMark : Int32} {a_used a_kinds a_partA a_partB a_lens a_begin a_popL a_popR a_need a_keyA a_keyB a_weight a_part a_remap a_hits a_span : Nat → Int32} {a_cur a_next : Nat → Int64}
variable {rp rt n n0 a m : Nat} {b wt ka kb : Nat → Nat} {G : Nat → List Nat}
theorem rt_one {ka kb wt : Nat → Nat} {a m c s q v : Nat} (h : (ro_fin ka kb wt a m [c] s)[q]? = some v) : v = s + q * wt a := by
  have e : ro_fin ka kb wt a m [c] s = if ka c = a ∧ m ≤ kb c then (List.range (kb c - m + 1)).map (fun j => s + j * wt a) else [] := by
    show (if ka c = a ∧ m ≤ kb c then (List.range (kb c - m + 1)).map (fun j => s + j * wt a) else []) ++ [] = _
    rw [List.append_nil]
  rw [e] at h
  by_cases z : ka c = a ∧ m ≤ kb c
  · rw [if_pos z, List.getElem?_map] at h
    rcases Nat.lt_or_ge q (kb c - m + 1) with z2 | z2
    · rw [List.getElem?_range z2] at h
      cases h; rfl
    · rw [List.getElem?_eq_none (by rw [List.length_range]; omega)] at h
      cases h
  · rw [if_neg z] at h
    cases h
theorem rx_descend_64 {post : Int32 → Prop} {J : Int32 → Int32 → Int32 → Int32 → Prop} {x dep v : Nat} (hx : 16 ≤ x) (hx2 : x < 32) (hg : rg_W b a_cur a_begin) (hB : rk_B n0 n wt ka kb a_keyA a_keyB a_weight) (hG : rg_G rp rt n (fun x => rc_sg a_cur (b x) (b (x + 1))) G) (ha : a < 256) (hm : m ≤ 2 ^ 20) (hI : rt_I wt ka kb a m G a_hits a_span 32)
    (hJ : ∀ c q s, rs_cell rp rt n x G c → (ro_fin ka kb wt a m (rs_cx G c) s)[q]? = some v → rl_sw (rt_h ka kb a m) (rs_cx G c) ≤ 2 ^ 20 → J (nI q) (nI s) (nI c) (nI (dep + 1))) :
    ∀ d j q s, j + 1 + d = b (x + 1) → b x ≤ j → (ro_fin ka kb wt a m (rs_fl G (rc_sg a_cur j (b (x + 1)))) s)[q]? = some v → rl_sw (rt_h ka kb a m) (rs_fl G (rc_sg a_cur j (b (x + 1)))) ≤ 2 ^ 20 → wX_descend_64 post J (nI dep) (nI x) f_maxRules f_maxLength f_letters f_ref f_room f_out f_head f_rootP f_rootT f_broken f_inLeft f_inRight f_size f_fresh f_blocking (nI a) (nI m) f_headMark f_tailBase f_tailExp f_tailCut f_tailMark a_used a_kinds a_partA a_partB a_lens a_cur a_next a_begin a_popL a_popR a_need a_keyA a_keyB a_weight a_part a_remap a_hits a_span (d + 1) (nI q) (nI s) (nI (rc_c a_cur j)) (nI (j + 1)) := by
  have hb1 := rg_b32 hg (x := x + 1) (by omega)
  have hbg := hg.2.2.2.1 (x + 1) (by omega)
  have hh : ∀ z, 16 ≤ z → z < x → a_hits z = nI (rl_sw (rt_h ka kb a m) (G z)) := fun z z1 z2 => (hI z z1 (by omega)).1
  have hsp : ∀ z, 16 ≤ z → z < x → a_span z = nI (rl_sw (rt_s wt ka kb) (G z)) := fun z z1 z2 => (hI z z1 (by omega)).2
  intro d
  induction d with
  | zero =>
    intro j q s hj hbj hq hw
    refine ⟨by rw [nI_1]; exact vp_in_nI (by omega) (by omega), ?_⟩
    rw [nI_1 x, nI_clamp (n := x + 1) (by omega), hbg]
    have hc := (hG x hx2).1 _ (rc_sg_in hbj (by omega : j < b (x + 1)))
    have e : rc_sg a_cur j (b (x + 1)) = [rc_c a_cur j] := by
      rw [← hj, Nat.add_zero, rc_sg_snoc (Nat.le_refl _), rc_sg_nil (Nat.le_refl _)]; rfl
    rw [e, rs_fl_one] at hq hw
    exact pk_le (b (x + 1)) (j + 1) (fun _ => nm_r (nI_1 dep) (hJ _ q s hc hq hw)) (fun z => by omega)
  | succ d ih =>
    intro j q s hj hbj hq hw
    refine ⟨by rw [nI_1]; exact vp_in_nI (by omega) (by omega), ?_⟩
    rw [nI_1 x, nI_clamp (n := x + 1) (by omega), hbg]
    have hc := (hG x hx2).1 _ (rc_sg_in hbj (by omega : j < b (x + 1)))
    have e : rc_sg a_cur j (b (x + 1)) = rc_c a_cur j :: rc_sg a_cur (j + 1) (b (x + 1)) := rc_sg_cons (by omega)
    rw [e, rs_fl_cons] at hq hw
    rw [rl_sw_app] at hw
    rw [ro_fin_app] at hq
    refine pk_le (b (x + 1)) (j + 1) (fun z => by omega) (fun _ => ?_)
    have hql : q < 2 ^ 21 := by
      have h1 := List.getElem?_eq_some_iff.mp hq
      obtain ⟨h2, _⟩ := h1
      rw [List.length_append, rt_len, rt_len] at h2
      omega
    refine rx_cellHits hx hx2 hB ha hm hc hh (pk_lt q (rl_sw (rt_h ka kb a m) (rs_cx G (rc_c a_cur j))) (fun hlt => ?_) (fun hge => ?_))
    · refine nm_r (nI_1 dep) (hJ _ q s hc ?_ (by omega))
      rw [List.getElem?_append_left (by rw [rt_len]; exact hlt)] at hq
      exact hq
    · refine rx_cellHits hx hx2 hB ha hm hc hh (nm_r (pk_sub hge) (rx_cellSpan hx hx2 hB hc hsp (nm_r (nI_add _ _) (rx_get (by omega) (nm_r (nI_1 _) ?_)))))
      refine ih (j + 1) _ _ (by omega) (by omega) ?_ (by omega)
      rw [List.getElem?_append_right (by rw [rt_len]; exact hge), rt_len] at hq
      exact hq
theorem rx_descend_17 {post : Int32 → Prop} {v : Nat} (hg : rg_W b a_cur a_begin) (hB : rk_B n0 n wt ka kb a_keyA a_keyB a_weight) (hG : rg_G rp rt n (fun x => rc_sg a_cur (b x) (b (x + 1))) G) (ha : a < n0) (hm : m ≤ 2 ^ 20) (hI : rt_I wt ka kb a m G a_hits a_span 32) (hp : post (nI v)) :
    ∀ f dep c q s, f + dep = 16 → (c < n ∨ ∃ x, c = 256 + x ∧ 16 ≤ x ∧ x < 32 ∧ dep + x ≤ 31) → (ro_fin ka kb wt a m (rs_cx G c) s)[q]? = some v → rl_sw (rt_h ka kb a m) (rs_cx G c) ≤ 2 ^ 20 → wX_descend_17 post f_maxRules f_maxLength f_letters f_ref f_room f_out f_head f_rootP f_rootT f_broken f_inLeft f_inRight f_size f_fresh f_blocking (nI a) (nI m) f_headMark f_tailBase f_tailExp f_tailCut f_tailMark a_used a_kinds a_partA a_partB a_lens a_cur a_next a_begin a_popL a_popR a_need a_keyA a_keyB a_weight a_part a_remap a_hits a_span (f + 1) (nI q) (nI s) (nI c) (nI dep) := by
  obtain ⟨B1, B2, B3, B4, B5, B6, B7, B8, B9, B10⟩ := id hB
  have letter : ∀ c q s, c < n → (ro_fin ka kb wt a m (rs_cx G c) s)[q]? = some v → wX_descend_126 post (nI q) (nI s) f_maxRules f_maxLength f_letters f_ref f_room f_out f_head f_rootP f_rootT f_broken f_inLeft f_inRight f_size f_fresh f_blocking (nI a) (nI m) f_headMark f_tailBase f_tailExp f_tailCut f_tailMark a_used a_kinds a_partA a_partB a_lens a_cur a_next a_begin a_popL a_popR a_need a_keyA a_keyB a_weight a_part a_remap a_hits a_span := by
    intro c q s hc hq
    rw [rs_cx_l (by omega)] at hq
    have e := rt_one hq
    unfold wX_descend_126
    rw [nI_clamp (by omega), B5 a ha, pk_mul, nI_add, ← e]
    exact ⟨vp_in_nI (by omega) (by omega), hp⟩
  intro f
  induction f with
  | zero =>
    intro dep c q s hf hc hq hw
    rcases hc with hc | ⟨x, rfl, h1, h2, h3⟩
    · exact pk_le 16 dep (fun _ => letter c q s hc hq) (fun z => by omega)
    · omega
  | succ f ih =>
    intro dep c q s hf hc hq hw
    rcases hc with hc | ⟨x, rfl, h1, h2, h3⟩
    · exact pk_le 16 dep (fun _ => letter c q s hc hq) (fun _ => pk_lt c 256 (fun _ => letter c q s hc hq) (fun z => by omega))
    · refine pk_le 16 dep (fun z => by omega) (fun _ => pk_lt (256 + x) 256 (fun z => by omega) (fun _ => ?_))
      have esub : nI (256 + x) - 256 = nI x := by
        have := pk_sub (a := 256 + x) (b := 256) (by omega)
        rw [Nat.add_sub_cancel_left] at this
        exact this
      refine nm_r esub ?_
      have g2 := (hG x h2).2.1
      dsimp only at g2
      rw [rs_cx_r, g2] at hq hw
      have hne : b x < b (x + 1) := by
        rcases Nat.lt_or_ge (b x) (b (x + 1)) with z | z
        · exact z
        · rw [rc_sg_nil z, rs_fl_nil] at hq
          cases hq
      have hb1 := rg_b32 hg (x := x + 1) (by omega)
      rw [nI_clamp (by omega), hg.2.2.2.1 x (by omega)]
      refine ⟨vp_in_nI (by omega) (by omega), rx_get (by omega) ⟨vp_in_nI (by omega) (by omega), nm_r (nI_1 (b x)) ⟨b (x + 1) - b x - 1 + 1, ?_⟩⟩⟩
      refine rx_descend_64 (v := v) h1 h2 hg hB hG (by omega) hm hI (fun c' q' s' k1 k2 k3 => ih (dep + 1) c' q' s' (by omega) ?_ k2 k3) (b (x + 1) - b x - 1) (b x) q s (by omega) (Nat.le_refl _) hq hw
      rcases k1 with k1 | ⟨z, k1, k4, k5, k6, _⟩
      · exact Or.inl k1
      · exact Or.inr ⟨z, k1, k6 h1, by omega, by omega⟩
theorem rx_descend {post : Int32 → Prop} {q v : Nat} (hrt : 16 ≤ rt) (hrt2 : rt < 32) (hg : rg_W b a_cur a_begin) (hB : rk_B n0 n wt ka kb a_keyA a_keyB a_weight) (hG : rg_G rp rt n (fun x => rc_sg a_cur (b x) (b (x + 1))) G) (ha : a < n0) (hm : m ≤ 2 ^ 20) (hI : rt_I wt ka kb a m G a_hits a_span 32) (hq : (ro_fin ka kb wt a m (G rt) 0)[q]? = some v) (hl : (ro_fin ka kb wt a m (G rt) 0).length ≤ 2 ^ 20) (hp : post (nI v)) : wpX_descend post (f_maxRules, f_maxLength, f_letters, f_ref, f_room, f_out, f_head, f_rootP, nI rt, f_broken, f_inLeft, f_inRight, f_size, f_fresh, f_blocking, nI a, nI m, f_headMark, f_tailBase, f_tailExp, f_tailCut, f_tailMark, a_used, a_kinds, a_partA, a_partB, a_lens, a_cur, a_next, a_begin, a_popL, a_popR, a_need, a_keyA, a_keyB, a_weight, a_part, a_remap, a_hits, a_span) (nI q) := by
  unfold wpX_descend
  have e : (256 : Int32) + nI rt = nI (256 + rt) := nI_add 256 rt
  refine nm_r e ⟨17, ?_⟩
  rw [rt_len] at hl
  exact rx_descend_17 hg hB hG ha hm hI hp 16 0 (256 + rt) q 0 rfl (Or.inr ⟨rt, rfl, hrt, hrt2, by omega⟩) (by rw [rs_cx_r]; exact hq) (by rw [rs_cx_r]; exact hl)
end
end
section
/-! letters of symbols, on both sides; occurrences by comparing letters -/
theorem ri_lets {lt : Nat} {us : Nat → Nat} {E0 : Nat → List Nat} {kinds partA partB lens : Nat → Int32} (hG : ri_GR lt us E0 kinds partA partB lens) {x : Nat} (hV : ri_V us x) {i : Nat} (hi : i ∈ E0 x) : i < lt := by
  have key : ∀ N x, x < N → ri_V us x → ∀ i, i ∈ E0 x → i < lt := by
    intro N
    induction N with
    | zero => intro x hx; omega
    | succ N ih =>
      intro x hx hV i hi
      obtain ⟨g1, g2, g3, g4⟩ := hG.2 x hV
      rcases g4 with ⟨g5, l, hl, el, e0⟩ | ⟨g5, p, q, hp, hq, ep, eq, e0⟩
      · rw [e0, List.mem_singleton] at hi; omega
      · rw [e0] at hi
        obtain ⟨cp1, cp2, cp3⟩ := ri_chV hV hp
        obtain ⟨cq1, cq2, cq3⟩ := ri_chV hV hq
        rcases List.mem_append.mp hi with z | z
        · exact ih _ (by omega) cp1 i z
        · exact ih _ (by omega) cq1 i z
  exact key (x + 1) x (by omega) hV i hi
section
variable {f_maxRules f_maxLength f_letters f_ref f_room f_out f_head f_rootP f_rootT f_broken f_inLeft f_inRight f_size f_fresh f_blocking f_headBase f_headExp f_headMark f_tailBase f_tailExp f_tailCut f_tailMark : Int32} {a_used a_kinds a_partA a_partB a_lens a_begin a_popL a_popR a_need a_keyA a_keyB a_weight a_part a_remap a_hits a_span : Nat → Int32} {a_cur a_next : Nat → Int64}
variable {g_ruleLimit g_lengthLimit g_letterLimit : Int32} {b_size b_kinds b_part0 b_part1 b_lengths : Nat → Int32}
variable {lt : Nat} {us : Nat → Nat} {E0 : Nat → List Nat}
theorem rx_letterAt_14 {post : Int32 → Prop} {l B : Nat} (hG : ri_GR lt us E0 a_kinds a_partA a_partB a_lens) (hp : post (nI l)) : ∀ f dep x pos, f + dep = 16 → dep + x % 16 ≤ 15 → x / 16 * 16 = B → ri_V us x → (E0 x)[pos]? = some l → wX_letterAt_14 post (nI B) f_maxRules f_maxLength f_letters f_ref f_room f_out f_head f_rootP f_rootT f_broken f_inLeft f_inRight f_size f_fresh f_blocking f_headBase f_headExp f_headMark f_tailBase f_tailExp f_tailCut f_tailMark a_used a_kinds a_partA a_partB a_lens a_cur a_next a_begin a_popL a_popR a_need a_keyA a_keyB a_weight a_part a_remap a_hits a_span (f + 1) (nI x) (nI pos) (nI dep) := by
  intro f
  induction f with
  | zero => intro dep x pos h1 h2; omega
  | succ f ih =>
    intro dep x pos h1 h2 h3 hV he
    have hx := hV.1
    have hv : vp_in (nI x) 32 := vp_in_nI hx (by omega)
    have hlt := hG.1
    refine pk_le 16 dep (fun z => by omega) (fun _ => ?_)
    rw [nI_clamp (by omega)]
    refine ⟨hv, ?_⟩
    obtain ⟨g1, g2, g3, g4⟩ := hG.2 x hV
    rcases g4 with ⟨g5, l', hl, el, e0⟩ | ⟨g5, p, q, hp', hq, ep, eq, e0⟩
    · refine br_f (by rw [g5]; decide) ⟨hv, ?_⟩
      rw [e0] at he
      cases pos with
      | zero => cases he; rw [el]; exact hp
      | succ pos => cases he
    · refine br_t g5 ⟨hv, ?_⟩
      obtain ⟨cp1, cp2, cp3⟩ := ri_chV hV hp'
      obtain ⟨cq1, cq2, cq3⟩ := ri_chV hV hq
      rw [h3] at cp1 cp2 cp3 cq1 cq2 cq3 e0
      obtain ⟨k1, k2, k3, _⟩ := hG.2 _ cp1
      rw [ep, eq, nI_add, nI_add]
      refine nm_e ?_
      have hv2 : vp_in (nI (B + p)) 32 := vp_in_nI (by omega) (by omega)
      rw [nI_clamp (by omega), k3]
      rw [e0] at he
      have hpos : pos < 2 ^ 20 := by
        obtain ⟨z, _⟩ := List.getElem?_eq_some_iff.mp he
        rw [List.length_append] at z
        have := (hG.2 _ cq1).1
        omega
      refine ⟨hv2, pk_le (E0 (B + p)).length pos (fun hle => ⟨hv2, nm_r (pk_sub hle) ⟨hv, nm_e (nm_r (nI_1 dep) ?_)⟩⟩) (fun hlt => nm_r (nI_1 dep) ?_)⟩
      · rw [List.getElem?_append_right hle] at he
        exact ih (dep + 1) (B + q) _ (by omega) (by omega) (by omega) cq1 he
      · rw [List.getElem?_append_left hlt] at he
        exact ih (dep + 1) (B + p) pos (by omega) (by omega) (by omega) cp1 he
theorem rx_letterAt {post : Int32 → Prop} {x pos l : Nat} (hG : ri_GR lt us E0 a_kinds a_partA a_partB a_lens) (hV : ri_V us x) (he : (E0 x)[pos]? = some l) (hp : post (nI l)) : wpX_letterAt post (f_maxRules, f_maxLength, f_letters, f_ref, f_room, f_out, f_head, f_rootP, f_rootT, f_broken, f_inLeft, f_inRight, f_size, f_fresh, f_blocking, f_headBase, f_headExp, f_headMark, f_tailBase, f_tailExp, f_tailCut, f_tailMark, a_used, a_kinds, a_partA, a_partB, a_lens, a_cur, a_next, a_begin, a_popL, a_popR, a_need, a_keyA, a_keyB, a_weight, a_part, a_remap, a_hits, a_span) (nI x) (nI pos) := by
  have hx := hV.1
  unfold wpX_letterAt
  refine nm_r (ri_and16 x hx) ⟨17, ?_⟩
  exact rx_letterAt_14 hG hp 16 0 x pos rfl (by omega) rfl hV he
theorem ry_letterAt_15 {post : Int32 → Prop} {l B : Nat} (hG : ri_GR lt us E0 b_kinds b_part0 b_part1 b_lengths) (hp : post (nI l)) : ∀ f dep x pos, f + dep = 16 → dep + x % 16 ≤ 15 → x / 16 * 16 = B → ri_V us x → (E0 x)[pos]? = some l → wY_letterAt_15 post (nI B) g_ruleLimit g_lengthLimit g_letterLimit b_size b_kinds b_part0 b_part1 b_lengths (f + 1) (nI (x % 16)) (nI pos) (nI dep) := by
  intro f
  induction f with
  | zero => intro dep x pos h1 h2; omega
  | succ f ih =>
    intro dep x pos h1 h2 h3 hV he
    have hx := hV.1
    have hlt := hG.1
    have hxs : B + x % 16 = x := by omega
    have hv : vp_in (nI x) 32 := vp_in_nI hx (by omega)
    refine pk_le 16 dep (fun z => by omega) (fun _ => ?_)
    rw [nI_add, hxs, nI_clamp (by omega)]
    refine ⟨hv, ?_⟩
    obtain ⟨g1, g2, g3, g4⟩ := hG.2 x hV
    rcases g4 with ⟨g5, l', hl, el, e0⟩ | ⟨g5, p, q, hp', hq, ep, eq, e0⟩
    · refine br_t g5 ⟨hv, ?_⟩
      rw [e0] at he
      cases pos with
      | zero => cases he; rw [el]; exact hp
      | succ pos => cases he
    · refine br_f (by rw [g5]; decide) ⟨hv, ?_⟩
      obtain ⟨cp1, cp2, cp3⟩ := ri_chV hV hp'
      obtain ⟨cq1, cq2, cq3⟩ := ri_chV hV hq
      rw [h3] at cp1 cp2 cp3 cq1 cq2 cq3 e0
      obtain ⟨k1, k2, k3, _⟩ := hG.2 _ cp1
      rw [ep, eq]
      refine nm_e ?_
      rw [nI_add]
      have hv2 : vp_in (nI (B + p)) 32 := vp_in_nI (by omega) (by omega)
      rw [nI_clamp (by omega), k3]
      rw [e0] at he
      have hpos : pos < 2 ^ 20 := by
        obtain ⟨z, _⟩ := List.getElem?_eq_some_iff.mp he
        rw [List.length_append] at z
        have := (hG.2 _ cq1).1
        omega
      have ep2 : (B + p) % 16 = p := by omega
      have eq2 : (B + q) % 16 = q := by omega
      refine ⟨hv2, nm_e (pk_le (E0 (B + p)).length pos (fun hle => nm_r (pk_sub hle) ⟨hv, nm_e (nm_r (nI_1 dep) ?_)⟩) (fun hlt => nm_r (nI_1 dep) ?_))⟩
      · rw [List.getElem?_append_right hle] at he
        have := ih (dep + 1) (B + q) _ (by omega) (by omega) (by omega) cq1 he
        rw [eq2] at this; exact this
      · rw [List.getElem?_append_left hlt] at he
        have := ih (dep + 1) (B + p) pos (by omega) (by omega) (by omega) cp1 he
        rw [ep2] at this; exact this
theorem ry_letterAt {post : Int32 → Prop} {sd s pos l : Nat} (hsd : sd < 2) (hs : s < 16) (hG : ri_GR lt us E0 b_kinds b_part0 b_part1 b_lengths) (hV : ri_V us (sd * 16 + s)) (he : (E0 (sd * 16 + s))[pos]? = some l) (hp : post (nI l)) : wpY_letterAt post (g_ruleLimit, g_lengthLimit, g_letterLimit, b_size, b_kinds, b_part0, b_part1, b_lengths) (nI sd) (nI s) (nI pos) := by
  unfold wpY_letterAt
  have e : nI sd * 16 = nI (sd * 16) := pk_mul sd 16
  refine nm_r e ⟨17, ?_⟩
  have key : wY_letterAt_15 post (nI (sd * 16)) g_ruleLimit g_lengthLimit g_letterLimit b_size b_kinds b_part0 b_part1 b_lengths (16 + 1) (nI ((sd * 16 + s) % 16)) (nI pos) (nI 0) := ry_letterAt_15 hG hp 16 0 (sd * 16 + s) pos rfl (by omega) (by omega) hV he
  rw [show (sd * 16 + s) % 16 = s by omega] at key
  exact key
def rz_b (c : Bool) : Int32 := if c then 1 else 0
theorem rz_pre {P T : List Nat} {p : Nat} (h : ∀ y, y < P.length → P[y]? = T[p + y]?) : P <+: T.drop p := by
  rw [List.prefix_iff_getElem?]
  intro i hi
  rw [List.getElem?_drop, ← h i hi, List.getElem?_eq_getElem hi]
theorem rz_npre {P T : List Nat} {p y : Nat} (hy : y < P.length) (h : P[y]? ≠ T[p + y]?) : ¬ P <+: T.drop p := by
  intro q
  rw [List.prefix_iff_getElem?] at q
  have := q y hy
  rw [List.getElem?_drop] at this
  exact h (by rw [this, List.getElem?_eq_getElem hy])
theorem rx_matchesAt_2 {post : Int32 → Prop} {rp rt p : Nat} (hrp : ri_V us rp) (hrt : ri_V us rt) (hG : ri_GR lt us E0 a_kinds a_partA a_partB a_lens) (hpl : p + (E0 rp).length ≤ (E0 rt).length) (hp : post (rz_b (decide (E0 rp <+: (E0 rt).drop p)))) : ∀ d y, y + d = (E0 rp).length → (∀ z, z < y → (E0 rp)[z]? = (E0 rt)[p + z]?) → wX_matchesAt_2 post (nI p) f_maxRules f_maxLength f_letters f_ref f_room f_out f_head (nI rp) (nI rt) f_broken f_inLeft f_inRight f_size f_fresh f_blocking f_headBase f_headExp f_headMark f_tailBase f_tailExp f_tailCut f_tailMark a_used a_kinds a_partA a_partB a_lens a_cur a_next a_begin a_popL a_popR a_need a_keyA a_keyB a_weight a_part a_remap a_hits a_span (d + 1) (nI y) := by
  have h1 := (hG.2 rp hrp)
  have h2 := (hG.2 rt hrt)
  have hx := hrp.1
  intro d
  induction d with
  | zero =>
    intro y hy hz
    refine ⟨vp_in_nI hx (by omega), ?_⟩
    rw [nI_clamp (by omega), h1.2.2.1]
    have e : decide (E0 rp <+: (E0 rt).drop p) = true := decide_eq_true (rz_pre (fun z hz' => hz z (by omega)))
    rw [e] at hp
    exact pk_le (E0 rp).length y (fun _ => hp) (fun z => by omega)
  | succ d ih =>
    intro y hy hz
    refine ⟨vp_in_nI hx (by omega), ?_⟩
    rw [nI_clamp (by omega), h1.2.2.1]
    refine pk_le (E0 rp).length y (fun z => by omega) (fun hlt => ?_)
    have e1 : (E0 rp)[y]? = some (E0 rp)[y] := List.getElem?_eq_getElem hlt
    have hlt2 : p + y < (E0 rt).length := by omega
    have e2 : (E0 rt)[p + y]? = some (E0 rt)[p + y] := List.getElem?_eq_getElem hlt2
    rw [nI_add]
    refine rx_letterAt hG hrp e1 (rx_letterAt hG hrt e2 ?_)
    have b1 : ∀ x, ri_V us x → ∀ i, i ∈ E0 x → i < 2 ^ 31 := by
      intro x hV i hi
      have := ri_lets hG hV hi
      have := hG.1
      omega
    refine pk_eq (E0 rp)[y] (E0 rt)[p + y] (fun e => nm_r (nI_1 y) (ih (y + 1) (by omega) (fun z hz' => ?_))) (fun e => ?_) rfl rfl (b1 rp hrp _ (List.getElem_mem hlt)) (b1 rt hrt _ (List.getElem_mem hlt2))
    · by_cases q : z = y
      · subst q; rw [e1, e2, e]
      · exact hz z (by omega)
    · have e3 : decide (E0 rp <+: (E0 rt).drop p) = false := decide_eq_false (rz_npre hlt (by rw [e1, e2]; exact fun q => e (Option.some.inj q)))
      rw [e3] at hp; exact hp
theorem rx_matchesAt {post : Int32 → Prop} {rp rt p : Nat} (hrp : ri_V us rp) (hrt : ri_V us rt) (hG : ri_GR lt us E0 a_kinds a_partA a_partB a_lens) (hpl : p + (E0 rp).length ≤ (E0 rt).length) (hp : post (rz_b (decide (E0 rp <+: (E0 rt).drop p)))) : wpX_matchesAt post (f_maxRules, f_maxLength, f_letters, f_ref, f_room, f_out, f_head, nI rp, nI rt, f_broken, f_inLeft, f_inRight, f_size, f_fresh, f_blocking, f_headBase, f_headExp, f_headMark, f_tailBase, f_tailExp, f_tailCut, f_tailMark, a_used, a_kinds, a_partA, a_partB, a_lens, a_cur, a_next, a_begin, a_popL, a_popR, a_need, a_keyA, a_keyB, a_weight, a_part, a_remap, a_hits, a_span) (nI p) :=
  ⟨(E0 rp).length + 1, rx_matchesAt_2 hrp hrt hG hpl hp (E0 rp).length 0 (by omega) (fun z hz => by omega)⟩
theorem ry_occurs_33 {post : Int32 → Prop} {i j p : Nat} (hi : i < 16) (hj : j < 16) (hrp : ri_V us i) (hrt : ri_V us (16 + j)) (hG : ri_GR lt us E0 b_kinds b_part0 b_part1 b_lengths) (hpl : p + (E0 i).length ≤ (E0 (16 + j)).length) (hp : post (rz_b (decide (E0 i <+: (E0 (16 + j)).drop p)))) : ∀ d y, y + d = (E0 i).length → (∀ z, z < y → (E0 i)[z]? = (E0 (16 + j))[p + z]?) → wY_occurs_33 post (nI i) (nI j) (nI p) (nI (E0 i).length) g_ruleLimit g_lengthLimit g_letterLimit b_size b_kinds b_part0 b_part1 b_lengths (d + 1) (nI y) := by
  have h1 := (hG.2 i hrp)
  have h2 := (hG.2 (16 + j) hrt)
  intro d
  induction d with
  | zero =>
    intro y hy hz
    have e : decide (E0 i <+: (E0 (16 + j)).drop p) = true := decide_eq_true (rz_pre (fun z hz' => hz z (by omega)))
    rw [e] at hp
    exact pk_le (E0 i).length y (fun _ => hp) (fun z => by omega)
  | succ d ih =>
    intro y hy hz
    refine pk_le (E0 i).length y (fun z => by omega) (fun hlt => ?_)
    have e1 : (E0 i)[y]? = some (E0 i)[y] := List.getElem?_eq_getElem hlt
    have hlt2 : p + y < (E0 (16 + j)).length := by omega
    have e2 : (E0 (16 + j))[p + y]? = some (E0 (16 + j))[p + y] := List.getElem?_eq_getElem hlt2
    rw [nI_add]
    have hV0 : ri_V us (0 * 16 + i) := by rw [show 0 * 16 + i = i by omega]; exact hrp
    have hV1 : ri_V us (1 * 16 + j) := by rw [show 1 * 16 + j = 16 + j by omega]; exact hrt
    have f1 : (E0 (0 * 16 + i))[y]? = some (E0 i)[y] := by rw [show 0 * 16 + i = i by omega]; exact e1
    have f2 : (E0 (1 * 16 + j))[p + y]? = some (E0 (16 + j))[p + y] := e2
    refine ry_letterAt (sd := 0) (by omega) hi hG hV0 f1 (ry_letterAt (sd := 1) (by omega) hj hG hV1 f2 ?_)
    have hlt8 := hG.1
    have b1 := ri_lets hG hrp (List.getElem_mem hlt)
    have b2 := ri_lets hG hrt (List.getElem_mem hlt2)
    refine pk_eq (E0 i)[y] (E0 (16 + j))[p + y] (fun e => nm_r (nI_1 y) (ih (y + 1) (by omega) (fun z hz' => ?_))) (fun e => ?_) rfl rfl (by omega) (by omega)
    · by_cases q : z = y
      · subst q; rw [e1, e2, e]
      · exact hz z (by omega)
    · have e3 : decide (E0 i <+: (E0 (16 + j)).drop p) = false := decide_eq_false (rz_npre hlt (by rw [e1, e2]; exact fun q => e (Option.some.inj q)))
      rw [e3] at hp; exact hp
theorem ry_occurs {post : Int32 → Prop} {i j p : Nat} (hi : i < 16) (hj : j < 16) (hrp : ri_V us i) (hrt : ri_V us (16 + j)) (hG : ri_GR lt us E0 b_kinds b_part0 b_part1 b_lengths) (hp512 : p ≤ 1024) (hp : post (rz_b (decide (E0 i <+: (E0 (16 + j)).drop p)))) : wpY_occurs post (g_ruleLimit, g_lengthLimit, g_letterLimit, b_size, b_kinds, b_part0, b_part1, b_lengths) (nI i) (nI j) (nI p) := by
  have h1 := (hG.2 i hrp)
  have h2 := (hG.2 (16 + j) hrt)
  unfold wpY_occurs
  dsimp only
  have e : (16 : Int32) + nI j = nI (16 + j) := nI_add 16 j
  rw [e, nI_clamp (by omega), nI_clamp (by omega), h1.2.2.1, h2.2.2.1]
  refine ⟨vp_in_nI (by omega) (by omega), nm_e (br_f (nI_pos (by omega)) ⟨vp_in_nI (by omega) (by omega), ?_⟩)⟩
  refine pk_le (p + (E0 i).length) (E0 (16 + j)).length (fun hle => ⟨(E0 i).length + 1, ry_occurs_33 hi hj hrp hrt hG hle hp (E0 i).length 0 (by omega) (fun z hz => by omega)⟩) (fun hlt => ?_) (nI_add _ _)
  have e3 : decide (E0 i <+: (E0 (16 + j)).drop p) = false := decide_eq_false (fun q => by
    have h3 := q.length_le
    rw [List.length_drop] at h3
    have h4 := h1.2.1
    have h5 : 0 < (E0 i).length := List.length_pos_iff.mpr h4
    omega)
  rw [e3] at hp; exact hp
end
end
section
/-! plain, locate, prepare -/
def rz_L (P T : List Nat) (p : Nat) : List Nat := (List.range p).filter (fun p => decide (P <+: T.drop p))
theorem rz_L_s {P T : List Nat} {p : Nat} : rz_L P T (p + 1) = rz_L P T p ++ (if P <+: T.drop p then [p] else []) := by
  unfold rz_L
  rw [List.range_succ, List.filter_append]
  congr 1
  by_cases h : P <+: T.drop p
  · rw [if_pos h, List.filter_cons, if_pos (by simpa using h)]; rfl
  · rw [if_neg h, List.filter_cons, if_neg (by simpa using h)]; rfl
theorem rz_L_mem {P T : List Nat} {p z : Nat} (h : z ∈ rz_L P T p) : z < p ∧ P <+: T.drop z := by
  unfold rz_L at h
  rw [List.mem_filter] at h
  exact ⟨List.mem_range.mp h.1, by simpa using h.2⟩
theorem rz_L_pre {P T : List Nat} : ∀ d p, ∃ Z, rz_L P T (p + d) = rz_L P T p ++ Z ∧ ∀ z, z ∈ Z → p ≤ z := by
  intro d
  induction d with
  | zero => intro p; exact ⟨[], by rw [List.append_nil]; rfl, fun z hz => by cases hz⟩
  | succ d ih =>
    intro p
    obtain ⟨Z, h1, h2⟩ := ih p
    refine ⟨Z ++ (if P <+: T.drop (p + d) then [p + d] else []), ?_, fun z hz => ?_⟩
    · rw [← Nat.add_assoc, rz_L_s, h1, List.append_assoc]
    · rcases List.mem_append.mp hz with q | q
      · exact h2 z q
      · by_cases c : P <+: T.drop (p + d)
        · rw [if_pos c, List.mem_singleton] at q; omega
        · rw [if_neg c] at q; cases q
theorem rz_idx {P T : List Nat} {k v : Nat} : ∀ N, (rz_L P T N)[k]? = some v → v < N ∧ P <+: T.drop v ∧ (rz_L P T v).length = k := by
  intro N
  induction N with
  | zero => intro h; cases h
  | succ N ih =>
    intro h
    rw [rz_L_s] at h
    rcases Nat.lt_or_ge k (rz_L P T N).length with q | q
    · rw [List.getElem?_append_left q] at h
      obtain ⟨a, b, c⟩ := ih h
      exact ⟨by omega, b, c⟩
    · rw [List.getElem?_append_right q] at h
      by_cases c : P <+: T.drop N
      · rw [if_pos c] at h
        cases hk : k - (rz_L P T N).length with
        | zero =>
          rw [hk] at h
          cases h
          exact ⟨by omega, c, by omega⟩
        | succ m => rw [hk] at h; cases h
      · rw [if_neg c] at h; cases h
theorem rz_at {P T : List Nat} {N p : Nat} (hp : p < N) (h : P <+: T.drop p) : (rz_L P T N)[(rz_L P T p).length]? = some p := by
  obtain ⟨Z, h1, h2⟩ := @rz_L_pre P T (N - (p + 1)) (p + 1)
  rw [show p + 1 + (N - (p + 1)) = N by omega] at h1
  rw [h1, rz_L_s, if_pos h, List.append_assoc, List.getElem?_append_right (Nat.le_refl _), Nat.sub_self]
  rfl
theorem rz_occ_le {P T : List Nat} {p : Nat} (hP : P ≠ []) (h : P <+: T.drop p) : p + P.length ≤ T.length := by
  have h3 := h.length_le
  rw [List.length_drop] at h3
  have h5 : 0 < P.length := List.length_pos_iff.mpr hP
  omega
theorem rz_top {P T : List Nat} (hP : P ≠ []) : ∀ d, rz_L P T (T.length - P.length + 1 + d) = rz_L P T (T.length - P.length + 1) := by
  intro d
  induction d with
  | zero => rfl
  | succ d ih =>
    rw [← Nat.add_assoc, rz_L_s, ih, if_neg, List.append_nil]
    intro h
    have := rz_occ_le hP h
    omega
theorem rz_len {P T : List Nat} {p : Nat} : (rz_L P T p).length ≤ p := by
  have := List.length_filter_le (fun p => decide (P <+: T.drop p)) (List.range p)
  rw [List.length_range] at this
  exact this
def rz_LOC (L0 : List Nat) (u : SX) : Prop := ∀ k v, L0[k]? = some v → ∀ post : Int32 → Prop, post (nI v) → wpX_locate post u (nI k)
section
variable {f_maxRules f_maxLength f_letters f_ref f_room f_out f_head f_rootP f_rootT f_broken f_inLeft f_inRight f_size f_fresh f_blocking f_headBase f_headExp f_headMark f_tailBase f_tailExp f_tailCut f_tailMark : Int32} {a_used a_kinds a_partA a_partB a_lens a_begin a_popL a_popR a_need a_keyA a_keyB a_weight a_part a_remap a_hits a_span : Nat → Int32} {a_cur a_next : Nat → Int64}
variable {lt : Nat} {us : Nat → Nat} {E0 : Nat → List Nat}
theorem rx_plain_25 {post : Int32 → Prop} {rp rt top : Nat} {x1 : Int32} (hrp : ri_V us rp) (hrt : ri_V us rt) (hG : ri_GR lt us E0 a_kinds a_partA a_partB a_lens) (htop : top + (E0 rp).length = (E0 rt).length) (hF : ∀ p, p ≤ top → E0 rp <+: (E0 rt).drop p → nI (rz_L (E0 rp) (E0 rt) p).length = x1 → post (nI p)) (hE : (∀ q, q ≤ top → E0 rp <+: (E0 rt).drop q → nI (rz_L (E0 rp) (E0 rt) q).length ≠ x1) → post (nI (rz_L (E0 rp) (E0 rt) (top + 1)).length)) : ∀ d p, p + d = top + 1 → (∀ q, q < p → E0 rp <+: (E0 rt).drop q → nI (rz_L (E0 rp) (E0 rt) q).length ≠ x1) → wX_plain_25 post x1 (nI top) f_maxRules f_maxLength f_letters f_ref f_room f_out f_head (nI rp) (nI rt) f_broken f_inLeft f_inRight f_size f_fresh f_blocking f_headBase f_headExp f_headMark f_tailBase f_tailExp f_tailCut f_tailMark a_used a_kinds a_partA a_partB a_lens a_cur a_next a_begin a_popL a_popR a_need a_keyA a_keyB a_weight a_part a_remap a_hits a_span (d + 1) (nI (rz_L (E0 rp) (E0 rt) p).length) (nI p) := by
  have h1 := hG.2 rt hrt
  intro d
  induction d with
  | zero =>
    intro p hp hq
    have e : p = top + 1 := by omega
    subst e
    exact pk_lt top (top + 1) (fun _ => hE (fun q hq' => hq q (by omega))) (fun z => by omega)
  | succ d ih =>
    intro p hp hq
    refine pk_lt top p (fun z => by omega) (fun _ => ?_)
    refine rx_matchesAt hrp hrt hG (by omega) ?_
    by_cases c : E0 rp <+: (E0 rt).drop p
    · rw [decide_eq_true c]
      refine br_f (by decide) (br_c (fun e => hF p (by omega) c e) (fun e => nm_r (nI_1 _) (nm_r (nI_1 p) ?_)))
      have := ih (p + 1) (by omega) (fun q hq' hc => by
        by_cases z : q = p
        · subst z; exact e
        · exact hq q (by omega) hc)
      rw [rz_L_s, if_pos c, List.length_append] at this
      exact this
    · rw [decide_eq_false c]
      refine br_t rfl (nm_r (nI_1 p) ?_)
      have := ih (p + 1) (by omega) (fun q hq' hc => by
        by_cases z : q = p
        · subst z; exact absurd hc c
        · exact hq q (by omega) hc)
      rw [rz_L_s, if_neg c, List.append_nil] at this
      exact this
theorem rx_plain {post : Int32 → Prop} {rp rt : Nat} {x1 : Int32} (hrp : ri_V us rp) (hrt : ri_V us rt) (hG : ri_GR lt us E0 a_kinds a_partA a_partB a_lens) (hle : (E0 rp).length ≤ (E0 rt).length) (hF : ∀ p, p < (E0 rt).length → E0 rp <+: (E0 rt).drop p → nI (rz_L (E0 rp) (E0 rt) p).length = x1 → post (nI p)) (hE : (∀ q, q < (E0 rt).length → E0 rp <+: (E0 rt).drop q → nI (rz_L (E0 rp) (E0 rt) q).length ≠ x1) → post (nI (ro_L0 (E0 rp) (E0 rt)).length)) : wpX_plain post (f_maxRules, f_maxLength, f_letters, f_ref, f_room, f_out, f_head, nI rp, nI rt, f_broken, f_inLeft, f_inRight, f_size, f_fresh, f_blocking, f_headBase, f_headExp, f_headMark, f_tailBase, f_tailExp, f_tailCut, f_tailMark, a_used, a_kinds, a_partA, a_partB, a_lens, a_cur, a_next, a_begin, a_popL, a_popR, a_need, a_keyA, a_keyB, a_weight, a_part, a_remap, a_hits, a_span) x1 := by
  have h1 := hG.2 rp hrp
  have h2 := hG.2 rt hrt
  have a1 := hrp.1
  have a2 := hrt.1
  have hpos : 0 < (E0 rp).length := List.length_pos_iff.mpr h1.2.1
  unfold wpX_plain
  dsimp only
  rw [nI_clamp (by omega), nI_clamp (by omega), h1.2.2.1, h2.2.2.1]
  refine ⟨vp_in_nI (by omega) (by omega), vp_in_nI (by omega) (by omega), nm_r (pk_sub hle) ⟨(E0 rt).length - (E0 rp).length + 1 + 1, ?_⟩⟩
  have etop : rz_L (E0 rp) (E0 rt) ((E0 rt).length - (E0 rp).length + 1) = ro_L0 (E0 rp) (E0 rt) := by
    have := @rz_top (E0 rp) (E0 rt) h1.2.1 ((E0 rp).length - 1)
    rw [← this]
    unfold rz_L ro_L0
    congr 2
    omega
  refine rx_plain_25 hrp hrt hG (by omega) (fun p hp => hF p (by omega)) (fun hq => ?_) ((E0 rt).length - (E0 rp).length + 1) 0 (by omega) (fun q hq => by omega)
  rw [etop]
  refine hE (fun q hq' hc => hq q ?_ hc)
  have := rz_occ_le h1.2.1 hc
  omega
theorem rx_plainLOC {rp rt : Nat} (hrp : ri_V us rp) (hrt : ri_V us rt) (hG : ri_GR lt us E0 a_kinds a_partA a_partB a_lens) (hle : (E0 rp).length ≤ (E0 rt).length) (hb : ¬ f_broken = 0) : rz_LOC (ro_L0 (E0 rp) (E0 rt)) (f_maxRules, f_maxLength, f_letters, f_ref, f_room, f_out, f_head, nI rp, nI rt, f_broken, f_inLeft, f_inRight, f_size, f_fresh, f_blocking, f_headBase, f_headExp, f_headMark, f_tailBase, f_tailExp, f_tailCut, f_tailMark, a_used, a_kinds, a_partA, a_partB, a_lens, a_cur, a_next, a_begin, a_popL, a_popR, a_need, a_keyA, a_keyB, a_weight, a_part, a_remap, a_hits, a_span) := by
  intro k v hk post hp
  unfold wpX_locate
  have h2 := hG.2 rt hrt
  obtain ⟨i1, i2, i3⟩ := rz_idx _ hk
  refine br_f hb (rx_plain hrp hrt hG hle (fun p hp' hc he => ?_) (fun hno => ?_))
  · have hl := @rz_len (E0 rp) (E0 rt) p
    have hl2 := @rz_len (E0 rp) (E0 rt) v
    rw [nI_eq (by omega) (by omega)] at he
    have e1 := rz_at hp' hc
    have e2 : (ro_L0 (E0 rp) (E0 rt))[(rz_L (E0 rp) (E0 rt) p).length]? = some p := e1
    rw [he, hk] at e2
    cases e2
    exact hp
  · exact absurd (by rw [i3]) (hno v i1 i2)
theorem rx_finLOC {rp rt n : Nat} {b : Nat → Nat} (hrp : rp < 32) (hrt : 16 ≤ rt) (hrt2 : rt < 32) (hg : rg_W b a_cur a_begin) {L0 : List Nat} (hl : L0.length ≤ 2 ^ 20) (hF : rf_FIN rp rt L0 b n a_cur a_keyA a_keyB a_weight) (hb : f_broken = 0) {post : SX → Prop} (K : ∀ (f_headBase' : Int32) (f_headExp' : Int32) (a_hits' : Nat → Int32) (a_span' : Nat → Int32), a_hits' rt = nI L0.length → rz_LOC L0 (f_maxRules, f_maxLength, f_letters, f_ref, f_room, f_out, f_head, nI rp, nI rt, f_broken, f_inLeft, f_inRight, f_size, f_fresh, f_blocking, f_headBase', f_headExp', f_headMark, f_tailBase, f_tailExp, f_tailCut, f_tailMark, a_used, a_kinds, a_partA, a_partB, a_lens, a_cur, a_next, a_begin, a_popL, a_popR, a_need, a_keyA, a_keyB, a_weight, a_part, a_remap, a_hits', a_span') → post (f_maxRules, f_maxLength, f_letters, f_ref, f_room, f_out, f_head, nI rp, nI rt, f_broken, f_inLeft, f_inRight, f_size, f_fresh, f_blocking, f_headBase', f_headExp', f_headMark, f_tailBase, f_tailExp, f_tailCut, f_tailMark, a_used, a_kinds, a_partA, a_partB, a_lens, a_cur, a_next, a_begin, a_popL, a_popR, a_need, a_keyA, a_keyB, a_weight, a_part, a_remap, a_hits', a_span')) : wpX_tally post (f_maxRules, f_maxLength, f_letters, f_ref, f_room, f_out, f_head, nI rp, nI rt, f_broken, f_inLeft, f_inRight, f_size, f_fresh, f_blocking, f_headBase, f_headExp, f_headMark, f_tailBase, f_tailExp, f_tailCut, f_tailMark, a_used, a_kinds, a_partA, a_partB, a_lens, a_cur, a_next, a_begin, a_popL, a_popR, a_need, a_keyA, a_keyB, a_weight, a_part, a_remap, a_hits, a_span) := by
  obtain ⟨n0, wt, ka, kb, G, B, hG, hc, hne, hL⟩ := hF
  have hb1 := rg_b32 hg (x := rp + 1) (by omega)
  refine rx_tally hrp hg B hG hc (by omega) (fun a_hits' a_span' hI => K _ _ a_hits' a_span' ?_ ?_)
  · rw [(hI rt hrt hrt2).1, hL, rt_len]
  · intro k v hk q hq
    unfold wpX_locate
    refine br_t hb ?_
    rw [hL] at hk
    rw [hL] at hl
    exact rx_descend hrt hrt2 hg B hG ((B.2.2.2.1 _ hc).2.2) (B.2.1 _) hI hk hl hq
theorem rx_prepare {post : Int32 → SX → Prop} {i j : Nat} (hi : i < 16) (hj : j < 16) (hP : ri_V us i) (hT : ri_V us (16 + j)) (hG : ri_GR lt us E0 a_kinds a_partA a_partB a_lens) (hb0 : a_begin 0 = 0)
    (K : ∀ (f_rootP' : Int32) (f_rootT' : Int32) (f_size' : Int32) (f_out' : Int32) (f_head' : Int32) (f_broken' : Int32) (f_fresh' : Int32) (f_blocking' : Int32) (f_headBase' : Int32) (f_headExp' : Int32) (f_headMark' : Int32) (f_tailBase' : Int32) (f_tailExp' : Int32) (f_tailCut' : Int32) (f_tailMark' : Int32) (a_cur' : Nat → Int64) (a_next' : Nat → Int64) (a_begin' : Nat → Int32) (a_popL' : Nat → Int32) (a_popR' : Nat → Int32) (a_need' : Nat → Int32) (a_keyA' : Nat → Int32) (a_keyB' : Nat → Int32) (a_weight' : Nat → Int32) (a_part' : Nat → Int32) (a_remap' : Nat → Int32) (a_hits' : Nat → Int32) (a_span' : Nat → Int32), a_begin' 0 = 0 → rz_LOC (ro_L0 (E0 i) (E0 (16 + j))) (f_maxRules, f_maxLength, nI lt, f_ref, f_room, f_out', f_head', f_rootP', f_rootT', f_broken', f_inLeft, f_inRight, f_size', f_fresh', f_blocking', f_headBase', f_headExp', f_headMark', f_tailBase', f_tailExp', f_tailCut', f_tailMark', a_used, a_kinds, a_partA, a_partB, a_lens, a_cur', a_next', a_begin', a_popL', a_popR', a_need', a_keyA', a_keyB', a_weight', a_part', a_remap', a_hits', a_span') → post (nI (ro_L0 (E0 i) (E0 (16 + j))).length) (f_maxRules, f_maxLength, nI lt, f_ref, f_room, f_out', f_head', f_rootP', f_rootT', f_broken', f_inLeft, f_inRight, f_size', f_fresh', f_blocking', f_headBase', f_headExp', f_headMark', f_tailBase', f_tailExp', f_tailCut', f_tailMark', a_used, a_kinds, a_partA, a_partB, a_lens, a_cur', a_next', a_begin', a_popL', a_popR', a_need', a_keyA', a_keyB', a_weight', a_part', a_remap', a_hits', a_span')) :
    wpX_prepare post (f_maxRules, f_maxLength, nI lt, f_ref, f_room, f_out, f_head, f_rootP, f_rootT, f_broken, f_inLeft, f_inRight, f_size, f_fresh, f_blocking, f_headBase, f_headExp, f_headMark, f_tailBase, f_tailExp, f_tailCut, f_tailMark, a_used, a_kinds, a_partA, a_partB, a_lens, a_cur, a_next, a_begin, a_popL, a_popR, a_need, a_keyA, a_keyB, a_weight, a_part, a_remap, a_hits, a_span) (nI i) (nI j) := by
  have h1 := hG.2 i hP
  have h2 := hG.2 (16 + j) hT
  have hlen : (ro_L0 (E0 i) (E0 (16 + j))).length ≤ (E0 (16 + j)).length := @rz_len (E0 i) (E0 (16 + j)) (E0 (16 + j)).length
  unfold wpX_prepare
  have e : (16 : Int32) + nI j = nI (16 + j) := nI_add 16 j
  refine nm_r e ?_
  rw [nI_clamp (by omega), nI_clamp (by omega), h1.2.2.1, h2.2.2.1]
  refine ⟨vp_in_nI (by omega) (by omega), vp_in_nI (by omega) (by omega), pk_le (E0 i).length (E0 (16 + j)).length (fun hle => ?_) (fun hlt => ?_)⟩
  · refine rx_recompress (us := us) (lt := lt) (E0 := E0) hi (by omega) (by omega) hP hT hG hb0 (fun b n f_out' f_head' f_broken' f_fresh' f_blocking' f_headBase' f_headExp' f_headMark' f_tailBase' f_tailExp' f_tailCut' f_tailMark' a_cur' a_next' a_begin' a_popL' a_popR' a_need' a_keyA' a_keyB' a_weight' a_part' a_remap' q1 q2 => ?_)
    have hbz : a_begin' 0 = 0 := by rw [q1.2.2.2.1 0 (by omega), q1.1]; rfl
    refine br_c (fun hb => ?_) (fun hb => ?_)
    · refine rx_finLOC (by omega) (by omega) (by omega) q1 (by omega) (q2 hb) hb (fun f_headBase'' f_headExp'' a_hits' a_span' m1 m2 => ?_)
      dsimp only
      rw [nI_clamp (by omega), m1]
      exact ⟨vp_in_nI (by omega) (by omega), K _ _ _ _ _ _ _ _ _ _ _ _ _ _ _ _ _ _ _ _ _ _ _ _ _ _ _ _ hbz m2⟩
    · refine rx_plain hP hT hG hle (fun p hp hc he => ?_) (fun hno => ?_)
      · have hl := @rz_len (E0 i) (E0 (16 + j)) p
        exact absurd he (rp_m1 (by omega))
      · exact K _ _ _ _ _ _ _ _ _ _ _ _ _ _ _ _ _ _ _ _ _ _ _ _ _ _ _ _ hbz (rx_plainLOC hP hT hG hle hb)
  · have e0 : ro_L0 (E0 i) (E0 (16 + j)) = [] := by
      cases hL : ro_L0 (E0 i) (E0 (16 + j)) with
      | nil => rfl
      | cons a l =>
        exfalso
        have hm : a ∈ rz_L (E0 i) (E0 (16 + j)) (E0 (16 + j)).length := by
          show a ∈ ro_L0 (E0 i) (E0 (16 + j))
          rw [hL]; simp
        have := rz_occ_le h1.2.1 (rz_L_mem hm).2
        omega
    rw [e0] at K
    exact K _ _ _ _ _ _ _ _ _ _ _ _ _ _ _ _ _ _ _ _ _ _ _ _ _ _ _ _ hb0 (fun k v hk => by cases hk)
end
end
section
/-! the reference's searches; the component's rank -/
section
variable {g_ruleLimit g_lengthLimit g_letterLimit : Int32} {b_size b_kinds b_part0 b_part1 b_lengths : Nat → Int32}
variable {lt : Nat} {us : Nat → Nat} {E0 : Nat → List Nat}
theorem ry_count_6 {post : Int32 → Prop} {i j pos : Nat} (hi : i < 16) (hj : j < 16) (hrp : ri_V us i) (hrt : ri_V us (16 + j)) (hG : ri_GR lt us E0 b_kinds b_part0 b_part1 b_lengths) (hpos : pos ≤ 512) (hp : post (nI (rz_L (E0 i) (E0 (16 + j)) pos).length)) : ∀ d p, p + d = pos → wY_countBelow_6 post (nI i) (nI j) (nI pos) g_ruleLimit g_lengthLimit g_letterLimit b_size b_kinds b_part0 b_part1 b_lengths (d + 1) (nI (rz_L (E0 i) (E0 (16 + j)) p).length) (nI p) := by
  intro d
  induction d with
  | zero =>
    intro p hd
    have e : p = pos := by omega
    subst e
    exact pk_le p p (fun _ => hp) (fun z => by omega)
  | succ d ih =>
    intro p hd
    refine pk_le pos p (fun z => by omega) (fun _ => ry_occurs hi hj hrp hrt hG (by omega) ?_)
    by_cases c : E0 i <+: (E0 (16 + j)).drop p
    · rw [decide_eq_true c]
      refine br_f (by decide) (nm_r (nI_1 _) (nm_r (nI_1 p) ?_))
      have := ih (p + 1) (by omega)
      rw [rz_L_s, if_pos c, List.length_append] at this
      exact this
    · rw [decide_eq_false c]
      refine br_t rfl (nm_r (nI_1 p) ?_)
      have := ih (p + 1) (by omega)
      rw [rz_L_s, if_neg c, List.append_nil] at this
      exact this
theorem ry_count {post : Int32 → Prop} {i j pos : Nat} (hi : i < 16) (hj : j < 16) (hrp : ri_V us i) (hrt : ri_V us (16 + j)) (hG : ri_GR lt us E0 b_kinds b_part0 b_part1 b_lengths) (hpos : pos ≤ 512) (hp : post (nI (rz_L (E0 i) (E0 (16 + j)) pos).length)) : wpY_countBelow post (g_ruleLimit, g_lengthLimit, g_letterLimit, b_size, b_kinds, b_part0, b_part1, b_lengths) (nI i) (nI j) (nI pos) :=
  ⟨pos + 1, ry_count_6 hi hj hrp hrt hG hpos hp pos 0 (by omega)⟩
theorem ry_first_25 {post : Int32 → Prop} {i j N : Nat} (hi : i < 16) (hj : j < 16) (hrp : ri_V us i) (hrt : ri_V us (16 + j)) (hG : ri_GR lt us E0 b_kinds b_part0 b_part1 b_lengths) (hN : N ≤ 512) (hF : ∀ v, (rz_L (E0 i) (E0 (16 + j)) N)[0]? = some v → post (nI v)) (hE : rz_L (E0 i) (E0 (16 + j)) N = [] → post (-8)) : ∀ d p, p + d = N → rz_L (E0 i) (E0 (16 + j)) p = [] → wY_first_25 post (nI i) (nI j) (nI N) g_ruleLimit g_lengthLimit g_letterLimit b_size b_kinds b_part0 b_part1 b_lengths (d + 1) (nI p) := by
  intro d
  induction d with
  | zero =>
    intro p hd h0
    have e : p = N := by omega
    subst e
    exact pk_le p p (fun _ => hE h0) (fun z => by omega)
  | succ d ih =>
    intro p hd h0
    refine pk_le N p (fun z => by omega) (fun _ => ry_occurs hi hj hrp hrt hG (by omega) ?_)
    by_cases c : E0 i <+: (E0 (16 + j)).drop p
    · rw [decide_eq_true c]
      refine br_f (by decide) (hF p ?_)
      have := rz_at (N := N) (by omega) c
      rw [h0] at this
      exact this
    · rw [decide_eq_false c]
      refine br_t rfl (nm_r (nI_1 p) (ih (p + 1) (by omega) ?_))
      rw [rz_L_s, if_neg c, h0]; rfl
theorem ry_nth_36 {post : Int32 → Prop} {i j N k : Nat} (hi : i < 16) (hj : j < 16) (hrp : ri_V us i) (hrt : ri_V us (16 + j)) (hG : ri_GR lt us E0 b_kinds b_part0 b_part1 b_lengths) (hN : N ≤ 512) (hk : k < 2 ^ 31) (hF : ∀ v, (rz_L (E0 i) (E0 (16 + j)) N)[k]? = some v → post (nI v)) (hE : (rz_L (E0 i) (E0 (16 + j)) N).length ≤ k → post (-7)) : ∀ d p, p + d = N → (rz_L (E0 i) (E0 (16 + j)) p).length ≤ k → wY_nth_36 post (nI i) (nI j) (nI k) (nI N) g_ruleLimit g_lengthLimit g_letterLimit b_size b_kinds b_part0 b_part1 b_lengths (d + 1) (nI (rz_L (E0 i) (E0 (16 + j)) p).length) (nI p) := by
  intro d
  induction d with
  | zero =>
    intro p hd h0
    have e : p = N := by omega
    subst e
    exact pk_le p p (fun _ => hE h0) (fun z => by omega)
  | succ d ih =>
    intro p hd h0
    refine pk_le N p (fun z => by omega) (fun _ => ry_occurs hi hj hrp hrt hG (by omega) ?_)
    have hl := @rz_len (E0 i) (E0 (16 + j)) p
    by_cases c : E0 i <+: (E0 (16 + j)).drop p
    · rw [decide_eq_true c]
      refine br_f (by decide) (pk_eq (rz_L (E0 i) (E0 (16 + j)) p).length k (fun e => hF p ?_) (fun e => nm_r (nI_1 _) (nm_r (nI_1 p) ?_)))
      · have := rz_at (N := N) (by omega) c
        rw [e] at this
        exact this
      · have := ih (p + 1) (by omega) (by rw [rz_L_s, if_pos c, List.length_append, List.length_singleton]; omega)
        rw [rz_L_s, if_pos c, List.length_append] at this
        exact this
    · rw [decide_eq_false c]
      refine br_t rfl (nm_r (nI_1 p) ?_)
      have := ih (p + 1) (by omega) (by rw [rz_L_s, if_neg c, List.append_nil]; exact h0)
      rw [rz_L_s, if_neg c, List.append_nil] at this
      exact this
end
section
variable {f_maxRules f_maxLength f_letters f_ref f_room f_out f_head f_rootP f_rootT f_broken f_inLeft f_inRight f_size f_fresh f_blocking f_headBase f_headExp f_headMark f_tailBase f_tailExp f_tailCut f_tailMark : Int32} {a_used a_kinds a_partA a_partB a_lens a_begin a_popL a_popR a_need a_keyA a_keyB a_weight a_part a_remap a_hits a_span : Nat → Int32} {a_cur a_next : Nat → Int64}
theorem rx_rank_46 {post : Int32 → SX → Prop} {P T : List Nat} {pos : Nat} (hpos : pos ≤ T.length) (hT : T.length ≤ 512) (hloc : rz_LOC (ro_L0 P T) (f_maxRules, f_maxLength, f_letters, f_ref, f_room, f_out, f_head, f_rootP, f_rootT, f_broken, f_inLeft, f_inRight, f_size, f_fresh, f_blocking, f_headBase, f_headExp, f_headMark, f_tailBase, f_tailExp, f_tailCut, f_tailMark, a_used, a_kinds, a_partA, a_partB, a_lens, a_cur, a_next, a_begin, a_popL, a_popR, a_need, a_keyA, a_keyB, a_weight, a_part, a_remap, a_hits, a_span)) (hp : post (nI (rz_L P T pos).length) (f_maxRules, f_maxLength, f_letters, f_ref, f_room, f_out, f_head, f_rootP, f_rootT, f_broken, f_inLeft, f_inRight, f_size, f_fresh, f_blocking, f_headBase, f_headExp, f_headMark, f_tailBase, f_tailExp, f_tailCut, f_tailMark, a_used, a_kinds, a_partA, a_partB, a_lens, a_cur, a_next, a_begin, a_popL, a_popR, a_need, a_keyA, a_keyB, a_weight, a_part, a_remap, a_hits, a_span)) : ∀ d st lo hi, d + st = 12 → lo ≤ (rz_L P T pos).length → (rz_L P T pos).length ≤ hi → hi ≤ (ro_L0 P T).length → hi - lo < 2 ^ d → wX_rank_46 post (nI pos) f_maxRules f_maxLength f_letters f_ref f_room f_out f_head f_rootP f_rootT f_broken f_inLeft f_inRight f_size f_fresh f_blocking f_headBase f_headExp f_headMark f_tailBase f_tailExp f_tailCut f_tailMark a_used a_kinds a_partA a_partB a_lens a_cur a_next a_begin a_popL a_popR a_need a_keyA a_keyB a_weight a_part a_remap a_hits a_span (d + 1) (nI lo) (nI hi) (nI st) := by
  have hlen : (ro_L0 P T).length ≤ T.length := @rz_len P T T.length
  obtain ⟨Z, z1, z2⟩ := @rz_L_pre P T (T.length - pos) pos
  rw [show pos + (T.length - pos) = T.length by omega] at z1
  have z1' : ro_L0 P T = rz_L P T pos ++ Z := z1
  intro d
  induction d with
  | zero =>
    intro st lo hi h1 h2 h3 h4 h5
    have e : lo = (rz_L P T pos).length := by simp at h5; omega
    rw [← e] at hp
    exact pk_le 12 st (fun _ => hp) (fun z => by omega)
  | succ d ih =>
    intro st lo hi h1 h2 h3 h4 h5
    refine pk_le 12 st (fun z => by omega) (fun _ => pk_le hi lo (fun hle => ?_) (fun hlt => ?_))
    · have e : lo = (rz_L P T pos).length := by omega
      rw [← e] at hp; exact hp
    · have emid : (nI lo + nI hi) >>> ((1 : Int32) &&& 31) = nI ((lo + hi) / 2) := by
        rw [nI_add, pk_shrN (by omega) _ 1 (by decide)]
      refine nm_r emid ?_
      have hmid : (lo + hi) / 2 < (ro_L0 P T).length := by omega
      have ev : (ro_L0 P T)[(lo + hi) / 2]? = some (ro_L0 P T)[(lo + hi) / 2] := List.getElem?_eq_getElem hmid
      generalize hv : (ro_L0 P T)[(lo + hi) / 2] = v at ev
      have hv512 : v < T.length := (rz_idx T.length ev).1
      have h2d : 2 ^ (d + 1) = 2 * 2 ^ d := by rw [Nat.pow_succ]; omega
      refine hloc _ v ev _ (pk_le pos v (fun hle => nm_r (nI_1 st) ?_) (fun hlt2 => nm_r (nI_1 _) (nm_r (nI_1 st) ?_)))
      · refine ih (st + 1) lo ((lo + hi) / 2) (by omega) h2 ?_ (by omega) (by omega)
        rcases Nat.lt_or_ge ((lo + hi) / 2) (rz_L P T pos).length with q | q
        · exfalso
          rw [z1', List.getElem?_append_left q] at ev
          have := (rz_L_mem (List.mem_of_getElem? ev)).1
          omega
        · exact q
      · refine ih (st + 1) ((lo + hi) / 2 + 1) hi (by omega) ?_ h3 h4 (by omega)
        rcases Nat.lt_or_ge ((lo + hi) / 2) (rz_L P T pos).length with q | q
        · exact q
        · exfalso
          rw [z1', List.getElem?_append_right q] at ev
          have := z2 v (List.mem_of_getElem? ev)
          omega
end
end
section
/-! the relation -/
def ii_F (mr ml lt : Nat) (us : Nat → Nat) (E0 : Nat → List Nat) (used kinds partA partB lens beg : Nat → Int32) : Prop :=
  mr ≤ 16 ∧ ml ≤ 512 ∧ us 0 ≤ mr ∧ us 1 ≤ mr ∧ used 0 = nI (us 0) ∧ used 1 = nI (us 1) ∧ ri_GR lt us E0 kinds partA partB lens ∧ beg 0 = 0
/-- the two keep the same limits, the same symbols; the strings of the symbols are E0 -/
def i_Rel (k : Nat) (u : SX) (v : SY) : Prop := match u with
  | (f_maxRules, f_maxLength, f_letters, f_ref, f_room, f_out, f_head, f_rootP, f_rootT, f_broken, f_inLeft, f_inRight, f_size, f_fresh, f_blocking, f_headBase, f_headExp, f_headMark, f_tailBase, f_tailExp, f_tailCut, f_tailMark, a_used, a_kinds, a_partA, a_partB, a_lens, a_cur, a_next, a_begin, a_popL, a_popR, a_need, a_keyA, a_keyB, a_weight, a_part, a_remap, a_hits, a_span) => match v with
    | (g_ruleLimit, g_lengthLimit, g_letterLimit, b_size, b_kinds, b_part0, b_part1, b_lengths) => ∃ (mr ml lt : Nat) (us : Nat → Nat) (E0 : Nat → List Nat), f_maxRules = nI mr ∧ f_maxLength = nI ml ∧ f_letters = nI lt ∧ g_ruleLimit = nI mr ∧ g_lengthLimit = nI ml ∧ g_letterLimit = nI lt ∧ b_size = a_used ∧ b_kinds = a_kinds ∧ b_part0 = a_partA ∧ b_part1 = a_partB ∧ b_lengths = a_lens ∧ ii_F mr ml lt us E0 a_used a_kinds a_partA a_partB a_lens a_begin
theorem i_up {k : Nat} {u : SX} {v : SY} (h : i_Rel k u v) : i_Rel (k + 4) u v := h
theorem ii_el {k : Nat} {u : SX} {v : SY} {Q : SX → SY → Prop} (h : ∀ (mr ml lt : Nat) (us : Nat → Nat) (E0 : Nat → List Nat) (f_ref : Int32) (f_room : Int32) (f_out : Int32) (f_head : Int32) (f_rootP : Int32) (f_rootT : Int32) (f_broken : Int32) (f_inLeft : Int32) (f_inRight : Int32) (f_size : Int32) (f_fresh : Int32) (f_blocking : Int32) (f_headBase : Int32) (f_headExp : Int32) (f_headMark : Int32) (f_tailBase : Int32) (f_tailExp : Int32) (f_tailCut : Int32) (f_tailMark : Int32) (a_used : Nat → Int32) (a_kinds : Nat → Int32) (a_partA : Nat → Int32) (a_partB : Nat → Int32) (a_lens : Nat → Int32) (a_cur : Nat → Int64) (a_next : Nat → Int64) (a_begin : Nat → Int32) (a_popL : Nat → Int32) (a_popR : Nat → Int32) (a_need : Nat → Int32) (a_keyA : Nat → Int32) (a_keyB : Nat → Int32) (a_weight : Nat → Int32) (a_part : Nat → Int32) (a_remap : Nat → Int32) (a_hits : Nat → Int32) (a_span : Nat → Int32), ii_F mr ml lt us E0 a_used a_kinds a_partA a_partB a_lens a_begin → Q (nI mr, nI ml, nI lt, f_ref, f_room, f_out, f_head, f_rootP, f_rootT, f_broken, f_inLeft, f_inRight, f_size, f_fresh, f_blocking, f_headBase, f_headExp, f_headMark, f_tailBase, f_tailExp, f_tailCut, f_tailMark, a_used, a_kinds, a_partA, a_partB, a_lens, a_cur, a_next, a_begin, a_popL, a_popR, a_need, a_keyA, a_keyB, a_weight, a_part, a_remap, a_hits, a_span) (nI mr, nI ml, nI lt, a_used, a_kinds, a_partA, a_partB, a_lens)) (I : i_Rel k u v) : Q u v := by
  obtain ⟨f_maxRules, f_maxLength, f_letters, f_ref, f_room, f_out, f_head, f_rootP, f_rootT, f_broken, f_inLeft, f_inRight, f_size, f_fresh, f_blocking, f_headBase, f_headExp, f_headMark, f_tailBase, f_tailExp, f_tailCut, f_tailMark, a_used, a_kinds, a_partA, a_partB, a_lens, a_cur, a_next, a_begin, a_popL, a_popR, a_need, a_keyA, a_keyB, a_weight, a_part, a_remap, a_hits, a_span⟩ := u
  obtain ⟨g_ruleLimit, g_lengthLimit, g_letterLimit, b_size, b_kinds, b_part0, b_part1, b_lengths⟩ := v
  obtain ⟨mr, ml, lt, us, E0, rfl, rfl, rfl, rfl, rfl, rfl, rfl, rfl, rfl, rfl, rfl, hF⟩ := I
  exact h mr ml lt us E0 _ _ _ _ _ _ _ _ _ _ _ _ _ _ _ _ _ _ _ _ _ _ _ _ _ _ _ _ _ _ _ _ _ _ _ _ _ hF
section
variable {f_maxRules f_maxLength f_letters f_ref f_room f_out f_head f_rootP f_rootT f_broken f_inLeft f_inRight f_size f_fresh f_blocking f_headBase f_headExp f_headMark f_tailBase f_tailExp f_tailCut f_tailMark : Int32} {a_used a_kinds a_partA a_partB a_lens a_begin a_popL a_popR a_need a_keyA a_keyB a_weight a_part a_remap a_hits a_span : Nat → Int32} {a_cur a_next : Nat → Int64}
variable {mr ml lt : Nat} {us : Nat → Nat} {E0 : Nat → List Nat}
theorem ii_mk {k : Nat} (h : ii_F mr ml lt us E0 a_used a_kinds a_partA a_partB a_lens a_begin) : i_Rel k (nI mr, nI ml, nI lt, f_ref, f_room, f_out, f_head, f_rootP, f_rootT, f_broken, f_inLeft, f_inRight, f_size, f_fresh, f_blocking, f_headBase, f_headExp, f_headMark, f_tailBase, f_tailExp, f_tailCut, f_tailMark, a_used, a_kinds, a_partA, a_partB, a_lens, a_cur, a_next, a_begin, a_popL, a_popR, a_need, a_keyA, a_keyB, a_weight, a_part, a_remap, a_hits, a_span) (nI mr, nI ml, nI lt, a_used, a_kinds, a_partA, a_partB, a_lens) :=
  ⟨mr, ml, lt, us, E0, rfl, rfl, rfl, rfl, rfl, rfl, rfl, rfl, rfl, rfl, rfl, h⟩
end
theorem ii_V {us : Nat → Nat} {sd s : Nat} (hsd : sd < 2) (hs : s < us sd) (h16 : us sd ≤ 16) : ri_V us (sd * 16 + s) := by
  refine ⟨by omega, ?_⟩
  rw [show (sd * 16 + s) % 16 = s by omega, show (sd * 16 + s) / 16 = sd by omega]
  exact hs
theorem ii_u {mr ml lt : Nat} {us : Nat → Nat} {E0 : Nat → List Nat} {used kinds partA partB lens beg : Nat → Int32} (h : ii_F mr ml lt us E0 used kinds partA partB lens beg) {sd : Nat} (hsd : sd < 2) : used sd = nI (us sd) ∧ us sd ≤ mr ∧ us sd ≤ 16 := by
  obtain ⟨h1, h2, h3, h4, h5, h6, h7, h8⟩ := h
  rcases Nat.lt_or_ge sd 1 with q | q
  · have : sd = 0 := by omega
    subst this; exact ⟨h5, h3, by omega⟩
  · have : sd = 1 := by omega
    subst this; exact ⟨h6, h4, by omega⟩
def ii_us (us : Nat → Nat) (sd v : Nat) (t : Nat) : Nat := if t = sd then v else us t
theorem ii_low {lt : Nat} {us us' : Nat → Nat} {E0 : Nat → List Nat} {kinds partA partB lens : Nat → Int32} (h : ri_GR lt us E0 kinds partA partB lens) (hu : ∀ t, us' t ≤ us t) : ri_GR lt us' E0 kinds partA partB lens :=
  ⟨h.1, fun x hx => h.2 x ⟨hx.1, Nat.lt_of_lt_of_le hx.2 (hu _)⟩⟩
theorem ii_Flow {mr ml lt : Nat} {us : Nat → Nat} {E0 : Nat → List Nat} {used kinds partA partB lens beg : Nat → Int32} (h : ii_F mr ml lt us E0 used kinds partA partB lens beg) {sd v : Nat} (hsd : sd < 2) (hv : v ≤ us sd) : ii_F mr ml lt (ii_us us sd v) E0 (upd used sd (nI v)) kinds partA partB lens beg := by
  have hle : ∀ t, ii_us us sd v t ≤ us t := by
    intro t
    unfold ii_us
    by_cases q : t = sd
    · rw [if_pos q, q]; exact hv
    · rw [if_neg q]; exact Nat.le_refl _
  have hup : ∀ t, used t = nI (us t) → upd used sd (nI v) t = nI (ii_us us sd v t) := by
    intro t ht
    unfold ii_us
    by_cases q : t = sd
    · subst q; rw [pk_us, if_pos rfl]
    · rw [pk_un q, if_neg q]; exact ht
  obtain ⟨h1, h2, h3, h4, h5, h6, h7, h8⟩ := h
  exact ⟨h1, h2, Nat.le_trans (hle 0) h3, Nat.le_trans (hle 1) h4, hup 0 h5, hup 1 h6, ii_low h7 hle, h8⟩
theorem ii_add {mr ml lt : Nat} {us : Nat → Nat} {E0 : Nat → List Nat} {used kinds partA partB lens beg : Nat → Int32} (h : ii_F mr ml lt us E0 used kinds partA partB lens beg) {sd : Nat} (hsd : sd < 2) (hs : us sd < mr) {W : List Nat} {kd pa pb ln : Int32} (hW : W.length ≤ 512 ∧ W ≠ [] ∧ ln = nI W.length ∧ ((kd = 1 ∧ ∃ l, l < lt ∧ pa = nI l ∧ W = [l]) ∨ (kd = 2 ∧ ∃ p q, p < us sd ∧ q < us sd ∧ pa = nI p ∧ pb = nI q ∧ W = E0 (sd * 16 + p) ++ E0 (sd * 16 + q)))) : ii_F mr ml lt (ii_us us sd (us sd + 1)) (rs_up E0 (sd * 16 + us sd) W) (upd used sd (nI (us sd + 1))) (upd kinds (sd * 16 + us sd) kd) (upd partA (sd * 16 + us sd) pa) (upd partB (sd * 16 + us sd) pb) (upd lens (sd * 16 + us sd) ln) beg := by
  have hup : ∀ t, used t = nI (us t) → upd used sd (nI (us sd + 1)) t = nI (ii_us us sd (us sd + 1) t) := by
    intro t ht
    unfold ii_us
    by_cases q : t = sd
    · subst q; rw [pk_us, if_pos rfl]
    · rw [pk_un q, if_neg q]; exact ht
  have hle : ∀ t, us t ≤ mr → ii_us us sd (us sd + 1) t ≤ mr := by
    intro t ht
    unfold ii_us
    by_cases q : t = sd
    · rw [if_pos q]; omega
    · rw [if_neg q]; exact ht
  obtain ⟨h1, h2, h3, h4, h5, h6, ⟨h7a, h7⟩, h8⟩ := h
  refine ⟨h1, h2, hle 0 h3, hle 1 h4, hup 0 h5, hup 1 h6, ⟨h7a, fun y hy => ?_⟩, h8⟩
  by_cases q : y = sd * 16 + us sd
  · subst q
    rw [rs_up_s, pk_us, pk_us, pk_us, pk_us]
    obtain ⟨w1, w2, w3, w4⟩ := hW
    refine ⟨w1, w2, w3, ?_⟩
    rcases w4 with w | ⟨w5, p, r, hp, hr, ep, er, e0⟩
    · exact Or.inl w
    · refine Or.inr ⟨w5, p, r, by omega, by omega, ep, er, ?_⟩
      rw [show (sd * 16 + us sd) / 16 * 16 = sd * 16 by omega, rs_up_n (by omega), rs_up_n (by omega)]
      exact e0
  · have hV : ri_V us y := by
      obtain ⟨y1, y2⟩ := hy
      refine ⟨y1, ?_⟩
      unfold ii_us at y2
      by_cases z : y / 16 = sd
      · rw [if_pos z] at y2
        rw [z]; omega
      · rw [if_neg z] at y2; exact y2
    rw [rs_up_n q, pk_un q, pk_un q, pk_un q, pk_un q]
    obtain ⟨w1, w2, w3, w4⟩ := h7 y hV
    refine ⟨w1, w2, w3, ?_⟩
    rcases w4 with w | ⟨w5, p, r, hp, hr, ep, er, e0⟩
    · exact Or.inl w
    · refine Or.inr ⟨w5, p, r, hp, hr, ep, er, ?_⟩
      have hV2 := hV.2
      rw [rs_up_n, rs_up_n]
      · exact e0
      · intro z
        have z1 : y / 16 = sd := by omega
        rw [z1] at hV2; omega
      · intro z
        have z1 : y / 16 = sd := by omega
        rw [z1] at hV2; omega
end
section
/-! the small methods -/
section
variable {f_maxRules f_maxLength f_letters f_ref f_room f_out f_head f_rootP f_rootT f_broken f_inLeft f_inRight f_size f_fresh f_blocking f_headBase f_headExp f_headMark f_tailBase f_tailExp f_tailCut f_tailMark : Int32} {a_used a_kinds a_partA a_partB a_lens a_begin a_popL a_popR a_need a_keyA a_keyB a_weight a_part a_remap a_hits a_span : Nat → Int32} {a_cur a_next : Nat → Int64}
variable {g_ruleLimit g_lengthLimit g_letterLimit : Int32} {b_size b_kinds b_part0 b_part1 b_lengths : Nat → Int32}
theorem rx_side_ok {post : Int32 → Prop} {sd : Nat} (h : sd < 2) (hp : post 0) : wpX_badSide post (f_maxRules, f_maxLength, f_letters, f_ref, f_room, f_out, f_head, f_rootP, f_rootT, f_broken, f_inLeft, f_inRight, f_size, f_fresh, f_blocking, f_headBase, f_headExp, f_headMark, f_tailBase, f_tailExp, f_tailCut, f_tailMark, a_used, a_kinds, a_partA, a_partB, a_lens, a_cur, a_next, a_begin, a_popL, a_popR, a_need, a_keyA, a_keyB, a_weight, a_part, a_remap, a_hits, a_span) (nI sd) := by
  refine pk_eq sd 0 (fun _ => hp) (fun q => pk_eq sd 1 (fun _ => hp) (fun z => by omega))
theorem ry_side_ok {post : Int32 → Prop} {sd : Nat} (h : sd < 2) (hp : post 0) : wpY_noSide post (g_ruleLimit, g_lengthLimit, g_letterLimit, b_size, b_kinds, b_part0, b_part1, b_lengths) (nI sd) := by
  refine pk_eq sd 0 (fun _ => hp) (fun q => pk_eq sd 1 (fun _ => hp) (fun z => by omega))
theorem rx_side_no {post : Int32 → Prop} {v : Int32} (h : ¬ ∃ sd, sd < 2 ∧ v = nI sd) (hp : post 1) : wpX_badSide post (f_maxRules, f_maxLength, f_letters, f_ref, f_room, f_out, f_head, f_rootP, f_rootT, f_broken, f_inLeft, f_inRight, f_size, f_fresh, f_blocking, f_headBase, f_headExp, f_headMark, f_tailBase, f_tailExp, f_tailCut, f_tailMark, a_used, a_kinds, a_partA, a_partB, a_lens, a_cur, a_next, a_begin, a_popL, a_popR, a_need, a_keyA, a_keyB, a_weight, a_part, a_remap, a_hits, a_span) v :=
  br_f (fun e => h ⟨0, by omega, e⟩) (br_f (fun e => h ⟨1, by omega, e⟩) hp)
theorem ry_side_no {post : Int32 → Prop} {v : Int32} (h : ¬ ∃ sd, sd < 2 ∧ v = nI sd) (hp : post 1) : wpY_noSide post (g_ruleLimit, g_lengthLimit, g_letterLimit, b_size, b_kinds, b_part0, b_part1, b_lengths) v :=
  br_f (fun e => h ⟨0, by omega, e⟩) (br_f (fun e => h ⟨1, by omega, e⟩) hp)
theorem rx_sym_ok {post : Int32 → Prop} {sd s m : Nat} (hsd : sd < 2) (hu : a_used sd = nI m) (hm : m ≤ 16) (hs : s < m) (hp : post 0) : wpX_badSymbol post (f_maxRules, f_maxLength, f_letters, f_ref, f_room, f_out, f_head, f_rootP, f_rootT, f_broken, f_inLeft, f_inRight, f_size, f_fresh, f_blocking, f_headBase, f_headExp, f_headMark, f_tailBase, f_tailExp, f_tailCut, f_tailMark, a_used, a_kinds, a_partA, a_partB, a_lens, a_cur, a_next, a_begin, a_popL, a_popR, a_need, a_keyA, a_keyB, a_weight, a_part, a_remap, a_hits, a_span) (nI sd) (nI s) := by
  unfold wpX_badSymbol
  dsimp only
  rw [nI_clamp (by omega), hu]
  exact br_f (nI_pos (by omega)) ⟨vp_in_nI hsd (by omega), pk_lt s m (fun _ => hp) (fun z => by omega)⟩
theorem ry_sym_ok {post : Int32 → Prop} {sd s m : Nat} (hsd : sd < 2) (hu : b_size sd = nI m) (hm : m ≤ 16) (hs : s < m) (hp : post 0) : wpY_noSymbol post (g_ruleLimit, g_lengthLimit, g_letterLimit, b_size, b_kinds, b_part0, b_part1, b_lengths) (nI sd) (nI s) := by
  unfold wpY_noSymbol
  dsimp only
  rw [nI_clamp (by omega), hu]
  exact br_f (nI_pos (by omega)) ⟨vp_in_nI hsd (by omega), pk_lt s m (fun _ => hp) (fun z => by omega)⟩
theorem rx_sym_no {post : Int32 → Prop} {sd m : Nat} {v : Int32} (hsd : sd < 2) (hu : a_used sd = nI m) (hm : m ≤ 16) (hs : ¬ ∃ s, s < m ∧ v = nI s) (hp : post 1) : wpX_badSymbol post (f_maxRules, f_maxLength, f_letters, f_ref, f_room, f_out, f_head, f_rootP, f_rootT, f_broken, f_inLeft, f_inRight, f_size, f_fresh, f_blocking, f_headBase, f_headExp, f_headMark, f_tailBase, f_tailExp, f_tailCut, f_tailMark, a_used, a_kinds, a_partA, a_partB, a_lens, a_cur, a_next, a_begin, a_popL, a_popR, a_need, a_keyA, a_keyB, a_weight, a_part, a_remap, a_hits, a_span) (nI sd) v := by
  unfold wpX_badSymbol
  dsimp only
  rw [nI_clamp (by omega), hu]
  refine br_c (fun _ => hp) (fun h0 => ⟨vp_in_nI hsd (by omega), br_c (fun h1 => ?_) (fun _ => hp)⟩)
  obtain ⟨j, hj, rfl⟩ := nI_of h0
  rw [nI_ltI hj (by omega)] at h1
  exact absurd ⟨j, h1, rfl⟩ hs
theorem ry_sym_no {post : Int32 → Prop} {sd m : Nat} {v : Int32} (hsd : sd < 2) (hu : b_size sd = nI m) (hm : m ≤ 16) (hs : ¬ ∃ s, s < m ∧ v = nI s) (hp : post 1) : wpY_noSymbol post (g_ruleLimit, g_lengthLimit, g_letterLimit, b_size, b_kinds, b_part0, b_part1, b_lengths) (nI sd) v := by
  unfold wpY_noSymbol
  dsimp only
  rw [nI_clamp (by omega), hu]
  refine br_c (fun _ => hp) (fun h0 => ⟨vp_in_nI hsd (by omega), br_c (fun h1 => ?_) (fun _ => hp)⟩)
  obtain ⟨j, hj, rfl⟩ := nI_of h0
  rw [nI_ltI hj (by omega)] at h1
  exact absurd ⟨j, h1, rfl⟩ hs
theorem rx_qry_ok {post : Int32 → Prop} {i j m0 m1 : Nat} (hu0 : a_used 0 = nI m0) (hu1 : a_used 1 = nI m1) (hm0 : m0 ≤ 16) (hm1 : m1 ≤ 16) (hi : i < m0) (hj : j < m1) (hp : post 0) : wpX_badQuery post (f_maxRules, f_maxLength, f_letters, f_ref, f_room, f_out, f_head, f_rootP, f_rootT, f_broken, f_inLeft, f_inRight, f_size, f_fresh, f_blocking, f_headBase, f_headExp, f_headMark, f_tailBase, f_tailExp, f_tailCut, f_tailMark, a_used, a_kinds, a_partA, a_partB, a_lens, a_cur, a_next, a_begin, a_popL, a_popR, a_need, a_keyA, a_keyB, a_weight, a_part, a_remap, a_hits, a_span) (nI i) (nI j) := by
  unfold wpX_badQuery
  exact rx_sym_ok (sd := 0) (by omega) hu0 hm0 hi (br_t rfl (rx_sym_ok (sd := 1) (by omega) hu1 hm1 hj (br_t rfl hp)))
theorem ry_qry_ok {post : Int32 → Prop} {i j m0 m1 : Nat} (hu0 : b_size 0 = nI m0) (hu1 : b_size 1 = nI m1) (hm0 : m0 ≤ 16) (hm1 : m1 ≤ 16) (hi : i < m0) (hj : j < m1) (hp : post 0) : wpY_badCouple post (g_ruleLimit, g_lengthLimit, g_letterLimit, b_size, b_kinds, b_part0, b_part1, b_lengths) (nI i) (nI j) := by
  unfold wpY_badCouple
  exact ry_sym_ok (sd := 0) (by omega) hu0 hm0 hi (br_t rfl (ry_sym_ok (sd := 1) (by omega) hu1 hm1 hj (br_t rfl hp)))
theorem rx_qry_no {post : Int32 → Prop} {v1 v2 : Int32} {m0 m1 : Nat} (hu0 : a_used 0 = nI m0) (hu1 : a_used 1 = nI m1) (hm0 : m0 ≤ 16) (hm1 : m1 ≤ 16) (h : ¬ ((∃ i, i < m0 ∧ v1 = nI i) ∧ ∃ j, j < m1 ∧ v2 = nI j)) (hp : post 1) : wpX_badQuery post (f_maxRules, f_maxLength, f_letters, f_ref, f_room, f_out, f_head, f_rootP, f_rootT, f_broken, f_inLeft, f_inRight, f_size, f_fresh, f_blocking, f_headBase, f_headExp, f_headMark, f_tailBase, f_tailExp, f_tailCut, f_tailMark, a_used, a_kinds, a_partA, a_partB, a_lens, a_cur, a_next, a_begin, a_popL, a_popR, a_need, a_keyA, a_keyB, a_weight, a_part, a_remap, a_hits, a_span) v1 v2 := by
  unfold wpX_badQuery
  by_cases h1 : ∃ i, i < m0 ∧ v1 = nI i
  · have h2 : ¬ ∃ j, j < m1 ∧ v2 = nI j := fun z => h ⟨h1, z⟩
    obtain ⟨i, hi, rfl⟩ := h1
    exact rx_sym_ok (sd := 0) (by omega) hu0 hm0 hi (br_t rfl (rx_sym_no (sd := 1) (by omega) hu1 hm1 h2 (br_f (by decide) hp)))
  · exact rx_sym_no (sd := 0) (by omega) hu0 hm0 h1 (br_f (by decide) hp)
theorem ry_qry_no {post : Int32 → Prop} {v1 v2 : Int32} {m0 m1 : Nat} (hu0 : b_size 0 = nI m0) (hu1 : b_size 1 = nI m1) (hm0 : m0 ≤ 16) (hm1 : m1 ≤ 16) (h : ¬ ((∃ i, i < m0 ∧ v1 = nI i) ∧ ∃ j, j < m1 ∧ v2 = nI j)) (hp : post 1) : wpY_badCouple post (g_ruleLimit, g_lengthLimit, g_letterLimit, b_size, b_kinds, b_part0, b_part1, b_lengths) v1 v2 := by
  unfold wpY_badCouple
  by_cases h1 : ∃ i, i < m0 ∧ v1 = nI i
  · have h2 : ¬ ∃ j, j < m1 ∧ v2 = nI j := fun z => h ⟨h1, z⟩
    obtain ⟨i, hi, rfl⟩ := h1
    exact ry_sym_ok (sd := 0) (by omega) hu0 hm0 hi (br_t rfl (ry_sym_no (sd := 1) (by omega) hu1 hm1 h2 (br_f (by decide) hp)))
  · exact ry_sym_no (sd := 0) (by omega) hu0 hm0 h1 (br_f (by decide) hp)
theorem ii_16 (sd s : Nat) : nI sd * 16 + nI s = nI (sd * 16 + s) := by
  rw [show (16 : Int32) = nI 16 from rfl, pk_mul, nI_add]
theorem rx_addRule {post : Int32 → SX → Prop} {sd m : Nat} {kd pa pb ln : Int32} (hsd : sd < 2) (hu : a_used sd = nI m) (hm : m < 16) (hp : post (nI m) (f_maxRules, f_maxLength, f_letters, f_ref, f_room, f_out, f_head, f_rootP, f_rootT, f_broken, f_inLeft, f_inRight, f_size, f_fresh, f_blocking, f_headBase, f_headExp, f_headMark, f_tailBase, f_tailExp, f_tailCut, f_tailMark, upd a_used sd (nI (m + 1)), upd a_kinds (sd * 16 + m) kd, upd a_partA (sd * 16 + m) pa, upd a_partB (sd * 16 + m) pb, upd a_lens (sd * 16 + m) ln, a_cur, a_next, a_begin, a_popL, a_popR, a_need, a_keyA, a_keyB, a_weight, a_part, a_remap, a_hits, a_span)) : wpX_addRule post (f_maxRules, f_maxLength, f_letters, f_ref, f_room, f_out, f_head, f_rootP, f_rootT, f_broken, f_inLeft, f_inRight, f_size, f_fresh, f_blocking, f_headBase, f_headExp, f_headMark, f_tailBase, f_tailExp, f_tailCut, f_tailMark, a_used, a_kinds, a_partA, a_partB, a_lens, a_cur, a_next, a_begin, a_popL, a_popR, a_need, a_keyA, a_keyB, a_weight, a_part, a_remap, a_hits, a_span) (nI sd) kd pa pb ln := by
  unfold wpX_addRule
  dsimp only
  have hv : vp_in (nI sd) 2 := vp_in_nI hsd (by omega)
  have hx : vp_in (nI (sd * 16 + m)) 32 := vp_in_nI (by omega) (by omega)
  rw [nI_clamp (by omega)]
  refine ⟨hv, nm_r hu (nm_r (ii_16 sd m) ?_)⟩
  rw [nI_clamp (by omega), nI_1]
  exact ⟨hx, nm_e ⟨hx, nm_e ⟨hx, nm_e ⟨hx, nm_e ⟨hv, nm_e hp⟩⟩⟩⟩⟩
theorem ry_append {post : Int32 → SY → Prop} {sd m : Nat} {kd pa pb ln : Int32} (hsd : sd < 2) (hu : b_size sd = nI m) (hm : m < 16) (hp : post (nI m) (g_ruleLimit, g_lengthLimit, g_letterLimit, upd b_size sd (nI (m + 1)), upd b_kinds (sd * 16 + m) kd, upd b_part0 (sd * 16 + m) pa, upd b_part1 (sd * 16 + m) pb, upd b_lengths (sd * 16 + m) ln)) : wpY_append post (g_ruleLimit, g_lengthLimit, g_letterLimit, b_size, b_kinds, b_part0, b_part1, b_lengths) (nI sd) kd pa pb ln := by
  unfold wpY_append
  dsimp only
  have hv : vp_in (nI sd) 2 := vp_in_nI hsd (by omega)
  have hx : vp_in (nI (sd * 16 + m)) 32 := vp_in_nI (by omega) (by omega)
  rw [nI_clamp (by omega)]
  refine ⟨hv, nm_r hu (nm_r (ii_16 sd m) ?_)⟩
  rw [nI_clamp (by omega), nI_1]
  exact ⟨hx, nm_e ⟨hx, nm_e ⟨hx, nm_e ⟨hx, nm_e ⟨hv, nm_e hp⟩⟩⟩⟩⟩
end
theorem ii_clamp (v : Int32) (lo hi : Nat) (h : lo ≤ hi) (hh : hi ≤ 512) : ∃ m, lo ≤ m ∧ m ≤ hi ∧ (∀ (u : SX) (post : Int32 → Prop), post (nI m) → wpX_clamp post u v (nI lo) (nI hi)) ∧ (∀ (u : SY) (post : Int32 → Prop), post (nI m) → wpY_clamp post u v (nI lo) (nI hi)) := by
  by_cases h1 : nI lo ≤ v
  · by_cases h2 : v ≤ nI hi
    · have h0 : ¬ v < 0 := by
        intro z
        rw [Int32.lt_iff_toInt_lt] at z
        rw [Int32.le_iff_toInt_le, nI_toInt (by omega)] at h1
        have : (0 : Int32).toInt = 0 := by decide
        omega
      obtain ⟨m, hm, rfl⟩ := nI_of h0
      rw [nI_leI (by omega) hm] at h1
      rw [nI_leI hm (by omega)] at h2
      exact ⟨m, h1, h2, fun u post hp => br_t (nI_le h1 hm) (br_t (nI_le h2 (by omega)) hp), fun u post hp => br_t (nI_le h1 hm) (br_t (nI_le h2 (by omega)) hp)⟩
    · exact ⟨hi, h, Nat.le_refl _, fun u post hp => br_t h1 (br_f h2 hp), fun u post hp => br_t h1 (br_f h2 hp)⟩
  · exact ⟨lo, Nat.le_refl _, h, fun u post hp => br_f h1 hp, fun u post hp => br_f h1 hp⟩
theorem i_vc0 (k0 : Int32) (k1 : Int32) (k2 : Int32) : wpX_init (fun u => wpY_init (fun v => i_Rel 3 u v) k0 k1 k2) k0 k1 k2 := by
  obtain ⟨mr, a1, a2, a3, a4⟩ := ii_clamp k0 4 16 (by omega) (by omega)
  obtain ⟨ml, b1, b2, b3, b4⟩ := ii_clamp k1 8 512 (by omega) (by omega)
  obtain ⟨lt, c1, c2, c3, c4⟩ := ii_clamp k2 2 8 (by omega) (by omega)
  refine a3 _ _ (b3 _ _ (c3 _ _ (a4 _ _ (b4 _ _ (c4 _ _ ?_)))))
  refine ii_mk (us := fun _ => 0) (E0 := fun _ => []) ⟨a2, b2, Nat.zero_le _, Nat.zero_le _, rfl, rfl, ⟨c2, fun x hx => absurd hx.2 (Nat.not_lt_zero _)⟩, rfl⟩
theorem i_vc_limit {k : Nat} {u : SX} {v : SY} (I : i_Rel k u v) (hk : k + 4 ≤ 2051) (v1 : Int32) : wpX_limit (fun r => wpY_limit (fun r' => r' = r ∧ i_Rel (k + 4) u v) v v1) u v1 := by
  refine ii_el (Q := fun u v => wpX_limit (fun r => wpY_limit (fun r' => r' = r ∧ i_Rel (k + 4) u v) v v1) u v1) ?_ I
  intro mr ml lt us E0 f_ref f_room f_out f_head f_rootP f_rootT f_broken f_inLeft f_inRight f_size f_fresh f_blocking f_headBase f_headExp f_headMark f_tailBase f_tailExp f_tailCut f_tailMark a_used a_kinds a_partA a_partB a_lens a_cur a_next a_begin a_popL a_popR a_need a_keyA a_keyB a_weight a_part a_remap a_hits a_span hF
  refine br_c (fun h => br_t h ⟨rfl, ii_mk hF⟩) (fun h => br_c (fun h2 => br_f h (br_t h2 ⟨rfl, ii_mk hF⟩)) (fun h2 => br_c (fun h3 => br_f h (br_f h2 (br_t h3 ⟨rfl, ii_mk hF⟩))) (fun h3 => br_f h (br_f h2 (br_f h3 ⟨rfl, ii_mk hF⟩)))))
theorem i_vc_addTerminal {k : Nat} {u : SX} {v : SY} (I : i_Rel k u v) (hk : k + 4 ≤ 2051) (v1 : Int32) (v2 : Int32) : wpX_addTerminal (fun r u' => wpY_addTerminal (fun r' v' => r' = r ∧ i_Rel (k + 4) u' v') v v1 v2) u v1 v2 := by
  refine ii_el (Q := fun u v => wpX_addTerminal (fun r u' => wpY_addTerminal (fun r' v' => r' = r ∧ i_Rel (k + 4) u' v') v v1 v2) u v1 v2) ?_ I
  intro mr ml lt us E0 f_ref f_room f_out f_head f_rootP f_rootT f_broken f_inLeft f_inRight f_size f_fresh f_blocking f_headBase f_headExp f_headMark f_tailBase f_tailExp f_tailCut f_tailMark a_used a_kinds a_partA a_partB a_lens a_cur a_next a_begin a_popL a_popR a_need a_keyA a_keyB a_weight a_part a_remap a_hits a_span hF
  unfold wpX_addTerminal wpY_addTerminal
  by_cases hs : ∃ sd, sd < 2 ∧ v1 = nI sd
  · obtain ⟨sd, hsd, rfl⟩ := hs
    obtain ⟨u1, u2, u3⟩ := ii_u hF hsd
    have hmr := hF.1
    refine rx_side_ok hsd (br_t rfl ?_)
    refine br_c (fun h0 => ry_side_ok hsd (br_t rfl (br_t h0 ⟨rfl, ii_mk hF⟩))) (fun h0 => ?_)
    obtain ⟨l, hl, rfl⟩ := nI_of h0
    have hlt := hF.2.2.2.2.2.2.1.1
    have hv : vp_in (nI sd) 2 := vp_in_nI hsd (by omega)
    refine pk_lt l lt (fun h1 => ⟨hv, ?_⟩) (fun h1 => ry_side_ok hsd (br_t rfl (br_f h0 (br_f (nI_nlt h1 hl) ⟨rfl, ii_mk hF⟩))))
    rw [nI_clamp (by omega), u1]
    refine pk_lt (us sd) mr (fun h2 => rx_addRule hsd u1 (by omega) ?_) (fun h2 => ry_side_ok hsd (br_t rfl (br_f h0 (br_t (nI_lt h1 (by omega)) ⟨hv, br_f ?_ ⟨rfl, ii_mk hF⟩⟩))))
    · refine ry_side_ok hsd (br_t rfl (br_f h0 (br_t (nI_lt h1 (by omega)) ⟨hv, ?_⟩)))
      rw [u1]
      refine br_t (nI_lt h2 (by omega)) (ry_append hsd u1 (by omega) ⟨rfl, ?_⟩)
      exact ii_mk (ii_add hF hsd h2 (W := [l]) ⟨by simp, (fun z => by cases z), rfl, Or.inl ⟨rfl, l, h1, rfl, rfl⟩⟩)
    · rw [u1]
      exact nI_nlt h2 (by omega)
  · exact rx_side_no hs (br_f (by decide) (ry_side_no hs (br_f (by decide) ⟨rfl, ii_mk hF⟩)))
end
section
/-! symbols: adding, dropping, reading -/
theorem i_vc_addPair {k : Nat} {u : SX} {v : SY} (I : i_Rel k u v) (hk : k + 4 ≤ 2051) (v1 : Int32) (v2 : Int32) (v3 : Int32) : wpX_addPair (fun r u' => wpY_addPair (fun r' v' => r' = r ∧ i_Rel (k + 4) u' v') v v1 v2 v3) u v1 v2 v3 := by
  refine ii_el (Q := fun u v => wpX_addPair (fun r u' => wpY_addPair (fun r' v' => r' = r ∧ i_Rel (k + 4) u' v') v v1 v2 v3) u v1 v2 v3) ?_ I
  intro mr ml lt us E0 f_ref f_room f_out f_head f_rootP f_rootT f_broken f_inLeft f_inRight f_size f_fresh f_blocking f_headBase f_headExp f_headMark f_tailBase f_tailExp f_tailCut f_tailMark a_used a_kinds a_partA a_partB a_lens a_cur a_next a_begin a_popL a_popR a_need a_keyA a_keyB a_weight a_part a_remap a_hits a_span hF
  by_cases hs : ∃ sd, sd < 2 ∧ v1 = nI sd
  · obtain ⟨sd, hsd, rfl⟩ := hs
    obtain ⟨u1, u2, u3⟩ := ii_u hF hsd
    have hmr := hF.1
    have hG := hF.2.2.2.2.2.2.1
    have hv : vp_in (nI sd) 2 := vp_in_nI hsd (by omega)
    by_cases h1 : ∃ s, s < us sd ∧ v2 = nI s
    · obtain ⟨p, hp, rfl⟩ := h1
      by_cases h2 : ∃ s, s < us sd ∧ v3 = nI s
      · obtain ⟨q, hq, rfl⟩ := h2
        obtain ⟨e1, e2, e3, _⟩ := hG.2 _ (ii_V hsd hp u3)
        obtain ⟨d1, d2, d3, _⟩ := hG.2 _ (ii_V hsd hq u3)
        have hml := hF.2.1
        have vp : vp_in (nI (sd * 16 + p)) 32 := vp_in_nI (by omega) (by omega)
        have vq : vp_in (nI (sd * 16 + q)) 32 := vp_in_nI (by omega) (by omega)
        have esum : a_lens (nI sd * 16 + nI p).toNatClampNeg + a_lens (nI sd * 16 + nI q).toNatClampNeg = nI ((E0 (sd * 16 + p)).length + (E0 (sd * 16 + q)).length) := by
          rw [ii_16, ii_16, nI_clamp (by omega), nI_clamp (by omega), e3, d3, nI_add]
        have eused : a_used (nI sd).toNatClampNeg = nI (us sd) := by rw [nI_clamp (by omega)]; exact u1
        have vp' : vp_in (nI sd * 16 + nI p) 32 := by rw [ii_16]; exact vp
        have vq' : vp_in (nI sd * 16 + nI q) 32 := by rw [ii_16]; exact vq
        unfold wpX_addPair
        refine rx_side_ok hsd (br_t rfl (rx_sym_ok hsd u1 u3 hp (br_t rfl (rx_sym_ok hsd u1 u3 hq (br_t rfl ⟨hv, ?_⟩)))))
        refine pk_lt (us sd) mr (fun h3 => ⟨vp', vq', nm_r esum ?_⟩) (fun h3 => ?_) eused
        · refine pk_le ((E0 (sd * 16 + p)).length + (E0 (sd * 16 + q)).length) ml (fun h4 => rx_addRule hsd u1 (by omega) ?_) (fun h4 => ?_)
          · unfold wpY_addPair
            refine ry_side_ok hsd (br_t rfl (ry_sym_ok hsd u1 u3 hp (br_t rfl (ry_sym_ok hsd u1 u3 hq (br_t rfl ⟨hv, ?_⟩)))))
            refine pk_lt (us sd) mr (fun _ => ⟨vp', vq', nm_r esum ?_⟩) (fun z => by omega) eused
            refine pk_le ((E0 (sd * 16 + p)).length + (E0 (sd * 16 + q)).length) ml (fun _ => ry_append hsd u1 (by omega) ⟨rfl, ?_⟩) (fun z => by omega)
            exact ii_mk (ii_add hF hsd h3 (W := E0 (sd * 16 + p) ++ E0 (sd * 16 + q)) ⟨by rw [List.length_append]; omega, fun z => e2 (List.append_eq_nil_iff.mp z).1, by rw [List.length_append], Or.inr ⟨rfl, p, q, hp, hq, rfl, rfl, rfl⟩⟩)
          · unfold wpY_addPair
            refine ry_side_ok hsd (br_t rfl (ry_sym_ok hsd u1 u3 hp (br_t rfl (ry_sym_ok hsd u1 u3 hq (br_t rfl ⟨hv, ?_⟩)))))
            refine pk_lt (us sd) mr (fun _ => ⟨vp', vq', nm_r esum ?_⟩) (fun z => by omega) eused
            exact pk_le ((E0 (sd * 16 + p)).length + (E0 (sd * 16 + q)).length) ml (fun z => by omega) (fun _ => ⟨rfl, ii_mk hF⟩)
        · unfold wpY_addPair
          refine ry_side_ok hsd (br_t rfl (ry_sym_ok hsd u1 u3 hp (br_t rfl (ry_sym_ok hsd u1 u3 hq (br_t rfl ⟨hv, ?_⟩)))))
          exact pk_lt (us sd) mr (fun z => by omega) (fun _ => ⟨rfl, ii_mk hF⟩) eused
      · unfold wpX_addPair
        refine rx_side_ok hsd (br_t rfl (rx_sym_ok hsd u1 u3 hp (br_t rfl (rx_sym_no hsd u1 u3 h2 (br_f (by decide) ?_)))))
        unfold wpY_addPair
        exact ry_side_ok hsd (br_t rfl (ry_sym_ok hsd u1 u3 hp (br_t rfl (ry_sym_no hsd u1 u3 h2 (br_f (by decide) ⟨rfl, ii_mk hF⟩)))))
    · unfold wpX_addPair
      refine rx_side_ok hsd (br_t rfl (rx_sym_no hsd u1 u3 h1 (br_f (by decide) ?_)))
      unfold wpY_addPair
      exact ry_side_ok hsd (br_t rfl (ry_sym_no hsd u1 u3 h1 (br_f (by decide) ⟨rfl, ii_mk hF⟩)))
  · unfold wpX_addPair
    refine rx_side_no hs (br_f (by decide) ?_)
    unfold wpY_addPair
    exact ry_side_no hs (br_f (by decide) ⟨rfl, ii_mk hF⟩)
theorem i_vc_dropLast {k : Nat} {u : SX} {v : SY} (I : i_Rel k u v) (hk : k + 4 ≤ 2051) (v1 : Int32) : wpX_dropLast (fun r u' => wpY_dropLast (fun r' v' => r' = r ∧ i_Rel (k + 4) u' v') v v1) u v1 := by
  refine ii_el (Q := fun u v => wpX_dropLast (fun r u' => wpY_dropLast (fun r' v' => r' = r ∧ i_Rel (k + 4) u' v') v v1) u v1) ?_ I
  intro mr ml lt us E0 f_ref f_room f_out f_head f_rootP f_rootT f_broken f_inLeft f_inRight f_size f_fresh f_blocking f_headBase f_headExp f_headMark f_tailBase f_tailExp f_tailCut f_tailMark a_used a_kinds a_partA a_partB a_lens a_cur a_next a_begin a_popL a_popR a_need a_keyA a_keyB a_weight a_part a_remap a_hits a_span hF
  by_cases hs : ∃ sd, sd < 2 ∧ v1 = nI sd
  · obtain ⟨sd, hsd, rfl⟩ := hs
    obtain ⟨u1, u2, u3⟩ := ii_u hF hsd
    have hmr := hF.1
    have hG := hF.2.2.2.2.2.2.1
    have hv : vp_in (nI sd) 2 := vp_in_nI hsd (by omega)
    have eused : a_used (nI sd).toNatClampNeg = nI (us sd) := by rw [nI_clamp (by omega)]; exact u1
    unfold wpX_dropLast
    refine rx_side_ok hsd (br_t rfl ⟨hv, pk_eq (us sd) 0 (fun h0 => ?_) (fun h0 => ?_) eused⟩)
    · unfold wpY_dropLast
      exact ry_side_ok hsd (br_t rfl ⟨hv, pk_eq (us sd) 0 (fun _ => ⟨rfl, ii_mk hF⟩) (fun z => absurd h0 z) eused⟩)
    · obtain ⟨m, hm⟩ : ∃ m, us sd = m + 1 := ⟨us sd - 1, by omega⟩
      have eup : upd a_used (nI sd).toNatClampNeg (a_used (nI sd).toNatClampNeg - 1) = upd a_used sd (nI m) := by
        rw [eused, nI_clamp (by omega), hm, nI_pred]
      have erd : upd a_used sd (nI m) (nI sd).toNatClampNeg = nI m := by rw [nI_clamp (by omega), pk_us]
      refine ⟨hv, hv, nm_r eup ⟨hv, ?_⟩⟩
      unfold wpY_dropLast
      refine ry_side_ok hsd (br_t rfl ⟨hv, pk_eq (us sd) 0 (fun z => absurd z h0) (fun _ => ⟨hv, hv, nm_r eup ⟨hv, rfl, ?_⟩⟩) eused⟩)
      exact ii_mk (ii_Flow hF hsd (v := m) (by omega))
  · unfold wpX_dropLast
    refine rx_side_no hs (br_f (by decide) ?_)
    unfold wpY_dropLast
    exact ry_side_no hs (br_f (by decide) ⟨rfl, ii_mk hF⟩)
theorem i_vc_clear {k : Nat} {u : SX} {v : SY} (I : i_Rel k u v) (hk : k + 4 ≤ 2051) (v1 : Int32) : wpX_clear (fun r u' => wpY_clear (fun r' v' => r' = r ∧ i_Rel (k + 4) u' v') v v1) u v1 := by
  refine ii_el (Q := fun u v => wpX_clear (fun r u' => wpY_clear (fun r' v' => r' = r ∧ i_Rel (k + 4) u' v') v v1) u v1) ?_ I
  intro mr ml lt us E0 f_ref f_room f_out f_head f_rootP f_rootT f_broken f_inLeft f_inRight f_size f_fresh f_blocking f_headBase f_headExp f_headMark f_tailBase f_tailExp f_tailCut f_tailMark a_used a_kinds a_partA a_partB a_lens a_cur a_next a_begin a_popL a_popR a_need a_keyA a_keyB a_weight a_part a_remap a_hits a_span hF
  by_cases hs : ∃ sd, sd < 2 ∧ v1 = nI sd
  · obtain ⟨sd, hsd, rfl⟩ := hs
    obtain ⟨u1, u2, u3⟩ := ii_u hF hsd
    have hmr := hF.1
    have hG := hF.2.2.2.2.2.2.1
    have hv : vp_in (nI sd) 2 := vp_in_nI hsd (by omega)
    have eup : upd a_used (nI sd).toNatClampNeg 0 = upd a_used sd (nI 0) := by rw [nI_clamp (by omega)]; rfl
    unfold wpX_clear
    refine rx_side_ok hsd (br_t rfl ⟨hv, nm_e ⟨hv, nm_r eup ?_⟩⟩)
    unfold wpY_clear
    refine ry_side_ok hsd (br_t rfl ⟨hv, nm_e ⟨hv, nm_r eup ⟨rfl, ?_⟩⟩⟩)
    exact ii_mk (ii_Flow hF hsd (v := 0) (by omega))
  · unfold wpX_clear
    refine rx_side_no hs (br_f (by decide) ?_)
    unfold wpY_clear
    exact ry_side_no hs (br_f (by decide) ⟨rfl, ii_mk hF⟩)
theorem i_vc_rules {k : Nat} {u : SX} {v : SY} (I : i_Rel k u v) (hk : k + 4 ≤ 2051) (v1 : Int32) : wpX_rules (fun r => wpY_rules (fun r' => r' = r ∧ i_Rel (k + 4) u v) v v1) u v1 := by
  refine ii_el (Q := fun u v => wpX_rules (fun r => wpY_rules (fun r' => r' = r ∧ i_Rel (k + 4) u v) v v1) u v1) ?_ I
  intro mr ml lt us E0 f_ref f_room f_out f_head f_rootP f_rootT f_broken f_inLeft f_inRight f_size f_fresh f_blocking f_headBase f_headExp f_headMark f_tailBase f_tailExp f_tailCut f_tailMark a_used a_kinds a_partA a_partB a_lens a_cur a_next a_begin a_popL a_popR a_need a_keyA a_keyB a_weight a_part a_remap a_hits a_span hF
  by_cases hs : ∃ sd, sd < 2 ∧ v1 = nI sd
  · obtain ⟨sd, hsd, rfl⟩ := hs
    obtain ⟨u1, u2, u3⟩ := ii_u hF hsd
    have hmr := hF.1
    have hG := hF.2.2.2.2.2.2.1
    have hv : vp_in (nI sd) 2 := vp_in_nI hsd (by omega)
    unfold wpX_rules
    refine rx_side_ok hsd (br_t rfl ⟨hv, ?_⟩)
    unfold wpY_rules
    exact ry_side_ok hsd (br_t rfl ⟨hv, rfl, ii_mk hF⟩)
  · unfold wpX_rules
    refine rx_side_no hs (br_f (by decide) ?_)
    unfold wpY_rules
    exact ry_side_no hs (br_f (by decide) ⟨rfl, ii_mk hF⟩)
theorem i_vc_kind {k : Nat} {u : SX} {v : SY} (I : i_Rel k u v) (hk : k + 4 ≤ 2051) (v1 : Int32) (v2 : Int32) : wpX_kind (fun r => wpY_kind (fun r' => r' = r ∧ i_Rel (k + 4) u v) v v1 v2) u v1 v2 := by
  refine ii_el (Q := fun u v => wpX_kind (fun r => wpY_kind (fun r' => r' = r ∧ i_Rel (k + 4) u v) v v1 v2) u v1 v2) ?_ I
  intro mr ml lt us E0 f_ref f_room f_out f_head f_rootP f_rootT f_broken f_inLeft f_inRight f_size f_fresh f_blocking f_headBase f_headExp f_headMark f_tailBase f_tailExp f_tailCut f_tailMark a_used a_kinds a_partA a_partB a_lens a_cur a_next a_begin a_popL a_popR a_need a_keyA a_keyB a_weight a_part a_remap a_hits a_span hF
  by_cases hs : ∃ sd, sd < 2 ∧ v1 = nI sd
  · obtain ⟨sd, hsd, rfl⟩ := hs
    obtain ⟨u1, u2, u3⟩ := ii_u hF hsd
    have hmr := hF.1
    have hG := hF.2.2.2.2.2.2.1
    have hv : vp_in (nI sd) 2 := vp_in_nI hsd (by omega)
    by_cases h1 : ∃ s, s < us sd ∧ v2 = nI s
    · obtain ⟨p, hp, rfl⟩ := h1
      have vp' : vp_in (nI sd * 16 + nI p) 32 := by rw [ii_16]; exact vp_in_nI (by omega) (by omega)
      unfold wpX_kind
      refine rx_side_ok hsd (br_t rfl (rx_sym_ok hsd u1 u3 hp (br_t rfl ⟨vp', ?_⟩)))
      unfold wpY_kind
      exact ry_side_ok hsd (br_t rfl (ry_sym_ok hsd u1 u3 hp (br_t rfl ⟨vp', rfl, ii_mk hF⟩)))
    · unfold wpX_kind
      refine rx_side_ok hsd (br_t rfl (rx_sym_no hsd u1 u3 h1 (br_f (by decide) ?_)))
      unfold wpY_kind
      exact ry_side_ok hsd (br_t rfl (ry_sym_no hsd u1 u3 h1 (br_f (by decide) ⟨rfl, ii_mk hF⟩)))
  · unfold wpX_kind
    refine rx_side_no hs (br_f (by decide) ?_)
    unfold wpY_kind
    exact ry_side_no hs (br_f (by decide) ⟨rfl, ii_mk hF⟩)
theorem i_vc_length {k : Nat} {u : SX} {v : SY} (I : i_Rel k u v) (hk : k + 4 ≤ 2051) (v1 : Int32) (v2 : Int32) : wpX_length (fun r => wpY_length (fun r' => r' = r ∧ i_Rel (k + 4) u v) v v1 v2) u v1 v2 := by
  refine ii_el (Q := fun u v => wpX_length (fun r => wpY_length (fun r' => r' = r ∧ i_Rel (k + 4) u v) v v1 v2) u v1 v2) ?_ I
  intro mr ml lt us E0 f_ref f_room f_out f_head f_rootP f_rootT f_broken f_inLeft f_inRight f_size f_fresh f_blocking f_headBase f_headExp f_headMark f_tailBase f_tailExp f_tailCut f_tailMark a_used a_kinds a_partA a_partB a_lens a_cur a_next a_begin a_popL a_popR a_need a_keyA a_keyB a_weight a_part a_remap a_hits a_span hF
  by_cases hs : ∃ sd, sd < 2 ∧ v1 = nI sd
  · obtain ⟨sd, hsd, rfl⟩ := hs
    obtain ⟨u1, u2, u3⟩ := ii_u hF hsd
    have hmr := hF.1
    have hG := hF.2.2.2.2.2.2.1
    have hv : vp_in (nI sd) 2 := vp_in_nI hsd (by omega)
    by_cases h1 : ∃ s, s < us sd ∧ v2 = nI s
    · obtain ⟨p, hp, rfl⟩ := h1
      have vp' : vp_in (nI sd * 16 + nI p) 32 := by rw [ii_16]; exact vp_in_nI (by omega) (by omega)
      unfold wpX_length
      refine rx_side_ok hsd (br_t rfl (rx_sym_ok hsd u1 u3 hp (br_t rfl ⟨vp', ?_⟩)))
      unfold wpY_length
      exact ry_side_ok hsd (br_t rfl (ry_sym_ok hsd u1 u3 hp (br_t rfl ⟨vp', rfl, ii_mk hF⟩)))
    · unfold wpX_length
      refine rx_side_ok hsd (br_t rfl (rx_sym_no hsd u1 u3 h1 (br_f (by decide) ?_)))
      unfold wpY_length
      exact ry_side_ok hsd (br_t rfl (ry_sym_no hsd u1 u3 h1 (br_f (by decide) ⟨rfl, ii_mk hF⟩)))
  · unfold wpX_length
    refine rx_side_no hs (br_f (by decide) ?_)
    unfold wpY_length
    exact ry_side_no hs (br_f (by decide) ⟨rfl, ii_mk hF⟩)
theorem i_vc_part {k : Nat} {u : SX} {v : SY} (I : i_Rel k u v) (hk : k + 4 ≤ 2051) (v1 : Int32) (v2 : Int32) (v3 : Int32) : wpX_part (fun r => wpY_part (fun r' => r' = r ∧ i_Rel (k + 4) u v) v v1 v2 v3) u v1 v2 v3 := by
  refine ii_el (Q := fun u v => wpX_part (fun r => wpY_part (fun r' => r' = r ∧ i_Rel (k + 4) u v) v v1 v2 v3) u v1 v2 v3) ?_ I
  intro mr ml lt us E0 f_ref f_room f_out f_head f_rootP f_rootT f_broken f_inLeft f_inRight f_size f_fresh f_blocking f_headBase f_headExp f_headMark f_tailBase f_tailExp f_tailCut f_tailMark a_used a_kinds a_partA a_partB a_lens a_cur a_next a_begin a_popL a_popR a_need a_keyA a_keyB a_weight a_part a_remap a_hits a_span hF
  by_cases hs : ∃ sd, sd < 2 ∧ v1 = nI sd
  · obtain ⟨sd, hsd, rfl⟩ := hs
    obtain ⟨u1, u2, u3⟩ := ii_u hF hsd
    have hmr := hF.1
    have hG := hF.2.2.2.2.2.2.1
    have hv : vp_in (nI sd) 2 := vp_in_nI hsd (by omega)
    by_cases h1 : ∃ s, s < us sd ∧ v2 = nI s
    · obtain ⟨p, hp, rfl⟩ := h1
      have vp' : vp_in (nI sd * 16 + nI p) 32 := by rw [ii_16]; exact vp_in_nI (by omega) (by omega)
      unfold wpX_part
      refine rx_side_ok hsd (br_t rfl (rx_sym_ok hsd u1 u3 hp (br_t rfl ?_)))
      by_cases z0 : v3 = 0
      · subst z0
        refine br_t rfl (nm_e (br_t rfl ⟨vp', ?_⟩))
        unfold wpY_part
        refine ry_side_ok hsd (br_t rfl (ry_sym_ok hsd u1 u3 hp (br_t rfl (br_t rfl ⟨vp', ?_⟩))))
        have k : wY_part_57 (fun r' => r' = a_partA (nI sd * 16 + nI p).toNatClampNeg ∧ i_Rel (k + 4) (nI mr, nI ml, nI lt, f_ref, f_room, f_out, f_head, f_rootP, f_rootT, f_broken, f_inLeft, f_inRight, f_size, f_fresh, f_blocking, f_headBase, f_headExp, f_headMark, f_tailBase, f_tailExp, f_tailCut, f_tailMark, a_used, a_kinds, a_partA, a_partB, a_lens, a_cur, a_next, a_begin, a_popL, a_popR, a_need, a_keyA, a_keyB, a_weight, a_part, a_remap, a_hits, a_span) (nI mr, nI ml, nI lt, a_used, a_kinds, a_partA, a_partB, a_lens)) (nI sd) (nI p) 0 (nI mr) (nI ml) (nI lt) a_used a_kinds a_partA a_partB a_lens := br_t rfl ⟨vp', rfl, ii_mk hF⟩
        exact br_c (fun _ => br_f (by decide) k) (fun _ => k)
      · by_cases z1 : v3 = 1
        · subst z1
          refine br_f (by decide) (br_t rfl (nm_e (br_f (by decide) ⟨vp', br_c (fun hkd => ?_) (fun hkd => ⟨vp', ?_⟩)⟩)))
          · unfold wpY_part
            exact ry_side_ok hsd (br_t rfl (ry_sym_ok hsd u1 u3 hp (br_t rfl (br_f (by decide) (br_t rfl ⟨vp', br_t hkd (br_t rfl ⟨rfl, ii_mk hF⟩)⟩)))))
          · unfold wpY_part
            exact ry_side_ok hsd (br_t rfl (ry_sym_ok hsd u1 u3 hp (br_t rfl (br_f (by decide) (br_t rfl ⟨vp', br_f hkd (br_f (by decide) ⟨vp', rfl, ii_mk hF⟩)⟩)))))
        · refine br_f z0 (br_f z1 ?_)
          unfold wpY_part
          exact ry_side_ok hsd (br_t rfl (ry_sym_ok hsd u1 u3 hp (br_t rfl (br_f z0 (br_f z1 ⟨rfl, ii_mk hF⟩)))))
    · unfold wpX_part
      refine rx_side_ok hsd (br_t rfl (rx_sym_no hsd u1 u3 h1 (br_f (by decide) ?_)))
      unfold wpY_part
      exact ry_side_ok hsd (br_t rfl (ry_sym_no hsd u1 u3 h1 (br_f (by decide) ⟨rfl, ii_mk hF⟩)))
  · unfold wpX_part
    refine rx_side_no hs (br_f (by decide) ?_)
    unfold wpY_part
    exact ry_side_no hs (br_f (by decide) ⟨rfl, ii_mk hF⟩)
theorem i_vc_letter {k : Nat} {u : SX} {v : SY} (I : i_Rel k u v) (hk : k + 4 ≤ 2051) (v1 : Int32) (v2 : Int32) (v3 : Int32) : wpX_letter (fun r => wpY_letter (fun r' => r' = r ∧ i_Rel (k + 4) u v) v v1 v2 v3) u v1 v2 v3 := by
  refine ii_el (Q := fun u v => wpX_letter (fun r => wpY_letter (fun r' => r' = r ∧ i_Rel (k + 4) u v) v v1 v2 v3) u v1 v2 v3) ?_ I
  intro mr ml lt us E0 f_ref f_room f_out f_head f_rootP f_rootT f_broken f_inLeft f_inRight f_size f_fresh f_blocking f_headBase f_headExp f_headMark f_tailBase f_tailExp f_tailCut f_tailMark a_used a_kinds a_partA a_partB a_lens a_cur a_next a_begin a_popL a_popR a_need a_keyA a_keyB a_weight a_part a_remap a_hits a_span hF
  by_cases hs : ∃ sd, sd < 2 ∧ v1 = nI sd
  · obtain ⟨sd, hsd, rfl⟩ := hs
    obtain ⟨u1, u2, u3⟩ := ii_u hF hsd
    have hmr := hF.1
    have hG := hF.2.2.2.2.2.2.1
    have hv : vp_in (nI sd) 2 := vp_in_nI hsd (by omega)
    by_cases h1 : ∃ s, s < us sd ∧ v2 = nI s
    · obtain ⟨p, hp, rfl⟩ := h1
      have hV := ii_V hsd hp u3
      obtain ⟨e1, e2, e3, _⟩ := hG.2 _ hV
      have vp' : vp_in (nI sd * 16 + nI p) 32 := by rw [ii_16]; exact vp_in_nI (by omega) (by omega)
      have elen : a_lens (nI sd * 16 + nI p).toNatClampNeg = nI (E0 (sd * 16 + p)).length := by rw [ii_16, nI_clamp (by omega)]; exact e3
      unfold wpX_letter
      refine rx_side_ok hsd (br_t rfl (rx_sym_ok hsd u1 u3 hp (br_t rfl (br_c (fun z0 => ?_) (fun z0 => ⟨vp', ?_⟩)))))
      · unfold wpY_letter
        exact ry_side_ok hsd (br_t rfl (ry_sym_ok hsd u1 u3 hp (br_t rfl (br_t z0 ⟨rfl, ii_mk hF⟩))))
      · obtain ⟨pos, hpos, rfl⟩ := nI_of z0
        refine pk_lt pos (E0 (sd * 16 + p)).length (fun hlt => ?_) (fun hge => ?_) rfl elen hpos
        · have he : (E0 (sd * 16 + p))[pos]? = some (E0 (sd * 16 + p))[pos] := List.getElem?_eq_getElem hlt
          rw [ii_16]
          refine rx_letterAt hG hV he ?_
          unfold wpY_letter
          refine ry_side_ok hsd (br_t rfl (ry_sym_ok hsd u1 u3 hp (br_t rfl (br_f z0 ⟨vp', ?_⟩))))
          exact pk_lt pos (E0 (sd * 16 + p)).length (fun _ => ry_letterAt hsd (by omega) hG hV he ⟨rfl, ii_mk hF⟩) (fun z => by omega) rfl elen hpos
        · unfold wpY_letter
          refine ry_side_ok hsd (br_t rfl (ry_sym_ok hsd u1 u3 hp (br_t rfl (br_f z0 ⟨vp', ?_⟩))))
          exact pk_lt pos (E0 (sd * 16 + p)).length (fun z => by omega) (fun _ => ⟨rfl, ii_mk hF⟩) rfl elen hpos
    · unfold wpX_letter
      refine rx_side_ok hsd (br_t rfl (rx_sym_no hsd u1 u3 h1 (br_f (by decide) ?_)))
      unfold wpY_letter
      exact ry_side_ok hsd (br_t rfl (ry_sym_no hsd u1 u3 h1 (br_f (by decide) ⟨rfl, ii_mk hF⟩)))
  · unfold wpX_letter
    refine rx_side_no hs (br_f (by decide) ?_)
    unfold wpY_letter
    exact ry_side_no hs (br_f (by decide) ⟨rfl, ii_mk hF⟩)
end
section
/-! the queries -/
theorem ii_q {mr ml lt : Nat} {us : Nat → Nat} {E0 : Nat → List Nat} {used kinds partA partB lens beg : Nat → Int32} (hF : ii_F mr ml lt us E0 used kinds partA partB lens beg) {i j : Nat} (hi : i < us 0) (hj : j < us 1) : ri_V us i ∧ ri_V us (16 + j) ∧ (16 : Int32) + nI j = nI (16 + j) ∧ vp_in (nI i) 32 ∧ vp_in ((16 : Int32) + nI j) 32 ∧ lens (nI i).toNatClampNeg = nI (E0 i).length ∧ lens ((16 : Int32) + nI j).toNatClampNeg = nI (E0 (16 + j)).length := by
  have s3 := (ii_u hF (sd := 0) (by omega)).2.2
  have t3 := (ii_u hF (sd := 1) (by omega)).2.2
  have hG := hF.2.2.2.2.2.2.1
  have hP : ri_V us i := by
    have h := ii_V (us := us) (sd := 0) (s := i) (by omega) hi s3
    have e : 0 * 16 + i = i := by omega
    rw [e] at h; exact h
  have hT : ri_V us (16 + j) := ii_V (us := us) (sd := 1) (s := j) (by omega) hj t3
  have ev : (16 : Int32) + nI j = nI (16 + j) := nI_add 16 j
  refine ⟨hP, hT, ev, vp_in_nI (by omega) (by omega), ?_, ?_, ?_⟩
  · rw [ev]; exact vp_in_nI (by omega) (by omega)
  · rw [nI_clamp (by omega)]; exact (hG.2 i hP).2.2.1
  · rw [ev, nI_clamp (by omega)]; exact (hG.2 _ hT).2.2.1
theorem ii_beg {mr ml lt : Nat} {us : Nat → Nat} {E0 : Nat → List Nat} {used kinds partA partB lens beg beg' : Nat → Int32} (h : ii_F mr ml lt us E0 used kinds partA partB lens beg) (hb : beg' 0 = 0) : ii_F mr ml lt us E0 used kinds partA partB lens beg' := by
  obtain ⟨h1, h2, h3, h4, h5, h6, h7, h8⟩ := h
  exact ⟨h1, h2, h3, h4, h5, h6, h7, hb⟩
theorem ii_lenL {P T : List Nat} : (ro_L0 P T).length ≤ T.length := @rz_len P T T.length
theorem ii_eq {P T : List Nat} (hP : P ≠ []) (he : P.length = T.length) : (ro_L0 P T).length = 0 ↔ ¬ P <+: T.drop 0 := by
  have hpos : 0 < P.length := List.length_pos_iff.mpr hP
  constructor
  · intro h0 hc
    have h1 := rz_at (N := T.length) (by omega) hc
    have h2 : (ro_L0 P T)[(rz_L P T 0).length]? = some 0 := h1
    rw [List.length_eq_zero_iff.mp h0] at h2
    cases h2
  · intro hc
    cases hL : ro_L0 P T with
    | nil => rfl
    | cons a l =>
      exfalso
      have hm : a ∈ rz_L P T T.length := by
        show a ∈ ro_L0 P T
        rw [hL]; simp
      have h3 := (rz_L_mem hm).2
      have h4 := rz_occ_le hP h3
      have h5 : a = 0 := by omega
      rw [h5] at h3
      exact hc h3
theorem i_vc_equal {k : Nat} {u : SX} {v : SY} (I : i_Rel k u v) (hk : k + 4 ≤ 2051) (v1 : Int32) (v2 : Int32) : wpX_equal (fun r u' => wpY_equal (fun r' => r' = r ∧ i_Rel (k + 4) u' v) v v1 v2) u v1 v2 := by
  refine ii_el (Q := fun u v => wpX_equal (fun r u' => wpY_equal (fun r' => r' = r ∧ i_Rel (k + 4) u' v) v v1 v2) u v1 v2) ?_ I
  intro mr ml lt us E0 f_ref f_room f_out f_head f_rootP f_rootT f_broken f_inLeft f_inRight f_size f_fresh f_blocking f_headBase f_headExp f_headMark f_tailBase f_tailExp f_tailCut f_tailMark a_used a_kinds a_partA a_partB a_lens a_cur a_next a_begin a_popL a_popR a_need a_keyA a_keyB a_weight a_part a_remap a_hits a_span hF
  obtain ⟨s1, s2, s3⟩ := ii_u hF (sd := 0) (by omega)
  obtain ⟨t1, t2, t3⟩ := ii_u hF (sd := 1) (by omega)
  have hG := hF.2.2.2.2.2.2.1
  have hb0 := hF.2.2.2.2.2.2.2
  by_cases hq : (∃ i, i < us 0 ∧ v1 = nI i) ∧ ∃ j, j < us 1 ∧ v2 = nI j
  · obtain ⟨⟨i, hi, rfl⟩, j, hj, rfl⟩ := hq
    obtain ⟨hP, hT, ev, ei, ej, l1, l2⟩ := ii_q hF hi hj
    have p1 := hG.2 i hP
    have p2 := hG.2 (16 + j) hT
    unfold wpX_equal
    refine rx_qry_ok s1 t1 s3 t3 hi hj (br_t rfl ⟨ei, ej, ?_⟩)
    refine pk_eq (E0 i).length (E0 (16 + j)).length (fun hl => rx_prepare (us := us) (lt := lt) (E0 := E0) (by omega) (by omega) hP hT hG hb0 (fun f_rootP' f_rootT' f_size' f_out' f_head' f_broken' f_fresh' f_blocking' f_headBase' f_headExp' f_headMark' f_tailBase' f_tailExp' f_tailCut' f_tailMark' a_cur' a_next' a_begin' a_popL' a_popR' a_need' a_keyA' a_keyB' a_weight' a_part' a_remap' a_hits' a_span' hb hloc => ?_)) (fun hl => ?_) l1 l2
    · have e0 := ii_eq p1.2.1 hl
      have hle := @ii_lenL (E0 i) (E0 (16 + j))
      refine pk_le (ro_L0 (E0 i) (E0 (16 + j))).length 0 (fun h0 => ?_) (fun h0 => ?_)
      · unfold wpY_equal
        refine ry_qry_ok s1 t1 s3 t3 hi hj (br_t rfl ⟨ei, ej, pk_eq (E0 i).length (E0 (16 + j)).length (fun _ => ?_) (fun z => absurd hl z) l1 l2⟩)
        refine ry_occurs (p := 0) (by omega) (by omega) hP hT hG (by omega) ?_
        rw [decide_eq_false (e0.mp (by omega))]
        exact br_t rfl ⟨rfl, ii_mk (ii_beg hF hb)⟩
      · unfold wpY_equal
        refine ry_qry_ok s1 t1 s3 t3 hi hj (br_t rfl ⟨ei, ej, pk_eq (E0 i).length (E0 (16 + j)).length (fun _ => ?_) (fun z => absurd hl z) l1 l2⟩)
        refine ry_occurs (p := 0) (by omega) (by omega) hP hT hG (by omega) ?_
        by_cases hc : E0 i <+: (E0 (16 + j)).drop 0
        · rw [decide_eq_true hc]
          exact br_f (by decide) ⟨rfl, ii_mk (ii_beg hF hb)⟩
        · have := e0.mpr hc
          omega
    · unfold wpY_equal
      exact ry_qry_ok s1 t1 s3 t3 hi hj (br_t rfl ⟨ei, ej, pk_eq (E0 i).length (E0 (16 + j)).length (fun z => absurd z hl) (fun _ => ⟨rfl, ii_mk hF⟩) l1 l2⟩)
  · unfold wpX_equal
    refine rx_qry_no s1 t1 s3 t3 hq (br_f (by decide) ?_)
    unfold wpY_equal
    exact ry_qry_no s1 t1 s3 t3 hq (br_f (by decide) ⟨rfl, ii_mk hF⟩)
theorem i_vc_count {k : Nat} {u : SX} {v : SY} (I : i_Rel k u v) (hk : k + 4 ≤ 2051) (v1 : Int32) (v2 : Int32) : wpX_count (fun r u' => wpY_count (fun r' => r' = r ∧ i_Rel (k + 4) u' v) v v1 v2) u v1 v2 := by
  refine ii_el (Q := fun u v => wpX_count (fun r u' => wpY_count (fun r' => r' = r ∧ i_Rel (k + 4) u' v) v v1 v2) u v1 v2) ?_ I
  intro mr ml lt us E0 f_ref f_room f_out f_head f_rootP f_rootT f_broken f_inLeft f_inRight f_size f_fresh f_blocking f_headBase f_headExp f_headMark f_tailBase f_tailExp f_tailCut f_tailMark a_used a_kinds a_partA a_partB a_lens a_cur a_next a_begin a_popL a_popR a_need a_keyA a_keyB a_weight a_part a_remap a_hits a_span hF
  obtain ⟨s1, s2, s3⟩ := ii_u hF (sd := 0) (by omega)
  obtain ⟨t1, t2, t3⟩ := ii_u hF (sd := 1) (by omega)
  have hG := hF.2.2.2.2.2.2.1
  have hb0 := hF.2.2.2.2.2.2.2
  by_cases hq : (∃ i, i < us 0 ∧ v1 = nI i) ∧ ∃ j, j < us 1 ∧ v2 = nI j
  · obtain ⟨⟨i, hi, rfl⟩, j, hj, rfl⟩ := hq
    obtain ⟨hP, hT, ev, ei, ej, l1, l2⟩ := ii_q hF hi hj
    have p1 := hG.2 i hP
    have p2 := hG.2 (16 + j) hT
    unfold wpX_count
    refine rx_qry_ok s1 t1 s3 t3 hi hj (br_t rfl (rx_prepare (us := us) (lt := lt) (E0 := E0) (by omega) (by omega) hP hT hG hb0 (fun f_rootP' f_rootT' f_size' f_out' f_head' f_broken' f_fresh' f_blocking' f_headBase' f_headExp' f_headMark' f_tailBase' f_tailExp' f_tailCut' f_tailMark' a_cur' a_next' a_begin' a_popL' a_popR' a_need' a_keyA' a_keyB' a_weight' a_part' a_remap' a_hits' a_span' hb hloc => ?_)))
    dsimp only
    unfold wpY_count
    refine ry_qry_ok s1 t1 s3 t3 hi hj (br_t rfl ⟨ej, ?_⟩)
    rw [l2]
    exact ry_count (by omega) (by omega) hP hT hG p2.1 ⟨rfl, ii_mk (ii_beg hF hb)⟩
  · unfold wpX_count
    refine rx_qry_no s1 t1 s3 t3 hq (br_f (by decide) ?_)
    unfold wpY_count
    exact ry_qry_no s1 t1 s3 t3 hq (br_f (by decide) ⟨rfl, ii_mk hF⟩)
theorem i_vc_first {k : Nat} {u : SX} {v : SY} (I : i_Rel k u v) (hk : k + 4 ≤ 2051) (v1 : Int32) (v2 : Int32) : wpX_first (fun r u' => wpY_first (fun r' => r' = r ∧ i_Rel (k + 4) u' v) v v1 v2) u v1 v2 := by
  refine ii_el (Q := fun u v => wpX_first (fun r u' => wpY_first (fun r' => r' = r ∧ i_Rel (k + 4) u' v) v v1 v2) u v1 v2) ?_ I
  intro mr ml lt us E0 f_ref f_room f_out f_head f_rootP f_rootT f_broken f_inLeft f_inRight f_size f_fresh f_blocking f_headBase f_headExp f_headMark f_tailBase f_tailExp f_tailCut f_tailMark a_used a_kinds a_partA a_partB a_lens a_cur a_next a_begin a_popL a_popR a_need a_keyA a_keyB a_weight a_part a_remap a_hits a_span hF
  obtain ⟨s1, s2, s3⟩ := ii_u hF (sd := 0) (by omega)
  obtain ⟨t1, t2, t3⟩ := ii_u hF (sd := 1) (by omega)
  have hG := hF.2.2.2.2.2.2.1
  have hb0 := hF.2.2.2.2.2.2.2
  by_cases hq : (∃ i, i < us 0 ∧ v1 = nI i) ∧ ∃ j, j < us 1 ∧ v2 = nI j
  · obtain ⟨⟨i, hi, rfl⟩, j, hj, rfl⟩ := hq
    obtain ⟨hP, hT, ev, ei, ej, l1, l2⟩ := ii_q hF hi hj
    have p1 := hG.2 i hP
    have p2 := hG.2 (16 + j) hT
    unfold wpX_first
    refine rx_qry_ok s1 t1 s3 t3 hi hj (br_t rfl (rx_prepare (us := us) (lt := lt) (E0 := E0) (by omega) (by omega) hP hT hG hb0 (fun f_rootP' f_rootT' f_size' f_out' f_head' f_broken' f_fresh' f_blocking' f_headBase' f_headExp' f_headMark' f_tailBase' f_tailExp' f_tailCut' f_tailMark' a_cur' a_next' a_begin' a_popL' a_popR' a_need' a_keyA' a_keyB' a_weight' a_part' a_remap' a_hits' a_span' hb hloc => ?_)))
    have hle := @ii_lenL (E0 i) (E0 (16 + j))
    refine pk_le (ro_L0 (E0 i) (E0 (16 + j))).length 0 (fun h0 => ?_) (fun h0 => ?_)
    · unfold wpY_first
      refine ry_qry_ok s1 t1 s3 t3 hi hj (br_t rfl ⟨ej, nm_r l2 ⟨(E0 (16 + j)).length + 1, ?_⟩⟩)
      refine ry_first_25 (by omega) (by omega) hP hT hG p2.1 (fun v hv => ?_) (fun _ => ⟨rfl, ii_mk (ii_beg hF hb)⟩) (E0 (16 + j)).length 0 (by omega) rfl
      have hv' : (ro_L0 (E0 i) (E0 (16 + j)))[0]? = some v := hv
      have hz : ro_L0 (E0 i) (E0 (16 + j)) = [] := List.length_eq_zero_iff.mp (Nat.le_zero.mp h0)
      rw [hz] at hv'
      cases hv'
    · have ev0 : (ro_L0 (E0 i) (E0 (16 + j)))[0]? = some (ro_L0 (E0 i) (E0 (16 + j)))[0] := List.getElem?_eq_getElem h0
      refine hloc 0 _ ev0 _ ?_
      unfold wpY_first
      refine ry_qry_ok s1 t1 s3 t3 hi hj (br_t rfl ⟨ej, nm_r l2 ⟨(E0 (16 + j)).length + 1, ?_⟩⟩)
      refine ry_first_25 (by omega) (by omega) hP hT hG p2.1 (fun v hv => ?_) (fun hz => ?_) (E0 (16 + j)).length 0 (by omega) rfl
      · have hv' : (ro_L0 (E0 i) (E0 (16 + j)))[0]? = some v := hv
        rw [ev0] at hv'
        cases hv'
        exact ⟨rfl, ii_mk (ii_beg hF hb)⟩
      · have hz' : ro_L0 (E0 i) (E0 (16 + j)) = [] := hz
        rw [hz'] at h0
        exact absurd h0 (Nat.lt_irrefl 0)
  · unfold wpX_first
    refine rx_qry_no s1 t1 s3 t3 hq (br_f (by decide) ?_)
    unfold wpY_first
    exact ry_qry_no s1 t1 s3 t3 hq (br_f (by decide) ⟨rfl, ii_mk hF⟩)
theorem i_vc_nth {k : Nat} {u : SX} {v : SY} (I : i_Rel k u v) (hk : k + 4 ≤ 2051) (v1 : Int32) (v2 : Int32) (v3 : Int32) : wpX_nth (fun r u' => wpY_nth (fun r' => r' = r ∧ i_Rel (k + 4) u' v) v v1 v2 v3) u v1 v2 v3 := by
  refine ii_el (Q := fun u v => wpX_nth (fun r u' => wpY_nth (fun r' => r' = r ∧ i_Rel (k + 4) u' v) v v1 v2 v3) u v1 v2 v3) ?_ I
  intro mr ml lt us E0 f_ref f_room f_out f_head f_rootP f_rootT f_broken f_inLeft f_inRight f_size f_fresh f_blocking f_headBase f_headExp f_headMark f_tailBase f_tailExp f_tailCut f_tailMark a_used a_kinds a_partA a_partB a_lens a_cur a_next a_begin a_popL a_popR a_need a_keyA a_keyB a_weight a_part a_remap a_hits a_span hF
  obtain ⟨s1, s2, s3⟩ := ii_u hF (sd := 0) (by omega)
  obtain ⟨t1, t2, t3⟩ := ii_u hF (sd := 1) (by omega)
  have hG := hF.2.2.2.2.2.2.1
  have hb0 := hF.2.2.2.2.2.2.2
  by_cases hq : (∃ i, i < us 0 ∧ v1 = nI i) ∧ ∃ j, j < us 1 ∧ v2 = nI j
  · obtain ⟨⟨i, hi, rfl⟩, j, hj, rfl⟩ := hq
    obtain ⟨hP, hT, ev, ei, ej, l1, l2⟩ := ii_q hF hi hj
    have p1 := hG.2 i hP
    have p2 := hG.2 (16 + j) hT
    unfold wpX_nth
    refine rx_qry_ok s1 t1 s3 t3 hi hj (br_t rfl (rx_prepare (us := us) (lt := lt) (E0 := E0) (by omega) (by omega) hP hT hG hb0 (fun f_rootP' f_rootT' f_size' f_out' f_head' f_broken' f_fresh' f_blocking' f_headBase' f_headExp' f_headMark' f_tailBase' f_tailExp' f_tailCut' f_tailMark' a_cur' a_next' a_begin' a_popL' a_popR' a_need' a_keyA' a_keyB' a_weight' a_part' a_remap' a_hits' a_span' hb hloc => ?_)))
    have hle := @ii_lenL (E0 i) (E0 (16 + j))
    refine br_c (fun z0 => ?_) (fun z0 => ?_)
    · unfold wpY_nth
      exact ry_qry_ok s1 t1 s3 t3 hi hj (br_t rfl (br_f (Int32.not_le.mpr z0) ⟨rfl, ii_mk (ii_beg hF hb)⟩))
    · have z0' : (0 : Int32) ≤ v3 := Int32.not_lt.mp z0
      obtain ⟨q, hq, rfl⟩ := nI_of z0
      refine pk_lt q (ro_L0 (E0 i) (E0 (16 + j))).length (fun h1 => ?_) (fun h1 => ?_) rfl rfl hq
      · have ev0 : (ro_L0 (E0 i) (E0 (16 + j)))[q]? = some (ro_L0 (E0 i) (E0 (16 + j)))[q] := List.getElem?_eq_getElem h1
        refine hloc q _ ev0 _ ?_
        unfold wpY_nth
        refine ry_qry_ok s1 t1 s3 t3 hi hj (br_t rfl (br_t z0' ⟨ej, nm_r l2 ⟨(E0 (16 + j)).length + 1, ?_⟩⟩))
        refine ry_nth_36 (by omega) (by omega) hP hT hG p2.1 hq (fun v hv => ?_) (fun hz => ?_) (E0 (16 + j)).length 0 (by omega) (Nat.zero_le _)
        · have hv' : (ro_L0 (E0 i) (E0 (16 + j)))[q]? = some v := hv
          rw [ev0] at hv'
          cases hv'
          exact ⟨rfl, ii_mk (ii_beg hF hb)⟩
        · have hz' : (ro_L0 (E0 i) (E0 (16 + j))).length ≤ q := hz
          omega
      · unfold wpY_nth
        refine ry_qry_ok s1 t1 s3 t3 hi hj (br_t rfl (br_t z0' ⟨ej, nm_r l2 ⟨(E0 (16 + j)).length + 1, ?_⟩⟩))
        refine ry_nth_36 (by omega) (by omega) hP hT hG p2.1 hq (fun v hv => ?_) (fun _ => ⟨rfl, ii_mk (ii_beg hF hb)⟩) (E0 (16 + j)).length 0 (by omega) (Nat.zero_le _)
        have hv' : (ro_L0 (E0 i) (E0 (16 + j)))[q]? = some v := hv
        rw [List.getElem?_eq_none h1] at hv'
        cases hv'
  · unfold wpX_nth
    refine rx_qry_no s1 t1 s3 t3 hq (br_f (by decide) ?_)
    unfold wpY_nth
    exact ry_qry_no s1 t1 s3 t3 hq (br_f (by decide) ⟨rfl, ii_mk hF⟩)
theorem i_vc_rank {k : Nat} {u : SX} {v : SY} (I : i_Rel k u v) (hk : k + 4 ≤ 2051) (v1 : Int32) (v2 : Int32) (v3 : Int32) : wpX_rank (fun r u' => wpY_rank (fun r' => r' = r ∧ i_Rel (k + 4) u' v) v v1 v2 v3) u v1 v2 v3 := by
  refine ii_el (Q := fun u v => wpX_rank (fun r u' => wpY_rank (fun r' => r' = r ∧ i_Rel (k + 4) u' v) v v1 v2 v3) u v1 v2 v3) ?_ I
  intro mr ml lt us E0 f_ref f_room f_out f_head f_rootP f_rootT f_broken f_inLeft f_inRight f_size f_fresh f_blocking f_headBase f_headExp f_headMark f_tailBase f_tailExp f_tailCut f_tailMark a_used a_kinds a_partA a_partB a_lens a_cur a_next a_begin a_popL a_popR a_need a_keyA a_keyB a_weight a_part a_remap a_hits a_span hF
  obtain ⟨s1, s2, s3⟩ := ii_u hF (sd := 0) (by omega)
  obtain ⟨t1, t2, t3⟩ := ii_u hF (sd := 1) (by omega)
  have hG := hF.2.2.2.2.2.2.1
  have hb0 := hF.2.2.2.2.2.2.2
  by_cases hq : (∃ i, i < us 0 ∧ v1 = nI i) ∧ ∃ j, j < us 1 ∧ v2 = nI j
  · obtain ⟨⟨i, hi, rfl⟩, j, hj, rfl⟩ := hq
    obtain ⟨hP, hT, ev, ei, ej, l1, l2⟩ := ii_q hF hi hj
    have p1 := hG.2 i hP
    have p2 := hG.2 (16 + j) hT
    unfold wpX_rank
    refine rx_qry_ok s1 t1 s3 t3 hi hj (br_t rfl (br_c (fun z0 => ?_) (fun z0 => ⟨ej, ?_⟩)))
    · unfold wpY_rank
      exact ry_qry_ok s1 t1 s3 t3 hi hj (br_t rfl (br_t z0 ⟨rfl, ii_mk hF⟩))
    · obtain ⟨q, hq, rfl⟩ := nI_of z0
      refine pk_le q (E0 (16 + j)).length (fun h1 => ?_) (fun h1 => ?_) rfl l2 hq
      · refine rx_prepare (us := us) (lt := lt) (E0 := E0) (by omega) (by omega) hP hT hG hb0 (fun f_rootP' f_rootT' f_size' f_out' f_head' f_broken' f_fresh' f_blocking' f_headBase' f_headExp' f_headMark' f_tailBase' f_tailExp' f_tailCut' f_tailMark' a_cur' a_next' a_begin' a_popL' a_popR' a_need' a_keyA' a_keyB' a_weight' a_part' a_remap' a_hits' a_span' hb hloc => ⟨13, ?_⟩)
        have hle := @ii_lenL (E0 i) (E0 (16 + j))
        refine rx_rank_46 h1 p2.1 hloc ?_ 12 0 0 (ro_L0 (E0 i) (E0 (16 + j))).length rfl (Nat.zero_le _) ?_ (Nat.le_refl _) (by omega)
        · unfold wpY_rank
          refine ry_qry_ok s1 t1 s3 t3 hi hj (br_t rfl (br_f z0 ⟨ej, pk_le q (E0 (16 + j)).length (fun _ => ?_) (fun z => by omega) rfl l2 hq⟩))
          exact ry_count (by omega) (by omega) hP hT hG (by omega) ⟨rfl, ii_mk (ii_beg hF hb)⟩
        · obtain ⟨Z, z1, z2⟩ := @rz_L_pre (E0 i) (E0 (16 + j)) ((E0 (16 + j)).length - q) q
          rw [show q + ((E0 (16 + j)).length - q) = (E0 (16 + j)).length by omega] at z1
          have z1' : ro_L0 (E0 i) (E0 (16 + j)) = rz_L (E0 i) (E0 (16 + j)) q ++ Z := z1
          rw [z1', List.length_append]; omega
      · unfold wpY_rank
        exact ry_qry_ok s1 t1 s3 t3 hi hj (br_t rfl (br_f z0 ⟨ej, pk_le q (E0 (16 + j)).length (fun z => by omega) (fun _ => ⟨rfl, ii_mk hF⟩) rfl l2 hq⟩))
  · unfold wpX_rank
    refine rx_qry_no s1 t1 s3 t3 hq (br_f (by decide) ?_)
    unfold wpY_rank
    exact ry_qry_no s1 t1 s3 t3 hq (br_f (by decide) ⟨rfl, ii_mk hF⟩)
end
