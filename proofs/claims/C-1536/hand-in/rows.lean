section
/-! pure rows to paste: stores, nI and lN arithmetic, masks, shifts, narrowing, branches by naturals (pk_le, pk_lt, pk_eq), loops (lp1 .. lp16: the measure of the state; rp1 ..: recursion), negatives. Take what you need -/
theorem pk_us {f : Nat → Int32} {k : Nat} {x : Int32} : upd f k x k = x := if_pos rfl
theorem pk_un {f : Nat → Int32} {k j : Nat} {x : Int32} (h : j ≠ k) : upd f k x j = f j := if_neg h
theorem pk_uLs {f : Nat → Int64} {k : Nat} {x : Int64} : vp_updL f k x k = x := if_pos rfl
theorem pk_uLn {f : Nat → Int64} {k j : Nat} {x : Int64} (h : j ≠ k) : vp_updL f k x j = f j := if_neg h
theorem pk_sub {a b : Nat} (h : b ≤ a) : nI a - nI b = nI (a - b) := by
  obtain ⟨c, rfl⟩ : ∃ c, a = c + b := ⟨a - b, by omega⟩
  rw [← nI_add, Int32.add_sub_cancel, Nat.add_sub_cancel]
theorem pk_m1 (n : Nat) : nI (n + 1) + (-1) = nI n := by
  rw [← nI_1, Int32.add_assoc, show (1 : Int32) + (-1) = 0 from rfl, Int32.add_zero]
theorem pk_mul (a b : Nat) : nI a * nI b = nI (a * b) := (Int32.ofNat_mul a b).symm
theorem pk_div {a d : Nat} (ha : a < 2 ^ 31) (h0 : 0 < d) (hd : d < 2 ^ 31) : nI a / nI d = nI (a / d) := by
  apply Int32.toInt_inj.mp
  rw [lg_idiv_nonneg (by rw [nI_toInt ha]; omega) (by rw [nI_toInt hd]; omega), nI_toInt ha, nI_toInt hd, nI_toInt (Nat.lt_of_le_of_lt (Nat.div_le_self a d) ha)]
  first | rfl | exact (Int.natCast_ediv _ _).symm
theorem pk_rem {a d : Nat} (ha : a < 2 ^ 31) (h0 : 0 < d) (hd : d < 2 ^ 31) : nI a - nI a / nI d * nI d = nI (a % d) := by
  rw [pk_div ha h0 hd, pk_mul, pk_sub (Nat.div_mul_le_self a d)]
  exact congrArg nI (by have := Nat.div_add_mod' a d; omega)
theorem pk_sub_toInt {a b : Nat} (ha : a < 2 ^ 30) (hb : b < 2 ^ 30) : (nI a - nI b).toInt = (a : Int) - b := by
  rw [Int32.toInt_sub, nI_toInt (by omega), nI_toInt (by omega)]
  exact Int.bmod_eq_of_le (by omega) (by omega)
theorem pk_sneg {a b : Nat} (hb : b < 2 ^ 30) (h : a < b) : nI a - nI b < 0 := by
  rw [Int32.lt_iff_toInt_lt, pk_sub_toInt (by omega) hb, show (0 : Int32).toInt = 0 from by decide]
  omega
theorem pk_ix (x : Int32) {n : Nat} (hn : n < 2 ^ 31) : x < 0 ∨ nI n ≤ x ∨ ∃ j : Nat, j < n ∧ x = nI j := by
  by_cases h : x < 0
  · exact Or.inl h
  · obtain ⟨j, hj, rfl⟩ := nI_of h
    by_cases h2 : j < n
    · exact Or.inr (Or.inr ⟨j, h2, rfl⟩)
    · exact Or.inr (Or.inl (nI_le (by omega) hj))
theorem pk_le {x y : Int32} {A B : Prop} (a b : Nat) (f : a ≤ b → A) (g : b < a → B) (hx : x = nI a := by rfl) (hy : y = nI b := by rfl) (ha : a < 2 ^ 31 := by omega) (hb : b < 2 ^ 31 := by omega) : (x ≤ y → A) ∧ (¬ x ≤ y → B) := by
  subst hx hy
  rw [nI_leI ha hb]
  exact ⟨f, fun z => g (by omega)⟩
theorem pk_lt {x y : Int32} {A B : Prop} (a b : Nat) (f : a < b → A) (g : b ≤ a → B) (hx : x = nI a := by rfl) (hy : y = nI b := by rfl) (ha : a < 2 ^ 31 := by omega) (hb : b < 2 ^ 31 := by omega) : (x < y → A) ∧ (¬ x < y → B) := by
  subst hx hy
  rw [nI_ltI ha hb]
  exact ⟨f, fun z => g (by omega)⟩
theorem pk_eq {x y : Int32} {A B : Prop} (a b : Nat) (f : a = b → A) (g : a ≠ b → B) (hx : x = nI a := by rfl) (hy : y = nI b := by rfl) (ha : a < 2 ^ 31 := by omega) (hb : b < 2 ^ 31 := by omega) : (x = y → A) ∧ (¬ x = y → B) := by
  subst hx hy
  rw [nI_eq ha hb]
  exact ⟨f, g⟩
theorem pk_in {x : Int32} (n N : Nat) (h : n < N) (hx : x = nI n := by rfl) (hN : N < 2 ^ 31 := by omega) : vp_in x N := by
  subst hx
  exact vp_in_nI h hN
theorem pk_cl {x : Int32} (n : Nat) (hx : x = nI n := by rfl) (h : n < 2 ^ 31 := by omega) : x.toNatClampNeg = n := by
  subst hx
  exact nI_clamp h
theorem pk_tn {n : Nat} (h : n < 2 ^ 32) : (nI n).toBitVec.toNat = n := Nat.mod_eq_of_lt h
theorem pk_and (x : Int32) {m : Int32} (k : Nat) (hm : m.toBitVec.toNat = 2 ^ k - 1) : x &&& m = nI (x.toBitVec.toNat % 2 ^ k) := by
  apply Int32.toBitVec_inj.mp
  apply BitVec.eq_of_toNat_eq
  rw [Int32.toBitVec_and, BitVec.toNat_and, hm, Nat.and_two_pow_sub_one_eq_mod]
  show _ = (BitVec.ofNat 32 _).toNat
  rw [BitVec.toNat_ofNat]
  exact (Nat.mod_eq_of_lt (Nat.lt_of_le_of_lt (Nat.mod_le _ _) x.toBitVec.isLt)).symm
theorem pk_andN {n : Nat} (h : n < 2 ^ 32) {m : Int32} (k : Nat) (hm : m.toBitVec.toNat = 2 ^ k - 1) : nI n &&& m = nI (n % 2 ^ k) := by
  rw [pk_and _ k hm, pk_tn h]
theorem pk_andE (x : Int32) {m : Int32} (k : Nat) (hm : m.toBitVec.toNat = 2 ^ k - 1) : ∃ j : Nat, j < 2 ^ k ∧ x &&& m = nI j := ⟨_, Nat.mod_lt _ (Nat.two_pow_pos k), pk_and x k hm⟩
theorem pk_andIn (x : Int32) {m : Int32} (k : Nat) (hm : m.toBitVec.toNat = 2 ^ k - 1) (hk : k ≤ 30) : vp_in (x &&& m) (2 ^ k) := by
  obtain ⟨j, hj, e⟩ := pk_andE x k hm
  rw [e]
  exact vp_in_nI hj (Nat.lt_of_le_of_lt (Nat.pow_le_pow_right (by decide) hk) (by decide))
theorem pk_shl (a s : Int32) (k : Nat) (hs : (s.toBitVec.smod 32).toNat = k) : (a <<< s).toBitVec.toNat = a.toBitVec.toNat * 2 ^ k % 2 ^ 32 := by
  show (a.toBitVec <<< (s.toBitVec.smod 32).toNat).toNat = _
  rw [hs, BitVec.toNat_shiftLeft, Nat.shiftLeft_eq]
theorem pk_shlN {n : Nat} (s : Int32) (k : Nat) (hs : (s.toBitVec.smod 32).toNat = k) (h : n * 2 ^ k < 2 ^ 32) : nI n <<< s = nI (n * 2 ^ k) := by
  apply Int32.toBitVec_inj.mp
  apply BitVec.eq_of_toNat_eq
  have hn : n < 2 ^ 32 := Nat.lt_of_le_of_lt (Nat.le_mul_of_pos_right n (Nat.two_pow_pos k)) h
  rw [pk_shl _ _ k hs, pk_tn hn, pk_tn h, Nat.mod_eq_of_lt h]
theorem pk_shr (a s : Int32) (k : Nat) (hs : (s.toBitVec.smod 32).toNat = k) : (a >>> s).toInt = a.toInt >>> k := by
  show (a.toBitVec.sshiftRight (s.toBitVec.smod 32).toNat).toInt = _
  rw [hs, BitVec.toInt_sshiftRight]
  rfl
theorem pk_shrN {n : Nat} (h : n < 2 ^ 31) (s : Int32) (k : Nat) (hs : (s.toBitVec.smod 32).toNat = k) : nI n >>> s = nI (n / 2 ^ k) := by
  apply Int32.toInt_inj.mp
  have h2 : n / 2 ^ k ≤ n := Nat.div_le_self _ _
  rw [pk_shr _ _ k hs, nI_toInt h, nI_toInt (by omega), Int.shiftRight_eq_div_pow]
  rfl
theorem pk_ushr (x s : Int32) (k : Nat) (hs : ((s.toUInt32 &&& Int32.toUInt32 31).toBitVec % 32).toNat = k) : (x.toUInt32 >>> (s.toUInt32 &&& Int32.toUInt32 31)).toInt32.toBitVec.toNat = x.toBitVec.toNat / 2 ^ k := by
  have e : (x.toUInt32 >>> (s.toUInt32 &&& Int32.toUInt32 31)).toInt32.toBitVec = x.toBitVec >>> k := by
    rw [← hs]
    exact UInt32.toBitVec_shiftRight _ _
  rw [e, BitVec.toNat_ushiftRight, Nat.shiftRight_eq_div_pow]
theorem pk_ushrN {n : Nat} (hn : n < 2 ^ 32) (s : Int32) (k : Nat) (hs : ((s.toUInt32 &&& Int32.toUInt32 31).toBitVec % 32).toNat = k) : ((nI n).toUInt32 >>> (s.toUInt32 &&& Int32.toUInt32 31)).toInt32 = nI (n / 2 ^ k) := by
  apply Int32.toBitVec_inj.mp
  apply BitVec.eq_of_toNat_eq
  rw [pk_ushr _ s k hs, pk_tn hn, pk_tn (Nat.lt_of_le_of_lt (Nat.div_le_self _ _) hn)]
theorem pk_nb (z : Int32) : narrow .byte (.int z.toInt8.toInt32) = .int z.toInt8.toInt32 := congrArg Value.int (by simp)
theorem pk_ns (z : Int32) : narrow .short (.int z.toInt16.toInt32) = .int z.toInt16.toInt32 := congrArg Value.int (by simp)
theorem pk_fb (r : Int32) : fits .byte (.int r.toInt8.toInt32) = true := by
  have ⟨a, b⟩ := lg_i2b_range r
  have h1 : (-128 : Int32).toInt = -128 := by decide
  have h2 : (127 : Int32).toInt = 127 := by decide
  simp only [fits, Bool.and_eq_true, decide_eq_true_eq, Int32.le_iff_toInt_le, h1, h2]
  omega
theorem pk_fs (r : Int32) : fits .short (.int r.toInt16.toInt32) = true := by
  have ⟨a, b⟩ := lg_i2s_range r
  have h1 : (-32768 : Int32).toInt = -32768 := by decide
  have h2 : (32767 : Int32).toInt = 32767 := by decide
  simp only [fits, Bool.and_eq_true, decide_eq_true_eq, Int32.le_iff_toInt_le, h1, h2]
  omega
theorem pk_charN {q : Nat} (hq : q < 65536) : narrow .char (.int (nI q)) = .int (nI q) ∧ fits .char (.int (nI q)) = true := by
  constructor
  · have e : (nI q).toUInt32.toUInt16.toUInt32.toInt32 = nI q := by
      apply Int32.toBitVec_inj.mp
      apply BitVec.eq_of_toNat_eq
      show (nI q).toUInt32.toUInt16.toUInt32.toNat = q % 2 ^ 32
      rw [UInt16.toNat_toUInt32, UInt32.toNat_toUInt16, show (nI q).toUInt32.toNat = q % 2 ^ 32 from rfl]
      omega
    exact congrArg Value.int e
  · have a : (0 : Int32) ≤ nI q := nI_pos' (by omega)
    have b : nI q ≤ 65535 := nI_le (b := 65535) (by omega) (by decide)
    show (decide ((0 : Int32) ≤ nI q) && decide (nI q ≤ 65535)) = true
    rw [decide_eq_true a, decide_eq_true b]
    rfl
theorem pk_char (x : Int32) : (x.toUInt32 % 65536).toInt32 = nI (x.toBitVec.toNat % 65536) := by
  apply Int32.toBitVec_inj.mp
  apply BitVec.eq_of_toNat_eq
  rw [pk_tn (by omega)]
  show (x.toUInt32 % 65536).toNat = _
  rw [UInt32.toNat_mod]
  rfl
theorem pk_nc (x : Int32) : narrow .char (.int (x.toUInt32 % 65536).toInt32) = .int (x.toUInt32 % 65536).toInt32 := by
  rw [pk_char]
  exact (pk_charN (Nat.mod_lt _ (by decide))).1
theorem pk_fc (x : Int32) : fits .char (.int (x.toUInt32 % 65536).toInt32) = true := by
  rw [pk_char]
  exact (pk_charN (Nat.mod_lt _ (by decide))).2
theorem pk_vb (z : Int32) : vp_nar .byte z.toInt8.toInt32 = z.toInt8.toInt32 := by rw [vp_nar_byte]; simp
theorem pk_vs (z : Int32) : vp_nar .short z.toInt16.toInt32 = z.toInt16.toInt32 := by rw [vp_nar_short]; simp
theorem pk_vc (z : Int32) : vp_nar .char (z.toUInt32 % 65536).toInt32 = (z.toUInt32 % 65536).toInt32 := Value.int.inj (pk_nc z)
theorem pk_lT {n : Nat} (h : n < 2 ^ 63) : (lN n).toInt = (n : Int) := lg_ofNat_toInt h
theorem pk_lLT {a b : Nat} (ha : a < 2 ^ 63) (hb : b < 2 ^ 63) : lN a < lN b ↔ a < b := by
  rw [Int64.lt_iff_toInt_lt, pk_lT ha, pk_lT hb]; omega
theorem pk_lLE {a b : Nat} (ha : a < 2 ^ 63) (hb : b < 2 ^ 63) : lN a ≤ lN b ↔ a ≤ b := by
  rw [Int64.le_iff_toInt_le, pk_lT ha, pk_lT hb]; omega
theorem pk_lEQ {a b : Nat} (ha : a < 2 ^ 63) (hb : b < 2 ^ 63) : lN a = lN b ↔ a = b := by
  rw [← Int64.toInt_inj, pk_lT ha, pk_lT hb]; omega
theorem pk_lOf {x : Int64} (h : ¬ x < 0) : ∃ k : Nat, k < 2 ^ 63 ∧ x = lN k := by
  rw [Int64.lt_iff_toInt_lt] at h
  have h0 : (0 : Int64).toInt = 0 := by decide
  have hx := Int64.toInt_lt x
  refine ⟨x.toInt.toNat, by omega, Int64.toInt_inj.mp ?_⟩
  rw [pk_lT (by omega)]
  omega
theorem pk_lDiv {a b : Nat} (ha : a < 2 ^ 63) (h0 : 0 < b) (hb : b < 2 ^ 63) : lN a / lN b = lN (a / b) := by
  apply Int64.toInt_inj.mp
  rw [lg_ldiv_nonneg (by rw [pk_lT ha]; omega) (by rw [pk_lT hb]; omega), pk_lT ha, pk_lT hb, pk_lT (Nat.lt_of_le_of_lt (Nat.div_le_self a b) ha)]
  rfl
theorem pk_lRem {a b : Nat} (ha : a < 2 ^ 63) (h0 : 0 < b) (hb : b < 2 ^ 63) : lN a - lN a / lN b * lN b = lN (a % b) := by
  rw [pk_lDiv ha h0 hb, lN_mul, lN_sub (Nat.div_mul_le_self a b)]
  exact congrArg lN (by have := Nat.div_add_mod' a b; omega)
theorem pk_loop {σ : Type} (W : Nat → Nat → σ → Prop) (I : Nat → σ → Prop) (e i0 : Nat) (s : σ) (hi : i0 ≤ e) (h0 : I i0 s) (hx : ∀ n s, I e s → W (n + 1) e s)
    (hs : ∀ n i s, i < e → I i s → (∀ s', I (i + 1) s' → W n (i + 1) s') → W (n + 1) i s) : ∃ n, W n i0 s :=
  ⟨e + 1, loop_i W I e hx hs (e + 1) i0 s hi (by omega) h0⟩
theorem pk_loopD {σ : Type} (W : Nat → Nat → σ → Prop) (I : Nat → σ → Prop) (hx : ∀ n s, I 0 s → W (n + 1) 0 s)
    (hs : ∀ n i s, I (i + 1) s → (∀ s', I i s' → W n i s') → W (n + 1) (i + 1) s) : ∀ (e : Nat) (s : σ), I e s → W (e + 1) e s := by
  intro e
  induction e with
  | zero => exact fun s h => hx 0 s h
  | succ e ih => exact fun s h => hs (e + 1) e s h (fun s' h' => ih s' h')
theorem lp1 {A1 : Type} (W : Nat → A1 → Prop) (I : A1 → Prop) (μ : A1 → Nat) (hs : ∀ (n : Nat) (a1 : A1), I a1 → (∀ (b1 : A1), I b1 → μ b1 < μ a1 → W n b1) → W (n + 1) a1) (a1 : A1) (h : I a1) : ∃ n, W n a1 :=
  loop_m (σ := A1) (fun n s => W n s) (fun s => I s) (fun s => μ s) (fun n s hI hk => hs n s hI (fun b1 h9 hm => hk b1 h9 hm)) a1 h
theorem lp2 {A1 A2 : Type} (W : Nat → A1 → A2 → Prop) (I : A1 → A2 → Prop) (μ : A1 → A2 → Nat) (hs : ∀ (n : Nat) (a1 : A1) (a2 : A2), I a1 a2 → (∀ (b1 : A1) (b2 : A2), I b1 b2 → μ b1 b2 < μ a1 a2 → W n b1 b2) → W (n + 1) a1 a2) (a1 : A1) (a2 : A2) (h : I a1 a2) : ∃ n, W n a1 a2 :=
  loop_m (σ := A1 × A2) (fun n s => W n s.1 s.2) (fun s => I s.1 s.2) (fun s => μ s.1 s.2) (fun n s hI hk => hs n s.1 s.2 hI (fun b1 b2 h9 hm => hk (b1, b2) h9 hm)) (a1, a2) h
theorem lp3 {A1 A2 A3 : Type} (W : Nat → A1 → A2 → A3 → Prop) (I : A1 → A2 → A3 → Prop) (μ : A1 → A2 → A3 → Nat) (hs : ∀ (n : Nat) (a1 : A1) (a2 : A2) (a3 : A3), I a1 a2 a3 → (∀ (b1 : A1) (b2 : A2) (b3 : A3), I b1 b2 b3 → μ b1 b2 b3 < μ a1 a2 a3 → W n b1 b2 b3) → W (n + 1) a1 a2 a3) (a1 : A1) (a2 : A2) (a3 : A3) (h : I a1 a2 a3) : ∃ n, W n a1 a2 a3 :=
  loop_m (σ := A1 × A2 × A3) (fun n s => W n s.1 s.2.1 s.2.2) (fun s => I s.1 s.2.1 s.2.2) (fun s => μ s.1 s.2.1 s.2.2) (fun n s hI hk => hs n s.1 s.2.1 s.2.2 hI (fun b1 b2 b3 h9 hm => hk (b1, b2, b3) h9 hm)) (a1, a2, a3) h
theorem lp4 {A1 A2 A3 A4 : Type} (W : Nat → A1 → A2 → A3 → A4 → Prop) (I : A1 → A2 → A3 → A4 → Prop) (μ : A1 → A2 → A3 → A4 → Nat) (hs : ∀ (n : Nat) (a1 : A1) (a2 : A2) (a3 : A3) (a4 : A4), I a1 a2 a3 a4 → (∀ (b1 : A1) (b2 : A2) (b3 : A3) (b4 : A4), I b1 b2 b3 b4 → μ b1 b2 b3 b4 < μ a1 a2 a3 a4 → W n b1 b2 b3 b4) → W (n + 1) a1 a2 a3 a4) (a1 : A1) (a2 : A2) (a3 : A3) (a4 : A4) (h : I a1 a2 a3 a4) : ∃ n, W n a1 a2 a3 a4 :=
  loop_m (σ := A1 × A2 × A3 × A4) (fun n s => W n s.1 s.2.1 s.2.2.1 s.2.2.2) (fun s => I s.1 s.2.1 s.2.2.1 s.2.2.2) (fun s => μ s.1 s.2.1 s.2.2.1 s.2.2.2) (fun n s hI hk => hs n s.1 s.2.1 s.2.2.1 s.2.2.2 hI (fun b1 b2 b3 b4 h9 hm => hk (b1, b2, b3, b4) h9 hm)) (a1, a2, a3, a4) h
theorem lp5 {A1 A2 A3 A4 A5 : Type} (W : Nat → A1 → A2 → A3 → A4 → A5 → Prop) (I : A1 → A2 → A3 → A4 → A5 → Prop) (μ : A1 → A2 → A3 → A4 → A5 → Nat) (hs : ∀ (n : Nat) (a1 : A1) (a2 : A2) (a3 : A3) (a4 : A4) (a5 : A5), I a1 a2 a3 a4 a5 → (∀ (b1 : A1) (b2 : A2) (b3 : A3) (b4 : A4) (b5 : A5), I b1 b2 b3 b4 b5 → μ b1 b2 b3 b4 b5 < μ a1 a2 a3 a4 a5 → W n b1 b2 b3 b4 b5) → W (n + 1) a1 a2 a3 a4 a5) (a1 : A1) (a2 : A2) (a3 : A3) (a4 : A4) (a5 : A5) (h : I a1 a2 a3 a4 a5) : ∃ n, W n a1 a2 a3 a4 a5 :=
  loop_m (σ := A1 × A2 × A3 × A4 × A5) (fun n s => W n s.1 s.2.1 s.2.2.1 s.2.2.2.1 s.2.2.2.2) (fun s => I s.1 s.2.1 s.2.2.1 s.2.2.2.1 s.2.2.2.2) (fun s => μ s.1 s.2.1 s.2.2.1 s.2.2.2.1 s.2.2.2.2) (fun n s hI hk => hs n s.1 s.2.1 s.2.2.1 s.2.2.2.1 s.2.2.2.2 hI (fun b1 b2 b3 b4 b5 h9 hm => hk (b1, b2, b3, b4, b5) h9 hm)) (a1, a2, a3, a4, a5) h
theorem lp6 {A1 A2 A3 A4 A5 A6 : Type} (W : Nat → A1 → A2 → A3 → A4 → A5 → A6 → Prop) (I : A1 → A2 → A3 → A4 → A5 → A6 → Prop) (μ : A1 → A2 → A3 → A4 → A5 → A6 → Nat) (hs : ∀ (n : Nat) (a1 : A1) (a2 : A2) (a3 : A3) (a4 : A4) (a5 : A5) (a6 : A6), I a1 a2 a3 a4 a5 a6 → (∀ (b1 : A1) (b2 : A2) (b3 : A3) (b4 : A4) (b5 : A5) (b6 : A6), I b1 b2 b3 b4 b5 b6 → μ b1 b2 b3 b4 b5 b6 < μ a1 a2 a3 a4 a5 a6 → W n b1 b2 b3 b4 b5 b6) → W (n + 1) a1 a2 a3 a4 a5 a6) (a1 : A1) (a2 : A2) (a3 : A3) (a4 : A4) (a5 : A5) (a6 : A6) (h : I a1 a2 a3 a4 a5 a6) : ∃ n, W n a1 a2 a3 a4 a5 a6 :=
  loop_m (σ := A1 × A2 × A3 × A4 × A5 × A6) (fun n s => W n s.1 s.2.1 s.2.2.1 s.2.2.2.1 s.2.2.2.2.1 s.2.2.2.2.2) (fun s => I s.1 s.2.1 s.2.2.1 s.2.2.2.1 s.2.2.2.2.1 s.2.2.2.2.2) (fun s => μ s.1 s.2.1 s.2.2.1 s.2.2.2.1 s.2.2.2.2.1 s.2.2.2.2.2) (fun n s hI hk => hs n s.1 s.2.1 s.2.2.1 s.2.2.2.1 s.2.2.2.2.1 s.2.2.2.2.2 hI (fun b1 b2 b3 b4 b5 b6 h9 hm => hk (b1, b2, b3, b4, b5, b6) h9 hm)) (a1, a2, a3, a4, a5, a6) h
theorem lp7 {A1 A2 A3 A4 A5 A6 A7 : Type} (W : Nat → A1 → A2 → A3 → A4 → A5 → A6 → A7 → Prop) (I : A1 → A2 → A3 → A4 → A5 → A6 → A7 → Prop) (μ : A1 → A2 → A3 → A4 → A5 → A6 → A7 → Nat) (hs : ∀ (n : Nat) (a1 : A1) (a2 : A2) (a3 : A3) (a4 : A4) (a5 : A5) (a6 : A6) (a7 : A7), I a1 a2 a3 a4 a5 a6 a7 → (∀ (b1 : A1) (b2 : A2) (b3 : A3) (b4 : A4) (b5 : A5) (b6 : A6) (b7 : A7), I b1 b2 b3 b4 b5 b6 b7 → μ b1 b2 b3 b4 b5 b6 b7 < μ a1 a2 a3 a4 a5 a6 a7 → W n b1 b2 b3 b4 b5 b6 b7) → W (n + 1) a1 a2 a3 a4 a5 a6 a7) (a1 : A1) (a2 : A2) (a3 : A3) (a4 : A4) (a5 : A5) (a6 : A6) (a7 : A7) (h : I a1 a2 a3 a4 a5 a6 a7) : ∃ n, W n a1 a2 a3 a4 a5 a6 a7 :=
  loop_m (σ := A1 × A2 × A3 × A4 × A5 × A6 × A7) (fun n s => W n s.1 s.2.1 s.2.2.1 s.2.2.2.1 s.2.2.2.2.1 s.2.2.2.2.2.1 s.2.2.2.2.2.2) (fun s => I s.1 s.2.1 s.2.2.1 s.2.2.2.1 s.2.2.2.2.1 s.2.2.2.2.2.1 s.2.2.2.2.2.2) (fun s => μ s.1 s.2.1 s.2.2.1 s.2.2.2.1 s.2.2.2.2.1 s.2.2.2.2.2.1 s.2.2.2.2.2.2) (fun n s hI hk => hs n s.1 s.2.1 s.2.2.1 s.2.2.2.1 s.2.2.2.2.1 s.2.2.2.2.2.1 s.2.2.2.2.2.2 hI (fun b1 b2 b3 b4 b5 b6 b7 h9 hm => hk (b1, b2, b3, b4, b5, b6, b7) h9 hm)) (a1, a2, a3, a4, a5, a6, a7) h
theorem lp8 {A1 A2 A3 A4 A5 A6 A7 A8 : Type} (W : Nat → A1 → A2 → A3 → A4 → A5 → A6 → A7 → A8 → Prop) (I : A1 → A2 → A3 → A4 → A5 → A6 → A7 → A8 → Prop) (μ : A1 → A2 → A3 → A4 → A5 → A6 → A7 → A8 → Nat) (hs : ∀ (n : Nat) (a1 : A1) (a2 : A2) (a3 : A3) (a4 : A4) (a5 : A5) (a6 : A6) (a7 : A7) (a8 : A8), I a1 a2 a3 a4 a5 a6 a7 a8 → (∀ (b1 : A1) (b2 : A2) (b3 : A3) (b4 : A4) (b5 : A5) (b6 : A6) (b7 : A7) (b8 : A8), I b1 b2 b3 b4 b5 b6 b7 b8 → μ b1 b2 b3 b4 b5 b6 b7 b8 < μ a1 a2 a3 a4 a5 a6 a7 a8 → W n b1 b2 b3 b4 b5 b6 b7 b8) → W (n + 1) a1 a2 a3 a4 a5 a6 a7 a8) (a1 : A1) (a2 : A2) (a3 : A3) (a4 : A4) (a5 : A5) (a6 : A6) (a7 : A7) (a8 : A8) (h : I a1 a2 a3 a4 a5 a6 a7 a8) : ∃ n, W n a1 a2 a3 a4 a5 a6 a7 a8 :=
  loop_m (σ := A1 × A2 × A3 × A4 × A5 × A6 × A7 × A8) (fun n s => W n s.1 s.2.1 s.2.2.1 s.2.2.2.1 s.2.2.2.2.1 s.2.2.2.2.2.1 s.2.2.2.2.2.2.1 s.2.2.2.2.2.2.2) (fun s => I s.1 s.2.1 s.2.2.1 s.2.2.2.1 s.2.2.2.2.1 s.2.2.2.2.2.1 s.2.2.2.2.2.2.1 s.2.2.2.2.2.2.2) (fun s => μ s.1 s.2.1 s.2.2.1 s.2.2.2.1 s.2.2.2.2.1 s.2.2.2.2.2.1 s.2.2.2.2.2.2.1 s.2.2.2.2.2.2.2) (fun n s hI hk => hs n s.1 s.2.1 s.2.2.1 s.2.2.2.1 s.2.2.2.2.1 s.2.2.2.2.2.1 s.2.2.2.2.2.2.1 s.2.2.2.2.2.2.2 hI (fun b1 b2 b3 b4 b5 b6 b7 b8 h9 hm => hk (b1, b2, b3, b4, b5, b6, b7, b8) h9 hm)) (a1, a2, a3, a4, a5, a6, a7, a8) h
theorem lp9 {A1 A2 A3 A4 A5 A6 A7 A8 A9 : Type} (W : Nat → A1 → A2 → A3 → A4 → A5 → A6 → A7 → A8 → A9 → Prop) (I : A1 → A2 → A3 → A4 → A5 → A6 → A7 → A8 → A9 → Prop) (μ : A1 → A2 → A3 → A4 → A5 → A6 → A7 → A8 → A9 → Nat) (hs : ∀ (n : Nat) (a1 : A1) (a2 : A2) (a3 : A3) (a4 : A4) (a5 : A5) (a6 : A6) (a7 : A7) (a8 : A8) (a9 : A9), I a1 a2 a3 a4 a5 a6 a7 a8 a9 → (∀ (b1 : A1) (b2 : A2) (b3 : A3) (b4 : A4) (b5 : A5) (b6 : A6) (b7 : A7) (b8 : A8) (b9 : A9), I b1 b2 b3 b4 b5 b6 b7 b8 b9 → μ b1 b2 b3 b4 b5 b6 b7 b8 b9 < μ a1 a2 a3 a4 a5 a6 a7 a8 a9 → W n b1 b2 b3 b4 b5 b6 b7 b8 b9) → W (n + 1) a1 a2 a3 a4 a5 a6 a7 a8 a9) (a1 : A1) (a2 : A2) (a3 : A3) (a4 : A4) (a5 : A5) (a6 : A6) (a7 : A7) (a8 : A8) (a9 : A9) (h : I a1 a2 a3 a4 a5 a6 a7 a8 a9) : ∃ n, W n a1 a2 a3 a4 a5 a6 a7 a8 a9 :=
  loop_m (σ := A1 × A2 × A3 × A4 × A5 × A6 × A7 × A8 × A9) (fun n s => W n s.1 s.2.1 s.2.2.1 s.2.2.2.1 s.2.2.2.2.1 s.2.2.2.2.2.1 s.2.2.2.2.2.2.1 s.2.2.2.2.2.2.2.1 s.2.2.2.2.2.2.2.2) (fun s => I s.1 s.2.1 s.2.2.1 s.2.2.2.1 s.2.2.2.2.1 s.2.2.2.2.2.1 s.2.2.2.2.2.2.1 s.2.2.2.2.2.2.2.1 s.2.2.2.2.2.2.2.2) (fun s => μ s.1 s.2.1 s.2.2.1 s.2.2.2.1 s.2.2.2.2.1 s.2.2.2.2.2.1 s.2.2.2.2.2.2.1 s.2.2.2.2.2.2.2.1 s.2.2.2.2.2.2.2.2) (fun n s hI hk => hs n s.1 s.2.1 s.2.2.1 s.2.2.2.1 s.2.2.2.2.1 s.2.2.2.2.2.1 s.2.2.2.2.2.2.1 s.2.2.2.2.2.2.2.1 s.2.2.2.2.2.2.2.2 hI (fun b1 b2 b3 b4 b5 b6 b7 b8 b9 h9 hm => hk (b1, b2, b3, b4, b5, b6, b7, b8, b9) h9 hm)) (a1, a2, a3, a4, a5, a6, a7, a8, a9) h
theorem lp10 {A1 A2 A3 A4 A5 A6 A7 A8 A9 A10 : Type} (W : Nat → A1 → A2 → A3 → A4 → A5 → A6 → A7 → A8 → A9 → A10 → Prop) (I : A1 → A2 → A3 → A4 → A5 → A6 → A7 → A8 → A9 → A10 → Prop) (μ : A1 → A2 → A3 → A4 → A5 → A6 → A7 → A8 → A9 → A10 → Nat) (hs : ∀ (n : Nat) (a1 : A1) (a2 : A2) (a3 : A3) (a4 : A4) (a5 : A5) (a6 : A6) (a7 : A7) (a8 : A8) (a9 : A9) (a10 : A10), I a1 a2 a3 a4 a5 a6 a7 a8 a9 a10 → (∀ (b1 : A1) (b2 : A2) (b3 : A3) (b4 : A4) (b5 : A5) (b6 : A6) (b7 : A7) (b8 : A8) (b9 : A9) (b10 : A10), I b1 b2 b3 b4 b5 b6 b7 b8 b9 b10 → μ b1 b2 b3 b4 b5 b6 b7 b8 b9 b10 < μ a1 a2 a3 a4 a5 a6 a7 a8 a9 a10 → W n b1 b2 b3 b4 b5 b6 b7 b8 b9 b10) → W (n + 1) a1 a2 a3 a4 a5 a6 a7 a8 a9 a10) (a1 : A1) (a2 : A2) (a3 : A3) (a4 : A4) (a5 : A5) (a6 : A6) (a7 : A7) (a8 : A8) (a9 : A9) (a10 : A10) (h : I a1 a2 a3 a4 a5 a6 a7 a8 a9 a10) : ∃ n, W n a1 a2 a3 a4 a5 a6 a7 a8 a9 a10 :=
  loop_m (σ := A1 × A2 × A3 × A4 × A5 × A6 × A7 × A8 × A9 × A10) (fun n s => W n s.1 s.2.1 s.2.2.1 s.2.2.2.1 s.2.2.2.2.1 s.2.2.2.2.2.1 s.2.2.2.2.2.2.1 s.2.2.2.2.2.2.2.1 s.2.2.2.2.2.2.2.2.1 s.2.2.2.2.2.2.2.2.2) (fun s => I s.1 s.2.1 s.2.2.1 s.2.2.2.1 s.2.2.2.2.1 s.2.2.2.2.2.1 s.2.2.2.2.2.2.1 s.2.2.2.2.2.2.2.1 s.2.2.2.2.2.2.2.2.1 s.2.2.2.2.2.2.2.2.2) (fun s => μ s.1 s.2.1 s.2.2.1 s.2.2.2.1 s.2.2.2.2.1 s.2.2.2.2.2.1 s.2.2.2.2.2.2.1 s.2.2.2.2.2.2.2.1 s.2.2.2.2.2.2.2.2.1 s.2.2.2.2.2.2.2.2.2) (fun n s hI hk => hs n s.1 s.2.1 s.2.2.1 s.2.2.2.1 s.2.2.2.2.1 s.2.2.2.2.2.1 s.2.2.2.2.2.2.1 s.2.2.2.2.2.2.2.1 s.2.2.2.2.2.2.2.2.1 s.2.2.2.2.2.2.2.2.2 hI (fun b1 b2 b3 b4 b5 b6 b7 b8 b9 b10 h9 hm => hk (b1, b2, b3, b4, b5, b6, b7, b8, b9, b10) h9 hm)) (a1, a2, a3, a4, a5, a6, a7, a8, a9, a10) h
theorem lp11 {A1 A2 A3 A4 A5 A6 A7 A8 A9 A10 A11 : Type} (W : Nat → A1 → A2 → A3 → A4 → A5 → A6 → A7 → A8 → A9 → A10 → A11 → Prop) (I : A1 → A2 → A3 → A4 → A5 → A6 → A7 → A8 → A9 → A10 → A11 → Prop) (μ : A1 → A2 → A3 → A4 → A5 → A6 → A7 → A8 → A9 → A10 → A11 → Nat) (hs : ∀ (n : Nat) (a1 : A1) (a2 : A2) (a3 : A3) (a4 : A4) (a5 : A5) (a6 : A6) (a7 : A7) (a8 : A8) (a9 : A9) (a10 : A10) (a11 : A11), I a1 a2 a3 a4 a5 a6 a7 a8 a9 a10 a11 → (∀ (b1 : A1) (b2 : A2) (b3 : A3) (b4 : A4) (b5 : A5) (b6 : A6) (b7 : A7) (b8 : A8) (b9 : A9) (b10 : A10) (b11 : A11), I b1 b2 b3 b4 b5 b6 b7 b8 b9 b10 b11 → μ b1 b2 b3 b4 b5 b6 b7 b8 b9 b10 b11 < μ a1 a2 a3 a4 a5 a6 a7 a8 a9 a10 a11 → W n b1 b2 b3 b4 b5 b6 b7 b8 b9 b10 b11) → W (n + 1) a1 a2 a3 a4 a5 a6 a7 a8 a9 a10 a11) (a1 : A1) (a2 : A2) (a3 : A3) (a4 : A4) (a5 : A5) (a6 : A6) (a7 : A7) (a8 : A8) (a9 : A9) (a10 : A10) (a11 : A11) (h : I a1 a2 a3 a4 a5 a6 a7 a8 a9 a10 a11) : ∃ n, W n a1 a2 a3 a4 a5 a6 a7 a8 a9 a10 a11 :=
  loop_m (σ := A1 × A2 × A3 × A4 × A5 × A6 × A7 × A8 × A9 × A10 × A11) (fun n s => W n s.1 s.2.1 s.2.2.1 s.2.2.2.1 s.2.2.2.2.1 s.2.2.2.2.2.1 s.2.2.2.2.2.2.1 s.2.2.2.2.2.2.2.1 s.2.2.2.2.2.2.2.2.1 s.2.2.2.2.2.2.2.2.2.1 s.2.2.2.2.2.2.2.2.2.2) (fun s => I s.1 s.2.1 s.2.2.1 s.2.2.2.1 s.2.2.2.2.1 s.2.2.2.2.2.1 s.2.2.2.2.2.2.1 s.2.2.2.2.2.2.2.1 s.2.2.2.2.2.2.2.2.1 s.2.2.2.2.2.2.2.2.2.1 s.2.2.2.2.2.2.2.2.2.2) (fun s => μ s.1 s.2.1 s.2.2.1 s.2.2.2.1 s.2.2.2.2.1 s.2.2.2.2.2.1 s.2.2.2.2.2.2.1 s.2.2.2.2.2.2.2.1 s.2.2.2.2.2.2.2.2.1 s.2.2.2.2.2.2.2.2.2.1 s.2.2.2.2.2.2.2.2.2.2) (fun n s hI hk => hs n s.1 s.2.1 s.2.2.1 s.2.2.2.1 s.2.2.2.2.1 s.2.2.2.2.2.1 s.2.2.2.2.2.2.1 s.2.2.2.2.2.2.2.1 s.2.2.2.2.2.2.2.2.1 s.2.2.2.2.2.2.2.2.2.1 s.2.2.2.2.2.2.2.2.2.2 hI (fun b1 b2 b3 b4 b5 b6 b7 b8 b9 b10 b11 h9 hm => hk (b1, b2, b3, b4, b5, b6, b7, b8, b9, b10, b11) h9 hm)) (a1, a2, a3, a4, a5, a6, a7, a8, a9, a10, a11) h
theorem lp12 {A1 A2 A3 A4 A5 A6 A7 A8 A9 A10 A11 A12 : Type} (W : Nat → A1 → A2 → A3 → A4 → A5 → A6 → A7 → A8 → A9 → A10 → A11 → A12 → Prop) (I : A1 → A2 → A3 → A4 → A5 → A6 → A7 → A8 → A9 → A10 → A11 → A12 → Prop) (μ : A1 → A2 → A3 → A4 → A5 → A6 → A7 → A8 → A9 → A10 → A11 → A12 → Nat) (hs : ∀ (n : Nat) (a1 : A1) (a2 : A2) (a3 : A3) (a4 : A4) (a5 : A5) (a6 : A6) (a7 : A7) (a8 : A8) (a9 : A9) (a10 : A10) (a11 : A11) (a12 : A12), I a1 a2 a3 a4 a5 a6 a7 a8 a9 a10 a11 a12 → (∀ (b1 : A1) (b2 : A2) (b3 : A3) (b4 : A4) (b5 : A5) (b6 : A6) (b7 : A7) (b8 : A8) (b9 : A9) (b10 : A10) (b11 : A11) (b12 : A12), I b1 b2 b3 b4 b5 b6 b7 b8 b9 b10 b11 b12 → μ b1 b2 b3 b4 b5 b6 b7 b8 b9 b10 b11 b12 < μ a1 a2 a3 a4 a5 a6 a7 a8 a9 a10 a11 a12 → W n b1 b2 b3 b4 b5 b6 b7 b8 b9 b10 b11 b12) → W (n + 1) a1 a2 a3 a4 a5 a6 a7 a8 a9 a10 a11 a12) (a1 : A1) (a2 : A2) (a3 : A3) (a4 : A4) (a5 : A5) (a6 : A6) (a7 : A7) (a8 : A8) (a9 : A9) (a10 : A10) (a11 : A11) (a12 : A12) (h : I a1 a2 a3 a4 a5 a6 a7 a8 a9 a10 a11 a12) : ∃ n, W n a1 a2 a3 a4 a5 a6 a7 a8 a9 a10 a11 a12 :=
  loop_m (σ := A1 × A2 × A3 × A4 × A5 × A6 × A7 × A8 × A9 × A10 × A11 × A12) (fun n s => W n s.1 s.2.1 s.2.2.1 s.2.2.2.1 s.2.2.2.2.1 s.2.2.2.2.2.1 s.2.2.2.2.2.2.1 s.2.2.2.2.2.2.2.1 s.2.2.2.2.2.2.2.2.1 s.2.2.2.2.2.2.2.2.2.1 s.2.2.2.2.2.2.2.2.2.2.1 s.2.2.2.2.2.2.2.2.2.2.2) (fun s => I s.1 s.2.1 s.2.2.1 s.2.2.2.1 s.2.2.2.2.1 s.2.2.2.2.2.1 s.2.2.2.2.2.2.1 s.2.2.2.2.2.2.2.1 s.2.2.2.2.2.2.2.2.1 s.2.2.2.2.2.2.2.2.2.1 s.2.2.2.2.2.2.2.2.2.2.1 s.2.2.2.2.2.2.2.2.2.2.2) (fun s => μ s.1 s.2.1 s.2.2.1 s.2.2.2.1 s.2.2.2.2.1 s.2.2.2.2.2.1 s.2.2.2.2.2.2.1 s.2.2.2.2.2.2.2.1 s.2.2.2.2.2.2.2.2.1 s.2.2.2.2.2.2.2.2.2.1 s.2.2.2.2.2.2.2.2.2.2.1 s.2.2.2.2.2.2.2.2.2.2.2) (fun n s hI hk => hs n s.1 s.2.1 s.2.2.1 s.2.2.2.1 s.2.2.2.2.1 s.2.2.2.2.2.1 s.2.2.2.2.2.2.1 s.2.2.2.2.2.2.2.1 s.2.2.2.2.2.2.2.2.1 s.2.2.2.2.2.2.2.2.2.1 s.2.2.2.2.2.2.2.2.2.2.1 s.2.2.2.2.2.2.2.2.2.2.2 hI (fun b1 b2 b3 b4 b5 b6 b7 b8 b9 b10 b11 b12 h9 hm => hk (b1, b2, b3, b4, b5, b6, b7, b8, b9, b10, b11, b12) h9 hm)) (a1, a2, a3, a4, a5, a6, a7, a8, a9, a10, a11, a12) h
theorem lp13 {A1 A2 A3 A4 A5 A6 A7 A8 A9 A10 A11 A12 A13 : Type} (W : Nat → A1 → A2 → A3 → A4 → A5 → A6 → A7 → A8 → A9 → A10 → A11 → A12 → A13 → Prop) (I : A1 → A2 → A3 → A4 → A5 → A6 → A7 → A8 → A9 → A10 → A11 → A12 → A13 → Prop) (μ : A1 → A2 → A3 → A4 → A5 → A6 → A7 → A8 → A9 → A10 → A11 → A12 → A13 → Nat) (hs : ∀ (n : Nat) (a1 : A1) (a2 : A2) (a3 : A3) (a4 : A4) (a5 : A5) (a6 : A6) (a7 : A7) (a8 : A8) (a9 : A9) (a10 : A10) (a11 : A11) (a12 : A12) (a13 : A13), I a1 a2 a3 a4 a5 a6 a7 a8 a9 a10 a11 a12 a13 → (∀ (b1 : A1) (b2 : A2) (b3 : A3) (b4 : A4) (b5 : A5) (b6 : A6) (b7 : A7) (b8 : A8) (b9 : A9) (b10 : A10) (b11 : A11) (b12 : A12) (b13 : A13), I b1 b2 b3 b4 b5 b6 b7 b8 b9 b10 b11 b12 b13 → μ b1 b2 b3 b4 b5 b6 b7 b8 b9 b10 b11 b12 b13 < μ a1 a2 a3 a4 a5 a6 a7 a8 a9 a10 a11 a12 a13 → W n b1 b2 b3 b4 b5 b6 b7 b8 b9 b10 b11 b12 b13) → W (n + 1) a1 a2 a3 a4 a5 a6 a7 a8 a9 a10 a11 a12 a13) (a1 : A1) (a2 : A2) (a3 : A3) (a4 : A4) (a5 : A5) (a6 : A6) (a7 : A7) (a8 : A8) (a9 : A9) (a10 : A10) (a11 : A11) (a12 : A12) (a13 : A13) (h : I a1 a2 a3 a4 a5 a6 a7 a8 a9 a10 a11 a12 a13) : ∃ n, W n a1 a2 a3 a4 a5 a6 a7 a8 a9 a10 a11 a12 a13 :=
  loop_m (σ := A1 × A2 × A3 × A4 × A5 × A6 × A7 × A8 × A9 × A10 × A11 × A12 × A13) (fun n s => W n s.1 s.2.1 s.2.2.1 s.2.2.2.1 s.2.2.2.2.1 s.2.2.2.2.2.1 s.2.2.2.2.2.2.1 s.2.2.2.2.2.2.2.1 s.2.2.2.2.2.2.2.2.1 s.2.2.2.2.2.2.2.2.2.1 s.2.2.2.2.2.2.2.2.2.2.1 s.2.2.2.2.2.2.2.2.2.2.2.1 s.2.2.2.2.2.2.2.2.2.2.2.2) (fun s => I s.1 s.2.1 s.2.2.1 s.2.2.2.1 s.2.2.2.2.1 s.2.2.2.2.2.1 s.2.2.2.2.2.2.1 s.2.2.2.2.2.2.2.1 s.2.2.2.2.2.2.2.2.1 s.2.2.2.2.2.2.2.2.2.1 s.2.2.2.2.2.2.2.2.2.2.1 s.2.2.2.2.2.2.2.2.2.2.2.1 s.2.2.2.2.2.2.2.2.2.2.2.2) (fun s => μ s.1 s.2.1 s.2.2.1 s.2.2.2.1 s.2.2.2.2.1 s.2.2.2.2.2.1 s.2.2.2.2.2.2.1 s.2.2.2.2.2.2.2.1 s.2.2.2.2.2.2.2.2.1 s.2.2.2.2.2.2.2.2.2.1 s.2.2.2.2.2.2.2.2.2.2.1 s.2.2.2.2.2.2.2.2.2.2.2.1 s.2.2.2.2.2.2.2.2.2.2.2.2) (fun n s hI hk => hs n s.1 s.2.1 s.2.2.1 s.2.2.2.1 s.2.2.2.2.1 s.2.2.2.2.2.1 s.2.2.2.2.2.2.1 s.2.2.2.2.2.2.2.1 s.2.2.2.2.2.2.2.2.1 s.2.2.2.2.2.2.2.2.2.1 s.2.2.2.2.2.2.2.2.2.2.1 s.2.2.2.2.2.2.2.2.2.2.2.1 s.2.2.2.2.2.2.2.2.2.2.2.2 hI (fun b1 b2 b3 b4 b5 b6 b7 b8 b9 b10 b11 b12 b13 h9 hm => hk (b1, b2, b3, b4, b5, b6, b7, b8, b9, b10, b11, b12, b13) h9 hm)) (a1, a2, a3, a4, a5, a6, a7, a8, a9, a10, a11, a12, a13) h
theorem lp14 {A1 A2 A3 A4 A5 A6 A7 A8 A9 A10 A11 A12 A13 A14 : Type} (W : Nat → A1 → A2 → A3 → A4 → A5 → A6 → A7 → A8 → A9 → A10 → A11 → A12 → A13 → A14 → Prop) (I : A1 → A2 → A3 → A4 → A5 → A6 → A7 → A8 → A9 → A10 → A11 → A12 → A13 → A14 → Prop) (μ : A1 → A2 → A3 → A4 → A5 → A6 → A7 → A8 → A9 → A10 → A11 → A12 → A13 → A14 → Nat) (hs : ∀ (n : Nat) (a1 : A1) (a2 : A2) (a3 : A3) (a4 : A4) (a5 : A5) (a6 : A6) (a7 : A7) (a8 : A8) (a9 : A9) (a10 : A10) (a11 : A11) (a12 : A12) (a13 : A13) (a14 : A14), I a1 a2 a3 a4 a5 a6 a7 a8 a9 a10 a11 a12 a13 a14 → (∀ (b1 : A1) (b2 : A2) (b3 : A3) (b4 : A4) (b5 : A5) (b6 : A6) (b7 : A7) (b8 : A8) (b9 : A9) (b10 : A10) (b11 : A11) (b12 : A12) (b13 : A13) (b14 : A14), I b1 b2 b3 b4 b5 b6 b7 b8 b9 b10 b11 b12 b13 b14 → μ b1 b2 b3 b4 b5 b6 b7 b8 b9 b10 b11 b12 b13 b14 < μ a1 a2 a3 a4 a5 a6 a7 a8 a9 a10 a11 a12 a13 a14 → W n b1 b2 b3 b4 b5 b6 b7 b8 b9 b10 b11 b12 b13 b14) → W (n + 1) a1 a2 a3 a4 a5 a6 a7 a8 a9 a10 a11 a12 a13 a14) (a1 : A1) (a2 : A2) (a3 : A3) (a4 : A4) (a5 : A5) (a6 : A6) (a7 : A7) (a8 : A8) (a9 : A9) (a10 : A10) (a11 : A11) (a12 : A12) (a13 : A13) (a14 : A14) (h : I a1 a2 a3 a4 a5 a6 a7 a8 a9 a10 a11 a12 a13 a14) : ∃ n, W n a1 a2 a3 a4 a5 a6 a7 a8 a9 a10 a11 a12 a13 a14 :=
  loop_m (σ := A1 × A2 × A3 × A4 × A5 × A6 × A7 × A8 × A9 × A10 × A11 × A12 × A13 × A14) (fun n s => W n s.1 s.2.1 s.2.2.1 s.2.2.2.1 s.2.2.2.2.1 s.2.2.2.2.2.1 s.2.2.2.2.2.2.1 s.2.2.2.2.2.2.2.1 s.2.2.2.2.2.2.2.2.1 s.2.2.2.2.2.2.2.2.2.1 s.2.2.2.2.2.2.2.2.2.2.1 s.2.2.2.2.2.2.2.2.2.2.2.1 s.2.2.2.2.2.2.2.2.2.2.2.2.1 s.2.2.2.2.2.2.2.2.2.2.2.2.2) (fun s => I s.1 s.2.1 s.2.2.1 s.2.2.2.1 s.2.2.2.2.1 s.2.2.2.2.2.1 s.2.2.2.2.2.2.1 s.2.2.2.2.2.2.2.1 s.2.2.2.2.2.2.2.2.1 s.2.2.2.2.2.2.2.2.2.1 s.2.2.2.2.2.2.2.2.2.2.1 s.2.2.2.2.2.2.2.2.2.2.2.1 s.2.2.2.2.2.2.2.2.2.2.2.2.1 s.2.2.2.2.2.2.2.2.2.2.2.2.2) (fun s => μ s.1 s.2.1 s.2.2.1 s.2.2.2.1 s.2.2.2.2.1 s.2.2.2.2.2.1 s.2.2.2.2.2.2.1 s.2.2.2.2.2.2.2.1 s.2.2.2.2.2.2.2.2.1 s.2.2.2.2.2.2.2.2.2.1 s.2.2.2.2.2.2.2.2.2.2.1 s.2.2.2.2.2.2.2.2.2.2.2.1 s.2.2.2.2.2.2.2.2.2.2.2.2.1 s.2.2.2.2.2.2.2.2.2.2.2.2.2) (fun n s hI hk => hs n s.1 s.2.1 s.2.2.1 s.2.2.2.1 s.2.2.2.2.1 s.2.2.2.2.2.1 s.2.2.2.2.2.2.1 s.2.2.2.2.2.2.2.1 s.2.2.2.2.2.2.2.2.1 s.2.2.2.2.2.2.2.2.2.1 s.2.2.2.2.2.2.2.2.2.2.1 s.2.2.2.2.2.2.2.2.2.2.2.1 s.2.2.2.2.2.2.2.2.2.2.2.2.1 s.2.2.2.2.2.2.2.2.2.2.2.2.2 hI (fun b1 b2 b3 b4 b5 b6 b7 b8 b9 b10 b11 b12 b13 b14 h9 hm => hk (b1, b2, b3, b4, b5, b6, b7, b8, b9, b10, b11, b12, b13, b14) h9 hm)) (a1, a2, a3, a4, a5, a6, a7, a8, a9, a10, a11, a12, a13, a14) h
theorem lp15 {A1 A2 A3 A4 A5 A6 A7 A8 A9 A10 A11 A12 A13 A14 A15 : Type} (W : Nat → A1 → A2 → A3 → A4 → A5 → A6 → A7 → A8 → A9 → A10 → A11 → A12 → A13 → A14 → A15 → Prop) (I : A1 → A2 → A3 → A4 → A5 → A6 → A7 → A8 → A9 → A10 → A11 → A12 → A13 → A14 → A15 → Prop) (μ : A1 → A2 → A3 → A4 → A5 → A6 → A7 → A8 → A9 → A10 → A11 → A12 → A13 → A14 → A15 → Nat) (hs : ∀ (n : Nat) (a1 : A1) (a2 : A2) (a3 : A3) (a4 : A4) (a5 : A5) (a6 : A6) (a7 : A7) (a8 : A8) (a9 : A9) (a10 : A10) (a11 : A11) (a12 : A12) (a13 : A13) (a14 : A14) (a15 : A15), I a1 a2 a3 a4 a5 a6 a7 a8 a9 a10 a11 a12 a13 a14 a15 → (∀ (b1 : A1) (b2 : A2) (b3 : A3) (b4 : A4) (b5 : A5) (b6 : A6) (b7 : A7) (b8 : A8) (b9 : A9) (b10 : A10) (b11 : A11) (b12 : A12) (b13 : A13) (b14 : A14) (b15 : A15), I b1 b2 b3 b4 b5 b6 b7 b8 b9 b10 b11 b12 b13 b14 b15 → μ b1 b2 b3 b4 b5 b6 b7 b8 b9 b10 b11 b12 b13 b14 b15 < μ a1 a2 a3 a4 a5 a6 a7 a8 a9 a10 a11 a12 a13 a14 a15 → W n b1 b2 b3 b4 b5 b6 b7 b8 b9 b10 b11 b12 b13 b14 b15) → W (n + 1) a1 a2 a3 a4 a5 a6 a7 a8 a9 a10 a11 a12 a13 a14 a15) (a1 : A1) (a2 : A2) (a3 : A3) (a4 : A4) (a5 : A5) (a6 : A6) (a7 : A7) (a8 : A8) (a9 : A9) (a10 : A10) (a11 : A11) (a12 : A12) (a13 : A13) (a14 : A14) (a15 : A15) (h : I a1 a2 a3 a4 a5 a6 a7 a8 a9 a10 a11 a12 a13 a14 a15) : ∃ n, W n a1 a2 a3 a4 a5 a6 a7 a8 a9 a10 a11 a12 a13 a14 a15 :=
  loop_m (σ := A1 × A2 × A3 × A4 × A5 × A6 × A7 × A8 × A9 × A10 × A11 × A12 × A13 × A14 × A15) (fun n s => W n s.1 s.2.1 s.2.2.1 s.2.2.2.1 s.2.2.2.2.1 s.2.2.2.2.2.1 s.2.2.2.2.2.2.1 s.2.2.2.2.2.2.2.1 s.2.2.2.2.2.2.2.2.1 s.2.2.2.2.2.2.2.2.2.1 s.2.2.2.2.2.2.2.2.2.2.1 s.2.2.2.2.2.2.2.2.2.2.2.1 s.2.2.2.2.2.2.2.2.2.2.2.2.1 s.2.2.2.2.2.2.2.2.2.2.2.2.2.1 s.2.2.2.2.2.2.2.2.2.2.2.2.2.2) (fun s => I s.1 s.2.1 s.2.2.1 s.2.2.2.1 s.2.2.2.2.1 s.2.2.2.2.2.1 s.2.2.2.2.2.2.1 s.2.2.2.2.2.2.2.1 s.2.2.2.2.2.2.2.2.1 s.2.2.2.2.2.2.2.2.2.1 s.2.2.2.2.2.2.2.2.2.2.1 s.2.2.2.2.2.2.2.2.2.2.2.1 s.2.2.2.2.2.2.2.2.2.2.2.2.1 s.2.2.2.2.2.2.2.2.2.2.2.2.2.1 s.2.2.2.2.2.2.2.2.2.2.2.2.2.2) (fun s => μ s.1 s.2.1 s.2.2.1 s.2.2.2.1 s.2.2.2.2.1 s.2.2.2.2.2.1 s.2.2.2.2.2.2.1 s.2.2.2.2.2.2.2.1 s.2.2.2.2.2.2.2.2.1 s.2.2.2.2.2.2.2.2.2.1 s.2.2.2.2.2.2.2.2.2.2.1 s.2.2.2.2.2.2.2.2.2.2.2.1 s.2.2.2.2.2.2.2.2.2.2.2.2.1 s.2.2.2.2.2.2.2.2.2.2.2.2.2.1 s.2.2.2.2.2.2.2.2.2.2.2.2.2.2) (fun n s hI hk => hs n s.1 s.2.1 s.2.2.1 s.2.2.2.1 s.2.2.2.2.1 s.2.2.2.2.2.1 s.2.2.2.2.2.2.1 s.2.2.2.2.2.2.2.1 s.2.2.2.2.2.2.2.2.1 s.2.2.2.2.2.2.2.2.2.1 s.2.2.2.2.2.2.2.2.2.2.1 s.2.2.2.2.2.2.2.2.2.2.2.1 s.2.2.2.2.2.2.2.2.2.2.2.2.1 s.2.2.2.2.2.2.2.2.2.2.2.2.2.1 s.2.2.2.2.2.2.2.2.2.2.2.2.2.2 hI (fun b1 b2 b3 b4 b5 b6 b7 b8 b9 b10 b11 b12 b13 b14 b15 h9 hm => hk (b1, b2, b3, b4, b5, b6, b7, b8, b9, b10, b11, b12, b13, b14, b15) h9 hm)) (a1, a2, a3, a4, a5, a6, a7, a8, a9, a10, a11, a12, a13, a14, a15) h
theorem lp16 {A1 A2 A3 A4 A5 A6 A7 A8 A9 A10 A11 A12 A13 A14 A15 A16 : Type} (W : Nat → A1 → A2 → A3 → A4 → A5 → A6 → A7 → A8 → A9 → A10 → A11 → A12 → A13 → A14 → A15 → A16 → Prop) (I : A1 → A2 → A3 → A4 → A5 → A6 → A7 → A8 → A9 → A10 → A11 → A12 → A13 → A14 → A15 → A16 → Prop) (μ : A1 → A2 → A3 → A4 → A5 → A6 → A7 → A8 → A9 → A10 → A11 → A12 → A13 → A14 → A15 → A16 → Nat) (hs : ∀ (n : Nat) (a1 : A1) (a2 : A2) (a3 : A3) (a4 : A4) (a5 : A5) (a6 : A6) (a7 : A7) (a8 : A8) (a9 : A9) (a10 : A10) (a11 : A11) (a12 : A12) (a13 : A13) (a14 : A14) (a15 : A15) (a16 : A16), I a1 a2 a3 a4 a5 a6 a7 a8 a9 a10 a11 a12 a13 a14 a15 a16 → (∀ (b1 : A1) (b2 : A2) (b3 : A3) (b4 : A4) (b5 : A5) (b6 : A6) (b7 : A7) (b8 : A8) (b9 : A9) (b10 : A10) (b11 : A11) (b12 : A12) (b13 : A13) (b14 : A14) (b15 : A15) (b16 : A16), I b1 b2 b3 b4 b5 b6 b7 b8 b9 b10 b11 b12 b13 b14 b15 b16 → μ b1 b2 b3 b4 b5 b6 b7 b8 b9 b10 b11 b12 b13 b14 b15 b16 < μ a1 a2 a3 a4 a5 a6 a7 a8 a9 a10 a11 a12 a13 a14 a15 a16 → W n b1 b2 b3 b4 b5 b6 b7 b8 b9 b10 b11 b12 b13 b14 b15 b16) → W (n + 1) a1 a2 a3 a4 a5 a6 a7 a8 a9 a10 a11 a12 a13 a14 a15 a16) (a1 : A1) (a2 : A2) (a3 : A3) (a4 : A4) (a5 : A5) (a6 : A6) (a7 : A7) (a8 : A8) (a9 : A9) (a10 : A10) (a11 : A11) (a12 : A12) (a13 : A13) (a14 : A14) (a15 : A15) (a16 : A16) (h : I a1 a2 a3 a4 a5 a6 a7 a8 a9 a10 a11 a12 a13 a14 a15 a16) : ∃ n, W n a1 a2 a3 a4 a5 a6 a7 a8 a9 a10 a11 a12 a13 a14 a15 a16 :=
  loop_m (σ := A1 × A2 × A3 × A4 × A5 × A6 × A7 × A8 × A9 × A10 × A11 × A12 × A13 × A14 × A15 × A16) (fun n s => W n s.1 s.2.1 s.2.2.1 s.2.2.2.1 s.2.2.2.2.1 s.2.2.2.2.2.1 s.2.2.2.2.2.2.1 s.2.2.2.2.2.2.2.1 s.2.2.2.2.2.2.2.2.1 s.2.2.2.2.2.2.2.2.2.1 s.2.2.2.2.2.2.2.2.2.2.1 s.2.2.2.2.2.2.2.2.2.2.2.1 s.2.2.2.2.2.2.2.2.2.2.2.2.1 s.2.2.2.2.2.2.2.2.2.2.2.2.2.1 s.2.2.2.2.2.2.2.2.2.2.2.2.2.2.1 s.2.2.2.2.2.2.2.2.2.2.2.2.2.2.2) (fun s => I s.1 s.2.1 s.2.2.1 s.2.2.2.1 s.2.2.2.2.1 s.2.2.2.2.2.1 s.2.2.2.2.2.2.1 s.2.2.2.2.2.2.2.1 s.2.2.2.2.2.2.2.2.1 s.2.2.2.2.2.2.2.2.2.1 s.2.2.2.2.2.2.2.2.2.2.1 s.2.2.2.2.2.2.2.2.2.2.2.1 s.2.2.2.2.2.2.2.2.2.2.2.2.1 s.2.2.2.2.2.2.2.2.2.2.2.2.2.1 s.2.2.2.2.2.2.2.2.2.2.2.2.2.2.1 s.2.2.2.2.2.2.2.2.2.2.2.2.2.2.2) (fun s => μ s.1 s.2.1 s.2.2.1 s.2.2.2.1 s.2.2.2.2.1 s.2.2.2.2.2.1 s.2.2.2.2.2.2.1 s.2.2.2.2.2.2.2.1 s.2.2.2.2.2.2.2.2.1 s.2.2.2.2.2.2.2.2.2.1 s.2.2.2.2.2.2.2.2.2.2.1 s.2.2.2.2.2.2.2.2.2.2.2.1 s.2.2.2.2.2.2.2.2.2.2.2.2.1 s.2.2.2.2.2.2.2.2.2.2.2.2.2.1 s.2.2.2.2.2.2.2.2.2.2.2.2.2.2.1 s.2.2.2.2.2.2.2.2.2.2.2.2.2.2.2) (fun n s hI hk => hs n s.1 s.2.1 s.2.2.1 s.2.2.2.1 s.2.2.2.2.1 s.2.2.2.2.2.1 s.2.2.2.2.2.2.1 s.2.2.2.2.2.2.2.1 s.2.2.2.2.2.2.2.2.1 s.2.2.2.2.2.2.2.2.2.1 s.2.2.2.2.2.2.2.2.2.2.1 s.2.2.2.2.2.2.2.2.2.2.2.1 s.2.2.2.2.2.2.2.2.2.2.2.2.1 s.2.2.2.2.2.2.2.2.2.2.2.2.2.1 s.2.2.2.2.2.2.2.2.2.2.2.2.2.2.1 s.2.2.2.2.2.2.2.2.2.2.2.2.2.2.2 hI (fun b1 b2 b3 b4 b5 b6 b7 b8 b9 b10 b11 b12 b13 b14 b15 b16 h9 hm => hk (b1, b2, b3, b4, b5, b6, b7, b8, b9, b10, b11, b12, b13, b14, b15, b16) h9 hm)) (a1, a2, a3, a4, a5, a6, a7, a8, a9, a10, a11, a12, a13, a14, a15, a16) h
theorem pk_least (P : Nat → Prop) (h : ∃ k, P k) : ∃ k, P k ∧ ∀ j, j < k → ¬ P j := by
  obtain ⟨k, hk⟩ := h
  induction k using Nat.strongRecOn with
  | ind k ih =>
    by_cases e : ∃ j, j < k ∧ P j
    · obtain ⟨j, hj, pj⟩ := e
      exact ih j hj pj
    · exact ⟨k, hk, fun j hj pj => e ⟨j, hj, pj⟩⟩
theorem rp1 {ρ A1 : Type} (W : Nat → (ρ → Prop) → A1 → Prop) (ok : A1 → Prop) (μ : A1 → Nat) (val : A1 → ρ)
    (hs : ∀ (d : Nat) (post : ρ → Prop) (a1 : A1), ok a1 → post (val a1) → (∀ (post' : ρ → Prop) (b1 : A1), ok b1 → μ b1 < μ a1 → post' (val b1) → W d post' b1) → W (d + 1) post a1) :
    ∀ (d : Nat) (post : ρ → Prop) (a1 : A1), ok a1 → μ a1 < d → post (val a1) → W d post a1 := by
  intro d
  induction d with
  | zero => intro post a1 _ h; omega
  | succ d ih =>
    intro post a1 ho hm hp
    exact hs d post a1 ho hp (fun post' b1 ho' hm' hp' => ih post' b1 ho' (by omega) hp')
theorem rp2 {ρ A1 A2 : Type} (W : Nat → (ρ → Prop) → A1 → A2 → Prop) (ok : A1 → A2 → Prop) (μ : A1 → A2 → Nat) (val : A1 → A2 → ρ)
    (hs : ∀ (d : Nat) (post : ρ → Prop) (a1 : A1) (a2 : A2), ok a1 a2 → post (val a1 a2) → (∀ (post' : ρ → Prop) (b1 : A1) (b2 : A2), ok b1 b2 → μ b1 b2 < μ a1 a2 → post' (val b1 b2) → W d post' b1 b2) → W (d + 1) post a1 a2) :
    ∀ (d : Nat) (post : ρ → Prop) (a1 : A1) (a2 : A2), ok a1 a2 → μ a1 a2 < d → post (val a1 a2) → W d post a1 a2 := by
  intro d
  induction d with
  | zero => intro post a1 a2 _ h; omega
  | succ d ih =>
    intro post a1 a2 ho hm hp
    exact hs d post a1 a2 ho hp (fun post' b1 b2 ho' hm' hp' => ih post' b1 b2 ho' (by omega) hp')
theorem rp3 {ρ A1 A2 A3 : Type} (W : Nat → (ρ → Prop) → A1 → A2 → A3 → Prop) (ok : A1 → A2 → A3 → Prop) (μ : A1 → A2 → A3 → Nat) (val : A1 → A2 → A3 → ρ)
    (hs : ∀ (d : Nat) (post : ρ → Prop) (a1 : A1) (a2 : A2) (a3 : A3), ok a1 a2 a3 → post (val a1 a2 a3) → (∀ (post' : ρ → Prop) (b1 : A1) (b2 : A2) (b3 : A3), ok b1 b2 b3 → μ b1 b2 b3 < μ a1 a2 a3 → post' (val b1 b2 b3) → W d post' b1 b2 b3) → W (d + 1) post a1 a2 a3) :
    ∀ (d : Nat) (post : ρ → Prop) (a1 : A1) (a2 : A2) (a3 : A3), ok a1 a2 a3 → μ a1 a2 a3 < d → post (val a1 a2 a3) → W d post a1 a2 a3 := by
  intro d
  induction d with
  | zero => intro post a1 a2 a3 _ h; omega
  | succ d ih =>
    intro post a1 a2 a3 ho hm hp
    exact hs d post a1 a2 a3 ho hp (fun post' b1 b2 b3 ho' hm' hp' => ih post' b1 b2 b3 ho' (by omega) hp')
theorem rp4 {ρ A1 A2 A3 A4 : Type} (W : Nat → (ρ → Prop) → A1 → A2 → A3 → A4 → Prop) (ok : A1 → A2 → A3 → A4 → Prop) (μ : A1 → A2 → A3 → A4 → Nat) (val : A1 → A2 → A3 → A4 → ρ)
    (hs : ∀ (d : Nat) (post : ρ → Prop) (a1 : A1) (a2 : A2) (a3 : A3) (a4 : A4), ok a1 a2 a3 a4 → post (val a1 a2 a3 a4) → (∀ (post' : ρ → Prop) (b1 : A1) (b2 : A2) (b3 : A3) (b4 : A4), ok b1 b2 b3 b4 → μ b1 b2 b3 b4 < μ a1 a2 a3 a4 → post' (val b1 b2 b3 b4) → W d post' b1 b2 b3 b4) → W (d + 1) post a1 a2 a3 a4) :
    ∀ (d : Nat) (post : ρ → Prop) (a1 : A1) (a2 : A2) (a3 : A3) (a4 : A4), ok a1 a2 a3 a4 → μ a1 a2 a3 a4 < d → post (val a1 a2 a3 a4) → W d post a1 a2 a3 a4 := by
  intro d
  induction d with
  | zero => intro post a1 a2 a3 a4 _ h; omega
  | succ d ih =>
    intro post a1 a2 a3 a4 ho hm hp
    exact hs d post a1 a2 a3 a4 ho hp (fun post' b1 b2 b3 b4 ho' hm' hp' => ih post' b1 b2 b3 b4 ho' (by omega) hp')
theorem rp5 {ρ A1 A2 A3 A4 A5 : Type} (W : Nat → (ρ → Prop) → A1 → A2 → A3 → A4 → A5 → Prop) (ok : A1 → A2 → A3 → A4 → A5 → Prop) (μ : A1 → A2 → A3 → A4 → A5 → Nat) (val : A1 → A2 → A3 → A4 → A5 → ρ)
    (hs : ∀ (d : Nat) (post : ρ → Prop) (a1 : A1) (a2 : A2) (a3 : A3) (a4 : A4) (a5 : A5), ok a1 a2 a3 a4 a5 → post (val a1 a2 a3 a4 a5) → (∀ (post' : ρ → Prop) (b1 : A1) (b2 : A2) (b3 : A3) (b4 : A4) (b5 : A5), ok b1 b2 b3 b4 b5 → μ b1 b2 b3 b4 b5 < μ a1 a2 a3 a4 a5 → post' (val b1 b2 b3 b4 b5) → W d post' b1 b2 b3 b4 b5) → W (d + 1) post a1 a2 a3 a4 a5) :
    ∀ (d : Nat) (post : ρ → Prop) (a1 : A1) (a2 : A2) (a3 : A3) (a4 : A4) (a5 : A5), ok a1 a2 a3 a4 a5 → μ a1 a2 a3 a4 a5 < d → post (val a1 a2 a3 a4 a5) → W d post a1 a2 a3 a4 a5 := by
  intro d
  induction d with
  | zero => intro post a1 a2 a3 a4 a5 _ h; omega
  | succ d ih =>
    intro post a1 a2 a3 a4 a5 ho hm hp
    exact hs d post a1 a2 a3 a4 a5 ho hp (fun post' b1 b2 b3 b4 b5 ho' hm' hp' => ih post' b1 b2 b3 b4 b5 ho' (by omega) hp')
theorem rp6 {ρ A1 A2 A3 A4 A5 A6 : Type} (W : Nat → (ρ → Prop) → A1 → A2 → A3 → A4 → A5 → A6 → Prop) (ok : A1 → A2 → A3 → A4 → A5 → A6 → Prop) (μ : A1 → A2 → A3 → A4 → A5 → A6 → Nat) (val : A1 → A2 → A3 → A4 → A5 → A6 → ρ)
    (hs : ∀ (d : Nat) (post : ρ → Prop) (a1 : A1) (a2 : A2) (a3 : A3) (a4 : A4) (a5 : A5) (a6 : A6), ok a1 a2 a3 a4 a5 a6 → post (val a1 a2 a3 a4 a5 a6) → (∀ (post' : ρ → Prop) (b1 : A1) (b2 : A2) (b3 : A3) (b4 : A4) (b5 : A5) (b6 : A6), ok b1 b2 b3 b4 b5 b6 → μ b1 b2 b3 b4 b5 b6 < μ a1 a2 a3 a4 a5 a6 → post' (val b1 b2 b3 b4 b5 b6) → W d post' b1 b2 b3 b4 b5 b6) → W (d + 1) post a1 a2 a3 a4 a5 a6) :
    ∀ (d : Nat) (post : ρ → Prop) (a1 : A1) (a2 : A2) (a3 : A3) (a4 : A4) (a5 : A5) (a6 : A6), ok a1 a2 a3 a4 a5 a6 → μ a1 a2 a3 a4 a5 a6 < d → post (val a1 a2 a3 a4 a5 a6) → W d post a1 a2 a3 a4 a5 a6 := by
  intro d
  induction d with
  | zero => intro post a1 a2 a3 a4 a5 a6 _ h; omega
  | succ d ih =>
    intro post a1 a2 a3 a4 a5 a6 ho hm hp
    exact hs d post a1 a2 a3 a4 a5 a6 ho hp (fun post' b1 b2 b3 b4 b5 b6 ho' hm' hp' => ih post' b1 b2 b3 b4 b5 b6 ho' (by omega) hp')
theorem rec_p {σ ρ : Type} (W : Nat → (ρ → Prop) → σ → Prop) (ok : σ → Prop) (μ : σ → Nat) (val : σ → ρ)
    (hs : ∀ d s post, ok s → post (val s) → (∀ s' post', ok s' → μ s' < μ s → post' (val s') → W d post' s') → W (d + 1) post s) :
    ∀ d s post, ok s → μ s < d → post (val s) → W d post s := by
  intro d
  induction d with
  | zero => intro s post _ h; omega
  | succ d ih =>
    intro s post ho hm hp
    exact hs d s post ho hp (fun s' post' ho' hm' hp' => ih s' post' ho' (by omega) hp')
theorem rec_q {σ ρ : Type} (W : Nat → (ρ → Prop) → σ → Prop) (ok : σ → Prop) (μ : σ → Nat) (Q : σ → ρ → Prop)
    (hs : ∀ d s post, ok s → (∀ r, Q s r → post r) → (∀ s' post', ok s' → μ s' < μ s → (∀ r, Q s' r → post' r) → W d post' s') → W (d + 1) post s) :
    ∀ d s post, ok s → μ s < d → (∀ r, Q s r → post r) → W d post s := by
  intro d
  induction d with
  | zero => intro s post _ h; omega
  | succ d ih =>
    intro s post ho hm hp
    exact hs d s post ho hp (fun s' post' ho' hm' hp' => ih s' post' ho' (by omega) hp')
def bx_sum (f : Nat → Int32) : Nat → Int32
  | 0 => 0
  | n + 1 => bx_sum f n + f n
theorem ek_u {A : Prop} {B : Nat → Prop} {k N : Nat} (hk : k < N) (h : B k) : (some k = none → A) ∧ (∀ y : Nat, some k = some y → (y < N ∧ B y)) :=
  ⟨fun z => absurd z (Option.some_ne_none k), fun _ e => (by cases e; exact ⟨hk, h⟩)⟩
theorem ek_nu {A : Prop} {B : Nat → Prop} (h : A) : ((none : Option Nat) = none → A) ∧ (∀ y : Nat, (none : Option Nat) = some y → B y) :=
  ⟨fun _ => h, fun _ e => (by cases e)⟩
theorem ek_if {c d A B : Prop} (e : c ↔ d) (f : d → A) (g : ¬ d → B) : (c → A) ∧ (¬ c → B) :=
  ⟨fun z => f (e.mp z), fun z => g (fun y => z (e.mpr y))⟩
theorem ek_v {α : Sort _} {P : α → Prop} {a b : α} (e : a = b) (h : P b) : P a := e ▸ h
theorem co_some {x : Option Nat} {A : Prop} {B : Nat → Prop} (i : Nat) (h : B i) (hx : x = some i := by rfl) : (x = none → A) ∧ (∀ y : Nat, x = some y → B y) := by
  subst hx
  exact ⟨fun e => (nomatch e), fun y e => Option.some.inj e ▸ h⟩
theorem co_none {x : Option Nat} {A : Prop} {B : Nat → Prop} (h : A) (hx : x = none := by rfl) : (x = none → A) ∧ (∀ y : Nat, x = some y → B y) := by
  subst hx
  exact ⟨fun _ => h, fun y e => (nomatch e)⟩
theorem co_any {x : Option Nat} {A : Prop} {B : Nat → Prop} (hn : x = none → A) (hs : ∀ i : Nat, x = some i → B i) : (x = none → A) ∧ (∀ y : Nat, x = some y → B y) := ⟨hn, hs⟩
theorem co_2 {P : Nat → Prop} (h0 : P 0) (h1 : P 1) {i : Nat} (hi : i < 2) : P i :=
  match i, hi with
  | 0, _ => h0
  | 1, _ => h1
theorem co_3 {P : Nat → Prop} (h0 : P 0) (h1 : P 1) (h2 : P 2) {i : Nat} (hi : i < 3) : P i :=
  match i, hi with
  | 0, _ => h0
  | 1, _ => h1
  | 2, _ => h2
theorem co_4 {P : Nat → Prop} (h0 : P 0) (h1 : P 1) (h2 : P 2) (h3 : P 3) {i : Nat} (hi : i < 4) : P i :=
  match i, hi with
  | 0, _ => h0
  | 1, _ => h1
  | 2, _ => h2
  | 3, _ => h3
theorem co_dec {N : Nat} {P : Nat → Prop} [DecidablePred P] (h : (List.range N).all (fun i => decide (P i)) = true) {i : Nat} (hi : i < N) : P i := by
  have := List.all_eq_true.mp h i (List.mem_range.mpr hi)
  exact of_decide_eq_true this
theorem co_tab {α : Type} {l : List α} {d : α} {P : α → Prop} (h : ∀ a, a ∈ l → P a) {i : Nat} (hi : i < l.length) : P (l.getD i d) := by
  rw [List.getD_eq_getElem?_getD, List.getElem?_eq_getElem hi]
  exact h _ (List.getElem_mem hi)
theorem pk_mu {x : Int32} {L : Nat} (h0 : ¬ x < 0) (h : ¬ nI L ≤ x) (hL : L < 2 ^ 31) : ∃ j : Nat, j < L ∧ x = nI j ∧ x + 1 = nI (j + 1) ∧ x.toNatClampNeg = j ∧ L - (x + 1).toNatClampNeg < L - x.toNatClampNeg := by
  obtain ⟨j, hj, rfl⟩ := nI_of h0
  have hl : j < L := Nat.not_le.mp fun q => h (nI_le q hj)
  refine ⟨j, hl, rfl, nI_1 j, nI_clamp hj, ?_⟩
  rw [nI_1, nI_clamp (by omega), nI_clamp hj]
  omega
theorem op_s {α : Type} {r : Option α} {A : Prop} {B : α → Prop} {y : α} (h : r = some y) (b : B y) : (r = none → A) ∧ ∀ z, r = some z → B z :=
  ⟨fun e => (by rw [h] at e; cases e), fun z e => (by rw [h] at e; cases e; exact b)⟩
def l_holds {α : Type} (a : Nat → Option Nat) (LP : List Nat) (p : Nat → α) (c : Nat) (b : Nat → α) : Prop :=
  ∀ j, j < c → ∃ y, a j = some y ∧ y ∈ LP ∧ p y = b j
theorem l_holds_0 {α : Type} {a : Nat → Option Nat} {LP : List Nat} {p b : Nat → α} : l_holds a LP p 0 b := fun j h => absurd h (Nat.not_lt_zero j)
theorem l_in_new (LP : List Nat) (q : Nat) : q ∈ LP ++ [q] := List.mem_append.mpr (Or.inr (List.mem_singleton.mpr rfl))
def l_sum (b : Nat → Int32) : Nat → Int32
  | 0 => 0
  | k + 1 => l_sum b k + b k
theorem sb_shr0 (x : Int32) : x >>> ((0 : Int32) &&& 31) = x := by
  rw [show ((0 : Int32) &&& 31) = 0 by decide]
  simp
theorem sb_shl0 (x : Int32) : x <<< ((0 : Int32) &&& 31) = x := by
  rw [show ((0 : Int32) &&& 31) = 0 by decide]
  simp
theorem sb_cl0 : (0 : Int32).toNatClampNeg = 0 := by decide
theorem sb_m1 {p : Nat} (h : 0 < p) : nI p + (-1) = nI (p - 1) := by
  obtain ⟨q, rfl⟩ : ∃ q, p = q + 1 := ⟨p - 1, by omega⟩
  exact pk_m1 q
def sb_b (c : Nat) : Int32 := (nI c).toInt8.toInt32
theorem sb_byte : ∀ c, c < 256 → sb_b c &&& 255 = nI c ∧ ((nI c).toUInt32 % 65536).toInt32 = nI c ∧ nI c ≤ 255 := by decide +kernel
def sb_Fit (a : Nat → Int32) : Prop := ∀ j, fits .byte (.int (a j)) = true
def sb_Lat (t : Nat → Nat) (n : Nat) (a : Nat → Int32) : Prop := ∀ j, j < n → t j < 256 ∧ a j = sb_b (t j)
theorem sb_fitB (c : Nat) : fits .byte (.int (sb_b c)) = true := pk_fb _
theorem sb_fit0 : sb_Fit (fun _ => 0) := fun _ => by
  show fits .byte (.int 0) = true
  decide
theorem sb_fitU {a : Nat → Int32} {k : Nat} {x : Int32} (h : sb_Fit a) (hx : fits .byte (.int x) = true) : sb_Fit (upd a k x) := by
  intro j
  by_cases e : j = k
  · subst e
    rw [pk_us]
    exact hx
  · rw [pk_un e]
    exact h j
def sb_cat (t : Nat → Nat) (n : Nat) (s : Nat → Nat) : Nat → Nat := fun j => if j < n then t j else s (j - n)
theorem sb_cat_lo {t s : Nat → Nat} {n j : Nat} (h : j < n) : sb_cat t n s j = t j := if_pos h
theorem sb_cat_hi {t s : Nat → Nat} {n j : Nat} : sb_cat t n s (n + j) = s j := by
  show (if n + j < n then t (n + j) else s (n + j - n)) = s j
  rw [if_neg (by omega), Nat.add_sub_cancel_left]
theorem sb_latPut {t s : Nat → Nat} {n w : Nat} {a a' : Nat → Int32} (h : sb_Lat t n a) (hk : ∀ j, j < n → a' j = a j) (hs : ∀ i, i < w → s i < 256 ∧ a' (n + i) = sb_b (s i)) : sb_Lat (sb_cat t n s) (n + w) a' := by
  intro j hj
  by_cases e : j < n
  · rw [sb_cat_lo e, hk j e]
    exact h j e
  · obtain ⟨i, rfl⟩ : ∃ i, j = n + i := ⟨j - n, by omega⟩
    rw [sb_cat_hi]
    exact hs i (by omega)
theorem sb_latKeep {t : Nat → Nat} {n : Nat} {a a' : Nat → Int32} (h : sb_Lat t n a) (hk : ∀ j, j < n → a' j = a j) : sb_Lat t n a' := fun j hj => by
  rw [hk j hj]
  exact h j hj
def sb_cap (q m : Nat) : Nat := if q ≤ m then m else if 2 * m + 2 < q then q else 2 * m + 2
def sb_Room (q m mc ms : Nat) : Prop := q ≤ m ∨ (1 ≤ mc ∧ sb_cap q m ≤ ms ∧ sb_cap q m ≤ 65536)
theorem sb_cap_ge (q m : Nat) : q ≤ sb_cap q m := by
  unfold sb_cap
  split
  · omega
  · split <;> omega
theorem sb_cap_gem (q m : Nat) : m ≤ sb_cap q m := by
  unfold sb_cap
  split
  · omega
  · split <;> omega
theorem sb_cap_le {q m mc ms : Nat} (hm : m ≤ 65536) (hr : sb_Room q m mc ms) : sb_cap q m ≤ 65536 := by
  rcases hr with h | h
  · rw [sb_cap, if_pos h]
    exact hm
  · exact h.2.2
theorem sb_at {P : Int32 → Prop} {x y : Int32} (e : x = y) (h : P y) : P x := e ▸ h
def sb_dg (w : Nat) : Nat := if w < 10 then 1 else if w < 100 then 2 else if w < 1000 then 3 else if w < 10000 then 4 else if w < 100000 then 5 else if w < 1000000 then 6 else if w < 10000000 then 7 else if w < 100000000 then 8 else if w < 1000000000 then 9 else 10
def sb_dec (v : Nat) : Nat → Nat := fun i => 48 + v / 10 ^ (sb_dg v - 1 - i) % 10
theorem sb_dg_in (w : Nat) : 1 ≤ sb_dg w ∧ sb_dg w ≤ 10 := by
  unfold sb_dg
  constructor <;> (repeat' split) <;> omega
theorem sb_dg100 {w : Nat} (h : 100 ≤ w) (hw : w < 2 ^ 31) : sb_dg w = sb_dg (w / 100) + 2 := by
  rw [sb_dg, sb_dg, if_neg (show ¬ w < 10 by omega), if_neg (show ¬ w < 100 by omega)]
  by_cases h3 : w < 1000
  · rw [if_pos h3, if_pos (show w / 100 < 10 by omega)]
  rw [if_neg h3, if_neg (show ¬ w / 100 < 10 by omega)]
  by_cases h4 : w < 10000
  · rw [if_pos h4, if_pos (show w / 100 < 100 by omega)]
  rw [if_neg h4, if_neg (show ¬ w / 100 < 100 by omega)]
  by_cases h5 : w < 100000
  · rw [if_pos h5, if_pos (show w / 100 < 1000 by omega)]
  rw [if_neg h5, if_neg (show ¬ w / 100 < 1000 by omega)]
  by_cases h6 : w < 1000000
  · rw [if_pos h6, if_pos (show w / 100 < 10000 by omega)]
  rw [if_neg h6, if_neg (show ¬ w / 100 < 10000 by omega)]
  by_cases h7 : w < 10000000
  · rw [if_pos h7, if_pos (show w / 100 < 100000 by omega)]
  rw [if_neg h7, if_neg (show ¬ w / 100 < 100000 by omega)]
  by_cases h8 : w < 100000000
  · rw [if_pos h8, if_pos (show w / 100 < 1000000 by omega)]
  rw [if_neg h8, if_neg (show ¬ w / 100 < 1000000 by omega)]
  by_cases h9 : w < 1000000000
  · rw [if_pos h9, if_pos (show w / 100 < 10000000 by omega)]
  rw [if_neg h9, if_neg (show ¬ w / 100 < 10000000 by omega)]
  rw [if_pos (show w / 100 < 100000000 by omega)]
theorem sb_negT {w : Nat} (h : w < 2 ^ 31) : (-nI w).toInt = -(w : Int) := by
  rw [Int32.toInt_neg, nI_toInt h]
  exact Int.bmod_eq_of_le (by omega) (by omega)
theorem sb_nle {a b : Nat} (ha : a < 2 ^ 31) (hb : b < 2 ^ 31) : -nI a ≤ -nI b ↔ b ≤ a := by
  rw [Int32.le_iff_toInt_le, sb_negT ha, sb_negT hb]
  omega
theorem sb_nlt {a b : Nat} (ha : a < 2 ^ 31) (hb : b < 2 ^ 31) : -nI a < -nI b ↔ b < a := by
  rw [Int32.lt_iff_toInt_lt, sb_negT ha, sb_negT hb]
  omega
theorem sb_cmp {A B : Prop} {x : Int32} (v c : Nat) (f : c ≤ v → A) (g : v < c → B) (hv : v < 2 ^ 31) (hx : x = -nI c := by rfl) (hc : c < 2 ^ 31 := by omega) : (-nI v ≤ x → A) ∧ (¬ -nI v ≤ x → B) := by
  subst hx
  rw [sb_nle hv hc]
  exact ⟨f, fun z => g (by omega)⟩
theorem sb_ndiv {w : Nat} (hw : w < 2 ^ 31) : (-nI w) / 100 = -nI (w / 100) := by
  apply Int32.toInt_inj.mp
  have h100 : (100 : Int32).toInt = 100 := by decide
  rw [Int32.toInt_div, sb_negT hw, h100, sb_negT (by omega), Int.neg_tdiv, Int.tdiv_eq_ediv_of_nonneg (by omega), Int.bmod_eq_of_le (by omega) (by omega)]
  omega
theorem sb_nrem {w : Nat} (hw : w < 2 ^ 31) : (-nI (w / 100)) * 100 - (-nI w) = nI (w % 100) := by
  have h := pk_rem (a := w) (d := 100) hw (by decide) (by decide)
  rw [pk_div hw (by decide) (by decide)] at h
  rw [← h]
  show (-nI (w / 100)) * nI 100 - (-nI w) = nI w - nI (w / 100) * nI 100
  rw [Int32.neg_mul, Int32.sub_neg, Int32.add_comm, ← Int32.sub_eq_add_neg]
end
section
/-! rows on bits, shifts and unsigned numbers, to paste: each family out of a closed proof of our own, whole with what it rests on; each by itself clean at Lean in its own claim (generation 39, form 5). Take a family whole -/
/-! ===== Int32 by its bits: bt x i ===== -/
def bt (x : Int32) (i : Nat) : Bool := x.toBitVec.getLsbD i
theorem b_ext {x y : Int32} (h : ∀ i, i < 32 → bt x i = bt y i) : x = y := Int32.toBitVec_inj.mp (BitVec.eq_of_getLsbD_eq (fun i hi => h i hi))
theorem b_or (x y : Int32) (i : Nat) : bt (x ||| y) i = (bt x i || bt y i) := by unfold bt; rw [Int32.toBitVec_or, BitVec.getLsbD_or]
theorem b_and (x y : Int32) (i : Nat) : bt (x &&& y) i = (bt x i && bt y i) := by unfold bt; rw [Int32.toBitVec_and, BitVec.getLsbD_and]
theorem b_xor (x y : Int32) (i : Nat) : bt (x ^^^ y) i = (bt x i ^^ bt y i) := by unfold bt; rw [Int32.toBitVec_xor, BitVec.getLsbD_xor]
theorem b_big {x : Int32} {i : Nat} (h : 32 ≤ i) : bt x i = false := BitVec.getLsbD_of_ge _ _ h
theorem b_255 (i : Nat) : bt 255 i = decide (i < 8) := by
  rcases Nat.lt_or_ge i 32 with h | h
  · exact (by decide +kernel : ∀ i, i < 32 → bt 255 i = decide (i < 8)) i h
  · rw [b_big h, decide_eq_false (by omega)]
theorem b_65535 (i : Nat) : bt 65535 i = decide (i < 16) := by
  rcases Nat.lt_or_ge i 32 with h | h
  · exact (by decide +kernel : ∀ i, i < 32 → bt 65535 i = decide (i < 16)) i h
  · rw [b_big h, decide_eq_false (by omega)]
theorem b_m1 : ∀ i, i < 32 → bt (-1) i = true := by decide +kernel
theorem b_0 (i : Nat) : bt 0 i = false := BitVec.getLsbD_zero
theorem s_l : ∀ n, n < 32 → ((nI n &&& 31).toBitVec.smod 32).toNat = n := by decide +kernel
theorem s_u : ∀ n, n < 32 → (((nI n).toUInt32 &&& Int32.toUInt32 31).toBitVec % 32).toNat = n := by decide +kernel
theorem b_shl (n : Nat) (hn : n < 32) (x : Int32) {i : Nat} (hi : i < 32) : bt (x <<< (nI n &&& 31)) i = (decide (n ≤ i) && bt x (i - n)) := by
  unfold bt
  rw [Int32.toBitVec_shiftLeft]
  show (x.toBitVec <<< ((nI n &&& 31).toBitVec.smod 32).toNat).getLsbD i = _
  rw [s_l n hn, BitVec.getLsbD_shiftLeft]
  rcases Nat.lt_or_ge i n with h | h
  · simp [h, Nat.not_le.mpr h]
  · simp [hi, h, Nat.not_lt.mpr h]
theorem b_ushr (n : Nat) (hn : n < 32) (x : Int32) (i : Nat) : bt ((x.toUInt32 >>> ((nI n).toUInt32 &&& Int32.toUInt32 31)).toInt32) i = bt x (n + i) := by
  show (x.toUInt32 >>> ((nI n).toUInt32 &&& Int32.toUInt32 31)).toBitVec.getLsbD i = x.toUInt32.toBitVec.getLsbD (n + i)
  rw [UInt32.toBitVec_shiftRight]
  show (x.toUInt32.toBitVec >>> (((nI n).toUInt32 &&& Int32.toUInt32 31).toBitVec % 32).toNat).getLsbD i = _
  rw [s_u n hn, BitVec.getLsbD_ushiftRight]
theorem b_sshr (n : Nat) (hn : n < 32) (x : Int32) {i : Nat} (hi : i < 32) : bt (x >>> (nI n &&& 31)) i = if n + i < 32 then bt x (n + i) else bt x 31 := by
  unfold bt
  rw [Int32.toBitVec_shiftRight]
  show (x.toBitVec.sshiftRight ((nI n &&& 31).toBitVec.smod 32).toNat).getLsbD i = _
  rw [s_l n hn, BitVec.getLsbD_sshiftRight, BitVec.msb_eq_getLsbD_last]
  simp [hi]
theorem b_shl8 (x : Int32) {i : Nat} (hi : i < 32) : bt (x <<< ((8 : Int32) &&& 31)) i = (decide (8 ≤ i) && bt x (i - 8)) := b_shl 8 (by omega) x hi
theorem b_shl16 (x : Int32) {i : Nat} (hi : i < 32) : bt (x <<< ((16 : Int32) &&& 31)) i = (decide (16 ≤ i) && bt x (i - 16)) := b_shl 16 (by omega) x hi
theorem b_shl24 (x : Int32) {i : Nat} (hi : i < 32) : bt (x <<< ((24 : Int32) &&& 31)) i = (decide (24 ≤ i) && bt x (i - 24)) := b_shl 24 (by omega) x hi
theorem b_sshr8 (x : Int32) {i : Nat} (hi : i < 32) : bt (x >>> ((8 : Int32) &&& 31)) i = if 8 + i < 32 then bt x (8 + i) else bt x 31 := b_sshr 8 (by omega) x hi
/-! ===== nI under and, xor, >>>, one bit, 65535 ===== -/
theorem nx_and (a b : Nat) : nI a &&& nI b = nI (a &&& b) := by
  apply Int32.toBitVec_inj.1
  show BitVec.ofNat 32 a &&& BitVec.ofNat 32 b = BitVec.ofNat 32 (a &&& b)
  apply BitVec.eq_of_getLsbD_eq
  intro i hi
  simp [hi]
theorem nx_xor (a b : Nat) : nI a ^^^ nI b = nI (a ^^^ b) := by
  apply Int32.toBitVec_inj.1
  show BitVec.ofNat 32 a ^^^ BitVec.ofNat 32 b = BitVec.ofNat 32 (a ^^^ b)
  apply BitVec.eq_of_getLsbD_eq
  intro i hi
  simp [hi]
theorem nx_cnt : ∀ j : Fin 32, (UInt32.ofNat j.val &&& Int32.toUInt32 31).toNat % 32 = j.val := by decide +kernel
theorem nx_ush {k j : Nat} (hk : k < 65536) (hj : j < 32) : ((nI k).toUInt32 >>> ((nI j).toUInt32 &&& Int32.toUInt32 31)).toInt32 = nI (k >>> j) := by
  have hs : k >>> j ≤ k := by
    rw [Nat.shiftRight_eq_div_pow]
    exact Nat.div_le_self _ _
  have e2 : UInt32.ofNat k >>> (UInt32.ofNat j &&& Int32.toUInt32 31) = UInt32.ofNat (k >>> j) := by
    apply UInt32.toNat_inj.1
    have h1 : (UInt32.ofNat k).toNat = k := Nat.mod_eq_of_lt (by omega)
    have h2 : (UInt32.ofNat (k >>> j)).toNat = k >>> j := Nat.mod_eq_of_lt (by omega)
    rw [UInt32.toNat_shiftRight, nx_cnt ⟨j, hj⟩, h1, h2]
  show (UInt32.ofNat k >>> (UInt32.ofNat j &&& Int32.toUInt32 31)).toInt32 = _
  rw [e2]
  rfl
theorem nx_bit {k j : Nat} (hk : k < 65536) (hj : j < 16) : (((nI k).toUInt32 >>> ((nI j).toUInt32 &&& Int32.toUInt32 31)).toInt32 &&& 1) = 0 ↔ k.testBit j = false := by
  rw [nx_ush hk (by omega)]
  show nI (k >>> j) &&& nI 1 = 0 ↔ _
  rw [nx_and, Nat.and_one_is_mod, ← nI_0, nI_eq (by omega) (by omega), Nat.testBit_eq_decide_div_mod_eq, Nat.shiftRight_eq_div_pow, decide_eq_false_iff_not]
  generalize k / 2 ^ j = z
  omega
theorem nx_mod (k : Nat) : nI k &&& 65535 = nI (k % 65536) := by
  show nI k &&& nI 65535 = _
  rw [nx_and, show (65535 : Nat) = 2 ^ 16 - 1 from rfl, Nat.and_two_pow_sub_one_eq_mod]
theorem nx_m16 {k : Nat} (h : k < 65536) : nI k &&& 65535 = nI k := by rw [nx_mod, Nat.mod_eq_of_lt h]
theorem nx_mask (x : Int32) : ∃ k, k < 65536 ∧ x &&& 65535 = nI k := by
  have e : x = nI x.toBitVec.toNat := by
    apply Int32.toBitVec_inj.1
    show x.toBitVec = BitVec.ofNat 32 x.toBitVec.toNat
    simp
  refine ⟨x.toBitVec.toNat % 65536, Nat.mod_lt _ (by omega), ?_⟩
  rw [← nx_mod, ← e]
/-! ===== Int32 as a set of bits: test, set ===== -/
def nf_M (m : Int32) : Nat := 4294967296 - m.toBitVec.toNat
theorem nf_sh : ∀ l, l < 32 → ((1 : Int32) <<< (nI l &&& 31)).toBitVec = BitVec.twoPow 32 l := by decide +kernel
theorem nf_sl : ∀ l, l < 32 → (((nI l).toUInt32 &&& Int32.toUInt32 31).toBitVec % 32).toNat = l := by decide +kernel
theorem nf_tp : ∀ l, l < 32 → BitVec.twoPow 32 l ≠ 0#32 := by decide +kernel
theorem nf_bit (m : Int32) (l : Nat) (hl : l < 32) : ((m.toUInt32 >>> ((nI l).toUInt32 &&& Int32.toUInt32 31)).toInt32 &&& 1) = 0 ↔ (m &&& ((1 : Int32) <<< (nI l &&& 31))) = 0 := by
  have e : ((m.toUInt32 >>> ((nI l).toUInt32 &&& Int32.toUInt32 31)).toInt32).toBitVec = m.toBitVec >>> l := by
    show m.toBitVec >>> (((nI l).toUInt32 &&& Int32.toUInt32 31).toBitVec % 32) = m.toBitVec >>> l
    rw [BitVec.ushiftRight_eq', nf_sl l hl]
  rw [← Int32.toBitVec_inj, ← Int32.toBitVec_inj, Int32.toBitVec_and, Int32.toBitVec_and, nf_sh l hl, e, BitVec.and_twoPow]
  show (m.toBitVec >>> l &&& 1#32) = 0#32 ↔ _ = 0#32
  rw [BitVec.and_one_eq_setWidth_ofBool_getLsbD, BitVec.getLsbD_ushiftRight, Nat.add_zero]
  cases hb : m.toBitVec.getLsbD l
  · exact ⟨fun _ => by simp, fun _ => by decide⟩
  · exact ⟨fun z => absurd z (by decide), fun z => absurd ((if_pos rfl).symm.trans z) (nf_tp l hl)⟩
theorem nf_gr (m k : Int32) (h : m &&& k = 0) (hk : k ≠ 0) : nf_M (m ||| k) < nf_M m := by
  have hm := m.toBitVec.isLt
  have hm' := (m ||| k).toBitVec.isLt
  have h1 : m.toBitVec.toNat ≤ (m ||| k).toBitVec.toNat := by
    rw [Int32.toBitVec_or, BitVec.toNat_or]
    exact Nat.left_le_or
  have h2 : m.toBitVec.toNat ≠ (m ||| k).toBitVec.toNat := by
    intro e
    have e2 : m = m ||| k := Int32.toBitVec_inj.mp (BitVec.eq_of_toNat_eq e)
    apply hk
    apply Int32.toBitVec_inj.mp
    show k.toBitVec = 0#32
    apply BitVec.eq_of_getLsbD_eq
    intro i hi
    have a : m.toBitVec.getLsbD i = (m.toBitVec.getLsbD i || k.toBitVec.getLsbD i) := by rw [← BitVec.getLsbD_or, ← Int32.toBitVec_or, ← e2]
    have b : (m.toBitVec.getLsbD i && k.toBitVec.getLsbD i) = false := by
      rw [← BitVec.getLsbD_and, ← Int32.toBitVec_and, h]
      exact BitVec.getLsbD_zero
    rw [BitVec.getLsbD_zero]
    revert a b
    cases m.toBitVec.getLsbD i <;> cases k.toBitVec.getLsbD i <;> simp
  unfold nf_M
  omega
/-! ===== a byte read unsigned ===== -/
theorem bp_b (x : Int32) : x.toInt8.toInt32 &&& 255 = x &&& 255 := by
  apply Int32.toBitVec_inj.mp
  rw [Int32.toBitVec_and, Int32.toBitVec_and, Int8.toBitVec_toInt32, Int32.toBitVec_toInt8]
  apply BitVec.eq_of_getLsbD_eq
  intro i hi
  rw [BitVec.getLsbD_and, BitVec.getLsbD_and]
  have hm : ∀ i < 32, 8 ≤ i → (255 : Int32).toBitVec.getLsbD i = false := by decide
  rcases Nat.lt_or_ge i 8 with z | z
  · rw [BitVec.getLsbD_signExtend, BitVec.getLsbD_signExtend, if_pos z, if_pos hi]
    simp only [z, hi, decide_true, Bool.true_and]
  · rw [hm i hi z]; simp
/-! ===== the char cast and 65535 ===== -/
theorem em_w (v : Int32) : ∃ w : Nat, w < 65536 ∧ (v.toUInt32 % 65536).toInt32 = nI w ∧ v &&& 65535 = nI w := by
  have hr := lw_u16_r v
  have h0 : (0 : Int32).toInt = 0 := by decide
  obtain ⟨w, h1, h2⟩ := nI_of (x := lw_u16 v) (by rw [Int32.lt_iff_toInt_lt]; omega)
  have h3 : (v.toUInt32 % 65536).toInt32 = nI w := h2
  rw [h2, nI_toInt h1] at hr
  exact ⟨w, by omega, h3, by rw [← lg_i2c_mask, ← lg_i2c_nf, h3]⟩
/-! ===== Int64 as a set of bits: test, set, clear ===== -/
theorem ts_nf {x : Bool} (h : ¬ x = false) : x = true := by cases x <;> first | rfl | exact absurd rfl h
theorem ts_nt {x : Bool} (h : ¬ x = true) : x = false := by cases x <;> first | rfl | exact absurd rfl h
theorem ts_bit {w : Int64} {s : UInt64} {j : Nat} (hj : j < 64) (hs : s.toNat = j) : ((w.toUInt64 >>> s).toInt64 &&& 1) = 0 ↔ w.toBitVec.getLsbD j = false := by
  have e : (w.toUInt64 >>> s).toInt64.toBitVec = w.toBitVec >>> j := by
    apply BitVec.eq_of_toNat_eq
    show (w.toUInt64 >>> s).toNat = _
    rw [UInt64.toNat_shiftRight, hs, Nat.mod_eq_of_lt hj, BitVec.toNat_ushiftRight]
    rfl
  rw [← Int64.toBitVec_inj, Int64.toBitVec_and, e]
  show w.toBitVec >>> j &&& 1#64 = 0#64 ↔ _
  constructor
  · intro h
    have t := congrArg (fun x => x.getLsbD 0) h
    simpa using t
  · intro h
    apply BitVec.eq_of_getLsbD_eq
    intro i hi
    cases i with
    | zero => simp [h]
    | succ i => simp
theorem ts_or {w m : Int64} {j : Nat} (hj : j < 64) (hm : m.toBitVec = BitVec.twoPow 64 j) : (w ||| m) = w ↔ w.toBitVec.getLsbD j = true := by
  rw [← Int64.toBitVec_inj, Int64.toBitVec_or, hm]
  constructor
  · intro h
    have t := congrArg (fun x => x.getLsbD j) h
    simp only [BitVec.getLsbD_or, BitVec.getLsbD_twoPow] at t
    simpa [hj] using t.symm
  · intro h
    apply BitVec.eq_of_getLsbD_eq
    intro i hi
    rw [BitVec.getLsbD_or, BitVec.getLsbD_twoPow]
    by_cases e : j = i
    · subst e; rw [h, Bool.true_or]
    · simp [e]
theorem ts_and {w m : Int64} {j : Nat} (hj : j < 64) (hm : m.toBitVec = BitVec.twoPow 64 j) : (w &&& (m ^^^ (-1))) = w ↔ w.toBitVec.getLsbD j = false := by
  have ha : (-1 : Int64).toBitVec = BitVec.allOnes 64 := by decide
  rw [← Int64.toBitVec_inj, Int64.toBitVec_and, Int64.toBitVec_xor, hm, ha]
  constructor
  · intro h
    have t := congrArg (fun x => x.getLsbD j) h
    simp only [BitVec.getLsbD_and, BitVec.getLsbD_xor, BitVec.getLsbD_twoPow, BitVec.getLsbD_allOnes] at t
    simpa [hj] using t.symm
  · intro h
    apply BitVec.eq_of_getLsbD_eq
    intro i hi
    rw [BitVec.getLsbD_and, BitVec.getLsbD_xor, BitVec.getLsbD_twoPow, BitVec.getLsbD_allOnes]
    by_cases e : j = i
    · subst e; rw [h, Bool.false_and]
    · simp [e, hi]
/-! ===== lN n to 2^64: shifts, and, or, masks, one bit ===== -/
theorem wb_tb (n : Nat) : (lN n).toBitVec = BitVec.ofNat 64 n := rfl
theorem wb_inj {a b : Int64} (h : a.toBitVec = b.toBitVec) : a = b := Int64.toBitVec_inj.mp h
theorem wb_tn {n : Nat} (h : n < 2 ^ 64) : (lN n).toBitVec.toNat = n := by rw [wb_tb, BitVec.toNat_ofNat, Nat.mod_eq_of_lt h]
theorem wb_of (x : Int64) : ∃ n, n < 2 ^ 64 ∧ x = lN n := ⟨x.toBitVec.toNat, x.toBitVec.isLt, wb_inj (by rw [wb_tb]; simp)⟩
theorem wb_of32 (x : Int32) : ∃ n, n < 2 ^ 32 ∧ x = nI n := ⟨x.toBitVec.toNat, x.toBitVec.isLt, Int32.toBitVec_inj.mp (by show _ = BitVec.ofNat 32 _; simp)⟩
theorem wb_c : ∀ k, k < 64 → ((nI k).toInt64 &&& 63) = lN k := by decide +kernel
theorem wb_cu : ∀ k, k < 64 → ((nI k).toInt64.toUInt64 &&& Int64.toUInt64 63) = UInt64.ofNat k := by decide +kernel
theorem wb_sm : ∀ k, k < 64 → (BitVec.ofNat 64 k).smod 64 = BitVec.ofNat 64 k := by decide +kernel
theorem wb_pw {a b : Nat} (h : a ≤ b) : 2 ^ b = 2 ^ a * 2 ^ (b - a) := by rw [← Nat.pow_add]; congr 1; omega
theorem wb_lt2 {a b : Nat} (h : a < b) : 2 ^ a < 2 ^ b := Nat.pow_lt_pow_right (by decide) h
theorem wb_mod (n : Nat) : lN n = lN (n % 2 ^ 64) := wb_inj (by rw [wb_tb, wb_tb]; apply BitVec.eq_of_toNat_eq; rw [BitVec.toNat_ofNat, BitVec.toNat_ofNat, Nat.mod_mod])
theorem wb_shr {n k : Nat} (hn : n < 2 ^ 64) (hk : k < 64) : ((lN n).toUInt64 >>> ((nI k).toInt64.toUInt64 &&& Int64.toUInt64 63)).toInt64 = lN (n / 2 ^ k) := by
  rw [wb_cu k hk]
  apply wb_inj
  apply BitVec.eq_of_toNat_eq
  show ((lN n).toUInt64 >>> UInt64.ofNat k).toNat = (BitVec.ofNat 64 _).toNat
  have h1 : (UInt64.ofNat k).toNat = k := by
    show (BitVec.ofNat 64 k).toNat = k
    rw [BitVec.toNat_ofNat, Nat.mod_eq_of_lt (by omega)]
  have h2 : (lN n).toUInt64.toNat = n := wb_tn hn
  rw [UInt64.toNat_shiftRight, h1, h2, Nat.mod_eq_of_lt hk, Nat.shiftRight_eq_div_pow, BitVec.toNat_ofNat, Nat.mod_eq_of_lt (Nat.lt_of_le_of_lt (Nat.div_le_self _ _) hn)]
theorem wb_shl (n : Nat) {k : Nat} (hk : k < 64) : lN n <<< ((nI k).toInt64 &&& 63) = lN (n * 2 ^ k) := by
  rw [wb_c k hk]
  apply wb_inj
  rw [Int64.toBitVec_shiftLeft, wb_tb, wb_tb, wb_tb, wb_sm k hk]
  apply BitVec.eq_of_toNat_eq
  rw [BitVec.shiftLeft_eq', BitVec.toNat_shiftLeft, BitVec.toNat_ofNat, BitVec.toNat_ofNat, BitVec.toNat_ofNat, Nat.mod_eq_of_lt (show k < 2 ^ 64 by omega), Nat.shiftLeft_eq, Nat.mul_mod, Nat.mod_mod, ← Nat.mul_mod]
theorem wb_and {a b : Nat} (ha : a < 2 ^ 64) (hb : b < 2 ^ 64) : lN a &&& lN b = lN (a &&& b) := by
  apply wb_inj
  rw [Int64.toBitVec_and, wb_tb, wb_tb, wb_tb]
  apply BitVec.eq_of_toNat_eq
  rw [BitVec.toNat_and, BitVec.toNat_ofNat, BitVec.toNat_ofNat, BitVec.toNat_ofNat, Nat.mod_eq_of_lt ha, Nat.mod_eq_of_lt hb, Nat.mod_eq_of_lt (Nat.and_lt_two_pow _ hb)]
theorem wb_or {a b : Nat} (ha : a < 2 ^ 64) (hb : b < 2 ^ 64) : lN a ||| lN b = lN (a ||| b) := by
  apply wb_inj
  rw [Int64.toBitVec_or, wb_tb, wb_tb, wb_tb]
  apply BitVec.eq_of_toNat_eq
  rw [BitVec.toNat_or, BitVec.toNat_ofNat, BitVec.toNat_ofNat, BitVec.toNat_ofNat, Nat.mod_eq_of_lt ha, Nat.mod_eq_of_lt hb, Nat.mod_eq_of_lt (Nat.or_lt_two_pow ha hb)]
theorem wb_mask {n k : Nat} (hn : n < 2 ^ 64) (hk : k < 64) : lN n &&& lN (2 ^ k - 1) = lN (n % 2 ^ k) := by
  rw [wb_and hn (by have := wb_lt2 hk; omega), Nat.and_two_pow_sub_one_eq_mod]
theorem wb_a1 {n : Nat} (hn : n < 2 ^ 64) : lN n &&& 1 = lN (n % 2) := wb_mask (k := 1) hn (by decide)
theorem wb_bit {n k : Nat} (hn : n < 2 ^ 64) (hk : k < 64) : ((lN n).toUInt64 >>> ((nI k).toInt64.toUInt64 &&& Int64.toUInt64 63)).toInt64 &&& 1 = lN (n / 2 ^ k % 2) := by
  rw [wb_shr hn hk, wb_a1 (Nat.lt_of_le_of_lt (Nat.div_le_self _ _) hn)]
theorem wb_xor {q k : Nat} (hk : k < 63) (h : 2 ^ k ≤ q) (h2 : q < 2 ^ (k + 1)) : lN q ^^^ lN (2 ^ k) = lN (q - 2 ^ k) := by
  obtain ⟨r, rfl⟩ : ∃ r, q = 2 ^ k + r := ⟨q - 2 ^ k, by omega⟩
  have hr : r < 2 ^ k := by rw [Nat.pow_succ] at h2; omega
  have hx : (2 ^ k + r) ^^^ 2 ^ k = r := by
    apply Nat.eq_of_testBit_eq
    intro i
    rw [Nat.testBit_xor, Nat.testBit_two_pow]
    rcases Nat.lt_trichotomy i k with h | h | h
    · rw [Nat.testBit_two_pow_add_gt h]
      simp [show ¬ k = i by omega]
    · subst h
      rw [Nat.testBit_two_pow_add_eq]
      simp
    · have a1 : 2 ^ (k + 1) ≤ 2 ^ i := Nat.pow_le_pow_right (by decide) h
      rw [Nat.testBit_lt_two_pow (show 2 ^ k + r < 2 ^ i by omega), Nat.testBit_lt_two_pow (show r < 2 ^ i by omega)]
      simp [show ¬ k = i by omega]
  have b1 := wb_lt2 (show k + 1 < 64 by omega)
  have b2 := wb_lt2 (show k < 64 by omega)
  apply wb_inj
  rw [Int64.toBitVec_xor, wb_tb, wb_tb, wb_tb]
  apply BitVec.eq_of_toNat_eq
  rw [BitVec.toNat_xor, BitVec.toNat_ofNat, BitVec.toNat_ofNat, BitVec.toNat_ofNat, Nat.mod_eq_of_lt (by omega : 2 ^ k + r < 2 ^ 64), Nat.mod_eq_of_lt b2, hx, Nat.add_sub_cancel_left, Nat.mod_eq_of_lt (by omega)]
/-! ===== lN: masks, 'or' of parts that don't overlap is a sum ===== -/
theorem u_tn {n : Nat} (h : n < 2 ^ 64) : (UInt64.ofNat n).toNat = n := Nat.mod_eq_of_lt h
theorem g_and {a b c : Nat} (ha : a < 2 ^ 64) (hb : b < 2 ^ 64) (hc : a &&& b = c) : lN a &&& lN b = lN c := by
  subst hc
  have h : UInt64.ofNat a &&& UInt64.ofNat b = UInt64.ofNat (a &&& b) := UInt64.toNat_inj.mp (by rw [UInt64.toNat_and, u_tn ha, u_tn hb, u_tn (Nat.and_lt_two_pow a hb)])
  have h2 := congrArg UInt64.toInt64 h
  exact h2
theorem g_and1 {a : Nat} (ha : a < 2 ^ 64) : lN a &&& 1 = lN (a % 2) := g_and (b := 1) ha (by decide) (Nat.and_two_pow_sub_one_eq_mod a 1)
theorem g_mask {a s p : Nat} (hp : 2 ^ s = p) (hs : s < 64) (ha : a < 2 ^ 64) : lN a &&& lN (p - 1) = lN (a % p) := by
  subst hp
  have := Nat.pow_lt_pow_right (show 1 < 2 by decide) hs
  exact g_and ha (by omega) (Nat.and_two_pow_sub_one_eq_mod a s)
theorem g_or {k p a b : Nat} (hp : 2 ^ k = p) (ha : a < p) (h : b * p + a < 2 ^ 64) : lN (b * p) ||| lN a = lN (b * p + a) := by
  subst hp
  have h1 : b * 2 ^ k ||| a = b * 2 ^ k + a := by rw [← Nat.shiftLeft_eq, Nat.shiftLeft_add_eq_or_of_lt ha]
  have h3 : UInt64.ofNat (b * 2 ^ k) ||| UInt64.ofNat a = UInt64.ofNat (b * 2 ^ k + a) := UInt64.toNat_inj.mp (by rw [UInt64.toNat_or, u_tn (by omega), u_tn (by omega), u_tn h, h1])
  have h2 := congrArg UInt64.toInt64 h3
  exact h2
theorem g_or' {k p a b : Nat} (hp : 2 ^ k = p) (ha : a < p) (h : a + b * p < 2 ^ 64) : lN a ||| lN (b * p) = lN (a + b * p) := by
  rw [Int64.or_comm, g_or hp ha (by omega), Nat.add_comm]
theorem g_ushr {a k p : Nat} {y : UInt64} (hy : y = UInt64.ofNat k) (hk : k < 64) (hp : 2 ^ k = p) (ha : a < 2 ^ 64) : ((lN a).toUInt64 >>> y).toInt64 = lN (a / p) := by
  subst hy hp
  have h : UInt64.ofNat a >>> UInt64.ofNat k = UInt64.ofNat (a / 2 ^ k) := UInt64.toNat_inj.mp (by rw [UInt64.toNat_shiftRight, u_tn ha, u_tn (by omega), u_tn (Nat.lt_of_le_of_lt (Nat.div_le_self _ _) ha), Nat.mod_eq_of_lt hk, Nat.shiftRight_eq_div_pow])
  have h2 := congrArg UInt64.toInt64 h
  exact h2
theorem g_shl {a k p : Nat} {y : Int64} (hy : y.toBitVec.smod 64 = BitVec.ofNat 64 k) (hk : k < 64) (hp : 2 ^ k = p) (ha : a < 2 ^ 64) : lN a <<< y = lN (a * p) := by
  subst hp
  apply Int64.toBitVec_inj.mp
  rw [Int64.toBitVec_shiftLeft, hy]
  apply BitVec.eq_of_toNat_eq
  have hb : (lN a).toBitVec.toNat = a := Nat.mod_eq_of_lt ha
  have hk' : (BitVec.ofNat 64 k).toNat = k := Nat.mod_eq_of_lt (by omega)
  have h : ((lN a).toBitVec <<< BitVec.ofNat 64 k).toNat = (a * 2 ^ k) % 2 ^ 64 := by simp only [BitVec.shiftLeft_eq', BitVec.toNat_shiftLeft, hb, hk', Nat.shiftLeft_eq]
  exact h
/-! ===== lN to 2^62 under >> and >>> ===== -/
theorem pf_lI {a : Nat} (h : a < 2 ^ 63) : (lN a).toInt = (a : Int) := lg_ofNat_toInt h
theorem pf_shr {a d : Nat} {D : Int64} (hD : (D.toBitVec.smod 64).toNat = d) (h : a < 2 ^ 62) : lN a >>> D = lN (a / 2 ^ d) := by
  have hd : a / 2 ^ d ≤ a := Nat.div_le_self _ _
  apply Int64.toInt_inj.mp
  have e : (lN a >>> D).toInt = (lN a).toInt >>> d := by
    rw [← hD]
    exact BitVec.toInt_sshiftRight ..
  rw [e, Int.shiftRight_eq_div_pow, pf_lI (by omega), pf_lI (by omega)]
  rfl
theorem pf_ushr {a d : Nat} {D : UInt64} (hD : D.toNat % 64 = d) (h : a < 2 ^ 62) : ((lN a).toUInt64 >>> D).toInt64 = lN (a / 2 ^ d) := by
  have hd : a / 2 ^ d ≤ a := Nat.div_le_self _ _
  have e : (lN a).toUInt64 >>> D = UInt64.ofNat (a / 2 ^ d) := UInt64.toNat_inj.mp (by
    rw [UInt64.toNat_shiftRight, hD, Nat.shiftRight_eq_div_pow, UInt64.toNat_ofNat']
    show (UInt64.ofNat a).toNat / 2 ^ d = _
    rw [UInt64.toNat_ofNat', Nat.mod_eq_of_lt (by omega), Nat.mod_eq_of_lt (by omega)])
  rw [e]
  rfl
theorem pf_andw (x : Int64) : ∃ m, m < 2 ^ 32 ∧ x &&& 4294967295 = lN m := ⟨x.toBitVec.toNat % 2 ^ 32, Nat.mod_lt _ (by decide), Int64.toBitVec_inj.mp (BitVec.eq_of_toNat_eq (by
  show (x.toBitVec &&& 4294967295#64).toNat = (BitVec.ofNat 64 (x.toBitVec.toNat % 2 ^ 32)).toNat
  rw [BitVec.toNat_and, show (4294967295#64).toNat = 2 ^ 32 - 1 from by decide, Nat.and_two_pow_sub_one_eq_mod, BitVec.toNat_ofNat]
  omega))⟩
/-! ===== Int64 as an unsigned number: uN x ===== -/
def uN (x : Int64) : Nat := x.toUInt64.toNat
theorem uN_lt (x : Int64) : uN x < 18446744073709551616 := x.toUInt64.toNat_lt
theorem uN_inj {x y : Int64} (h : uN x = uN y) : x = y := congrArg UInt64.toInt64 (UInt64.toNat_inj.mp h)
theorem uN_add (x y : Int64) : uN (x + y) = (uN x + uN y) % 18446744073709551616 := by
  show (x.toUInt64 + y.toUInt64).toNat = _
  exact UInt64.toNat_add _ _
theorem uN_mul (x y : Int64) : uN (x * y) = (uN x * uN y) % 18446744073709551616 := by
  show (x.toUInt64 * y.toUInt64).toNat = _
  exact UInt64.toNat_mul _ _
theorem uN_shl (x : Int64) : uN (x <<< ((1 : Int32).toInt64 &&& 63)) = (2 * uN x) % 18446744073709551616 := by
  have h : (((1 : Int32).toInt64 &&& 63).toBitVec.smod 64).toNat = 1 := by decide
  show (x.toBitVec <<< (((1 : Int32).toInt64 &&& 63).toBitVec.smod 64).toNat).toNat = _
  rw [h, BitVec.toNat_shiftLeft, Nat.shiftLeft_eq, Nat.mul_comm]
  rfl
theorem uN_shr (x : Int64) (s : UInt64) : uN (x.toUInt64 >>> s).toInt64 = uN x / 2 ^ (s.toNat % 64) := by
  show (x.toUInt64 >>> s).toNat = _
  rw [UInt64.toNat_shiftRight, Nat.shiftRight_eq_div_pow]
  rfl
theorem uN_s32 (x : Int64) : uN (x.toUInt64 >>> ((32 : Int32).toInt64.toUInt64 &&& Int64.toUInt64 63)).toInt64 = uN x / 4294967296 := by
  have h : ((32 : Int32).toInt64.toUInt64 &&& Int64.toUInt64 63).toNat % 64 = 32 := by decide
  rw [uN_shr, h]
theorem uN_s63 (x : Int64) : uN (x.toUInt64 >>> ((63 : Int32).toInt64.toUInt64 &&& Int64.toUInt64 63)).toInt64 = uN x / 9223372036854775808 := by
  have h : ((63 : Int32).toInt64.toUInt64 &&& Int64.toUInt64 63).toNat % 64 = 63 := by decide
  rw [uN_shr, h]
theorem uN_lo (x : Int64) : uN (x &&& 4294967295) = uN x % 4294967296 := by
  show (x.toUInt64 &&& Int64.toUInt64 4294967295).toNat = _
  rw [UInt64.toNat_and]
  exact Nat.and_two_pow_sub_one_eq_mod _ 32
theorem uN_bit (x : Int64) : (x &&& 1) = 0 ↔ uN x % 2 = 0 := by
  have h : uN (x &&& 1) = uN x % 2 := by
    show (x.toUInt64 &&& Int64.toUInt64 1).toNat = _
    rw [UInt64.toNat_and]
    exact Nat.and_two_pow_sub_one_eq_mod _ 1
  rw [← h]
  exact ⟨fun z => by rw [z]; rfl, fun z => uN_inj (z.trans rfl)⟩
theorem uN_or {x y : Int64} (hy : uN y < 2) : uN ((x <<< ((1 : Int32).toInt64 &&& 63)) ||| y) = (2 * uN x) % 18446744073709551616 + uN y := by
  have h1 : uN ((x <<< ((1 : Int32).toInt64 &&& 63)) ||| y) = uN (x <<< ((1 : Int32).toInt64 &&& 63)) ||| uN y := UInt64.toNat_or _ _
  have h2 : (2 * uN x) % 18446744073709551616 = 2 ^ 1 * (uN x % 9223372036854775808) := by omega
  rw [h1, uN_shl, h2]
  exact (Nat.two_pow_add_eq_or_of_lt (i := 1) hy _).symm
theorem nat_xor {a : Nat} (h : a < 18446744073709551616) : a ^^^ 2 ^ 63 = (a + 9223372036854775808) % 18446744073709551616 := by
  have h1 : (a ^^^ 2 ^ 63) % 2 ^ 63 = a % 2 ^ 63 := by rw [Nat.xor_mod_two_pow, Nat.mod_self, Nat.xor_zero]
  have h2 : (a ^^^ 2 ^ 63) / 2 ^ 63 = (a / 2 ^ 63) ^^^ 1 := by rw [Nat.xor_div_two_pow, Nat.div_self (Nat.two_pow_pos 63)]
  have h3 : a / 2 ^ 63 = 0 ∨ a / 2 ^ 63 = 1 := by omega
  generalize a ^^^ 2 ^ 63 = t at h1 h2
  rcases h3 with h3 | h3
  · rw [h3] at h2
    have h2 : t / 2 ^ 63 = 1 := h2
    omega
  · rw [h3] at h2
    have h2 : t / 2 ^ 63 = 0 := h2
    omega
theorem uN_xor (x : Int64) : uN (x ^^^ (-9223372036854775808)) = (uN x + 9223372036854775808) % 18446744073709551616 := by
  rw [← nat_xor (uN_lt x)]
  exact UInt64.toNat_xor _ _
theorem uN_int (x : Int64) : x.toInt = if 2 * uN x < 18446744073709551616 then (uN x : Int) else (uN x : Int) - 18446744073709551616 := BitVec.toInt_eq_toNat_cond _
theorem uN_le (x y : Int64) : (x ^^^ (-9223372036854775808)) ≤ (y ^^^ (-9223372036854775808)) ↔ uN x ≤ uN y := by
  have hx := uN_lt x
  have hy := uN_lt y
  rw [Int64.le_iff_toInt_le, uN_int, uN_int, uN_xor, uN_xor]
  omega
theorem uN_sk (x : Int64) {k : Nat} (hk : k < 64) : uN (x.toUInt64 >>> ((nI k).toInt64.toUInt64 &&& Int64.toUInt64 63)).toInt64 = uN x / 2 ^ k := by
  have h : ((nI k).toInt64.toUInt64 &&& Int64.toUInt64 63).toNat % 64 = k := by
    rw [nI_l (by omega), UInt64.toNat_and]
    have e : (lN k).toUInt64.toNat = k % 2 ^ 64 := rfl
    have e2 : (Int64.toUInt64 63).toNat = 2 ^ 6 - 1 := by decide
    rw [e, e2, Nat.and_two_pow_sub_one_eq_mod]
    omega
  rw [uN_shr, h]
/-! ===== unsigned comparison by xor with the least ===== -/
theorem lN_bv (n : Nat) : (lN n).toBitVec = BitVec.ofNat 64 n := rfl
theorem lN_nat {n : Nat} (h : n < 2 ^ 64) : (lN n).toBitVec.toNat = n := by rw [lN_bv, BitVec.toNat_ofNat]; exact Nat.mod_eq_of_lt h
theorem lN_xor (a b : Nat) : lN a ^^^ lN b = lN (a ^^^ b) := by
  apply Int64.toBitVec_inj.mp; rw [Int64.toBitVec_xor, lN_bv, lN_bv, lN_bv]; apply BitVec.eq_of_getLsbD_eq; intro i hi; simp [BitVec.getLsbD_ofNat, Nat.testBit_xor, hi]
theorem lN_ti {m : Nat} (h : m < 2 ^ 64) : (lN m).toInt = if m < 2 ^ 63 then (m : Int) else (m : Int) - 2 ^ 64 := by
  have c := BitVec.toInt_eq_toNat_cond (lN m).toBitVec
  rw [lN_nat h] at c
  show (lN m).toBitVec.toInt = _
  rw [c]
  split <;> split <;> omega
theorem xor63 {x : Nat} (h : x < 2 ^ 63) : x ^^^ 2 ^ 63 = 2 ^ 63 + x := by
  apply Nat.eq_of_testBit_eq
  intro i
  rw [Nat.testBit_xor, Nat.testBit_two_pow]
  rcases Nat.lt_trichotomy i 63 with z | z | z
  · rw [Nat.testBit_two_pow_add_gt z, decide_eq_false (by omega)]; simp
  · subst z; rw [Nat.testBit_two_pow_add_eq]; simp
  · have hp : 2 ^ 64 ≤ 2 ^ i := Nat.pow_le_pow_right (by decide) z
    rw [Nat.testBit_lt_two_pow (show x < 2 ^ i by omega), Nat.testBit_lt_two_pow (show 2 ^ 63 + x < 2 ^ i by omega), decide_eq_false (by omega)]; rfl
theorem xorS {a : Nat} (h : a < 2 ^ 64) : (lN a ^^^ (-9223372036854775808)).toInt = (a : Int) - 2 ^ 63 := by
  rw [show (-9223372036854775808 : Int64) = lN (2 ^ 63) from by decide +kernel, lN_xor]
  rcases Nat.lt_or_ge a (2 ^ 63) with z | z
  · rw [xor63 z, lN_ti (by omega), if_neg (by omega)]; omega
  · obtain ⟨x, rfl⟩ : ∃ x, a = 2 ^ 63 + x := ⟨a - 2 ^ 63, by omega⟩
    rw [← xor63 (by omega), Nat.xor_assoc, Nat.xor_self, Nat.xor_zero, lN_ti (by omega), if_pos (by omega), xor63 (by omega)]; omega
theorem ultL {a b : Nat} (ha : a < 2 ^ 64) (hb : b < 2 ^ 64) : ((lN b ^^^ (-9223372036854775808)) ≤ (lN a ^^^ (-9223372036854775808))) ↔ b ≤ a := by
  rw [Int64.le_iff_toInt_le, xorS ha, xorS hb]; omega
/-! ===== Int64 masks of n low bits ===== -/
theorem cr_bits (W U M : BitVec 64) : ((W &&& U) &&& (U &&& (M ^^^ BitVec.allOnes 64))) = 0#64 ↔ (W &&& U) &&& M = W &&& U := by
  constructor
  · intro h
    apply BitVec.eq_of_getLsbD_eq
    intro i hi
    have e := congrArg (fun x => BitVec.getLsbD x i) h
    simp only [BitVec.getLsbD_and, BitVec.getLsbD_xor, BitVec.getLsbD_allOnes, BitVec.getLsbD_zero, hi, decide_true] at e ⊢
    revert e
    cases W.getLsbD i <;> cases U.getLsbD i <;> cases M.getLsbD i <;> decide
  · intro h
    apply BitVec.eq_of_getLsbD_eq
    intro i hi
    have e := congrArg (fun x => BitVec.getLsbD x i) h
    simp only [BitVec.getLsbD_and, BitVec.getLsbD_xor, BitVec.getLsbD_allOnes, BitVec.getLsbD_zero, hi, decide_true] at e ⊢
    revert e
    cases W.getLsbD i <;> cases U.getLsbD i <;> cases M.getLsbD i <;> decide
theorem cr_mask (w U m : Int64) (n : Nat) (hm : m.toBitVec.toNat = 2 ^ n - 1) : ((w &&& U) &&& (U &&& (m ^^^ (-1)))) = 0 ↔ (w &&& U).toBitVec.toNat < 2 ^ n := by
  have e0 : (-1 : Int64).toBitVec = BitVec.allOnes 64 := by decide
  have z0 : (0 : Int64).toBitVec = 0#64 := by decide
  rw [← Int64.toBitVec_inj, z0, Int64.toBitVec_and, Int64.toBitVec_and, Int64.toBitVec_and, Int64.toBitVec_xor, e0, cr_bits]
  generalize w.toBitVec &&& U.toBitVec = T
  rw [← BitVec.toNat_inj, BitVec.toNat_and, hm, Nat.and_two_pow_sub_one_eq_mod]
  constructor
  · intro h
    have t := Nat.mod_lt T.toNat (Nat.two_pow_pos n)
    rw [h] at t
    exact t
  · exact Nat.mod_eq_of_lt
theorem cr_shr (t : Int64) (x : UInt64) (n : Nat) (hx : x.toNat % 64 = n) : (t.toUInt64 >>> x).toInt64 = 0 ↔ t.toBitVec.toNat < 2 ^ n := by
  rw [← Int64.toBitVec_inj, ← BitVec.toNat_inj]
  show (t.toUInt64 >>> x).toNat = 0 ↔ t.toUInt64.toNat < 2 ^ n
  rw [UInt64.toNat_shiftRight, hx, Nat.shiftRight_eq_div_pow]
  constructor
  · intro h
    have d : t.toUInt64.toNat / 2 ^ n < 1 := by
      rw [h]
      decide
    have e := (Nat.div_lt_iff_lt_mul (Nat.two_pow_pos n)).mp d
    rw [Nat.one_mul] at e
    exact e
  · exact Nat.div_eq_of_lt
theorem cr_amt (s : Int64) : ∃ n, n < 64 ∧ s &&& 63 = lN n ∧ (s.toUInt64 &&& Int64.toUInt64 63).toNat % 64 = n := by
  have e : (s.toUInt64 &&& Int64.toUInt64 63).toNat = s.toUInt64.toNat % 2 ^ 6 := by
    rw [UInt64.toNat_and, show (Int64.toUInt64 63).toNat = 2 ^ 6 - 1 from by decide, Nat.and_two_pow_sub_one_eq_mod]
  refine ⟨s.toUInt64.toNat % 2 ^ 6, by omega, ?_, by omega⟩
  rw [← Int64.toBitVec_inj, ← BitVec.toNat_inj]
  show (s.toUInt64 &&& Int64.toUInt64 63).toNat = (BitVec.ofNat 64 (s.toUInt64.toNat % 2 ^ 6)).toNat
  rw [e, BitVec.toNat_ofNat]
  omega
end
section
/-! plain mathematics: stores, counts, masks, the field of 256 -/
def rd_u {α : Type} (f : Nat → α) (k : Nat) (x : α) : Nat → α := fun j => if j = k then x else f j
theorem rd_us {α : Type} {f : Nat → α} {k : Nat} {x : α} : rd_u f k x k = x := if_pos rfl
theorem rd_un {α : Type} {f : Nat → α} {k j : Nat} {x : α} (h : j ≠ k) : rd_u f k x j = f j := if_neg h
theorem rd_ui {α : Type} (f : Nat → α) (k : Nat) : rd_u f k (f k) = f := by
  funext j
  by_cases h : j = k
  · subst h; exact rd_us
  · exact rd_un h
theorem rd_uu {α : Type} (f : Nat → α) (k : Nat) (x y : α) : rd_u (rd_u f k x) k y = rd_u f k y := by
  funext j
  by_cases h : j = k
  · subst h; rw [rd_us, rd_us]
  · rw [rd_un h, rd_un h, rd_un h]
/-! counts -/
def rd_c (p : Nat → Bool) : Nat → Nat
  | 0 => 0
  | n + 1 => rd_c p n + (p n).toNat
theorem rd_c_le (p : Nat → Bool) : ∀ n, rd_c p n ≤ n
  | 0 => Nat.le_refl _
  | n + 1 => by
    have := rd_c_le p n
    have := Bool.toNat_le (p n)
    simp only [rd_c]; omega
theorem rd_c_ext {p q : Nat → Bool} : ∀ {n : Nat}, (∀ i, i < n → p i = q i) → rd_c p n = rd_c q n
  | 0, _ => rfl
  | n + 1, h => by
    simp only [rd_c]
    rw [rd_c_ext (n := n) (fun i hi => h i (by omega)), h n (by omega)]
theorem rd_c_set {p : Nat → Bool} {a : Nat} (ha : p a = false) : ∀ {n : Nat}, a < n → rd_c (rd_u p a true) n = rd_c p n + 1
  | 0, h => by omega
  | n + 1, h => by
    simp only [rd_c]
    by_cases e : a = n
    · subst e
      rw [rd_us, ha, rd_c_ext (p := rd_u p a true) (q := p) (fun i hi => rd_un (by omega))]; rfl
    · rw [rd_un (fun z => e z.symm), rd_c_set ha (by omega)]; omega
theorem rd_c_clr {p : Nat → Bool} {a n : Nat} (ha : p a = true) (h : a < n) : rd_c p n = rd_c (rd_u p a false) n + 1 := by
  have e := rd_c_set (p := rd_u p a false) (a := a) rd_us h
  have f : rd_u p a true = p := by
    have := rd_ui p a
    rw [ha] at this; exact this
  rw [rd_uu, f] at e
  exact e
theorem rd_c_z {p : Nat → Bool} {n : Nat} : rd_c p n = 0 ↔ ∀ i, i < n → p i = false := by
  constructor
  · intro h i hi
    cases e : p i with
    | false => rfl
    | true => have := rd_c_clr e hi; omega
  · intro h
    induction n with
    | zero => rfl
    | succ n ih =>
      simp only [rd_c]
      rw [ih (fun i hi => h i (by omega)), h n (by omega)]; rfl
theorem rd_c_full {p : Nat → Bool} {n : Nat} (h : ∀ i, i < n → p i = true) : rd_c p n = n := by
  induction n with
  | zero => rfl
  | succ n ih =>
    simp only [rd_c]
    rw [ih (fun i hi => h i (by omega)), h n (by omega)]; rfl
/-! masks -/
def rd_k (p : Nat → Bool) : Nat → Nat
  | 0 => 0
  | n + 1 => 2 ^ n * (p n).toNat + rd_k p n
theorem rd_k_lt (p : Nat → Bool) : ∀ n, rd_k p n < 2 ^ n
  | 0 => by simp [rd_k]
  | n + 1 => by
    have h := rd_k_lt p n
    simp only [rd_k]; rw [Nat.pow_succ]
    cases p n
    · rw [show false.toNat = 0 from rfl]; omega
    · rw [show true.toNat = 1 from rfl]; omega
theorem rd_k_bit (p : Nat → Bool) : ∀ n i, (rd_k p n).testBit i = (decide (i < n) && p i)
  | 0, i => by simp [rd_k]
  | n + 1, i => by
    simp only [rd_k]
    rw [Nat.testBit_two_pow_mul_add _ (rd_k_lt p n)]
    by_cases h : i < n
    · rw [if_pos h, rd_k_bit p n i]; simp [h, Nat.lt_succ_of_lt h]
    · rw [if_neg h]
      by_cases e : i = n
      · subst e
        rw [Nat.sub_self]
        cases p i <;> simp
      · rw [decide_eq_false (by omega : ¬ i < n + 1)]
        obtain ⟨d, hd⟩ : ∃ d, i - n = d + 1 := ⟨i - n - 1, by omega⟩
        rw [hd]
        cases p n <;> simp [Nat.testBit_add_one]
theorem rd_k_ext {p q : Nat → Bool} : ∀ {n : Nat}, (∀ i, i < n → p i = q i) → rd_k p n = rd_k q n
  | 0, _ => rfl
  | n + 1, h => by
    simp only [rd_k]
    rw [rd_k_ext (n := n) (fun i hi => h i (by omega)), h n (by omega)]
theorem rd_k_or (p : Nat → Bool) {b n : Nat} (hb : b < n) : rd_k p n ||| 2 ^ b = rd_k (rd_u p b true) n := by
  apply Nat.eq_of_testBit_eq
  intro i
  rw [Nat.testBit_or, rd_k_bit, rd_k_bit, Nat.testBit_two_pow]
  by_cases e : i = b
  · subst e; rw [rd_us]; simp [hb]
  · rw [rd_un e]; simp [show ¬ b = i from fun z => e z.symm]
theorem rd_k_and (p : Nat → Bool) {b n N : Nat} (hN : n ≤ N) : rd_k p n &&& (2 ^ b ^^^ (2 ^ N - 1)) = rd_k (rd_u p b false) n := by
  apply Nat.eq_of_testBit_eq
  intro i
  rw [Nat.testBit_and, rd_k_bit, rd_k_bit, Nat.testBit_xor, Nat.testBit_two_pow, Nat.testBit_two_pow_sub_one]
  by_cases h : i < n
  · by_cases e : i = b
    · subst e; rw [rd_us]; simp [show i < N by omega]
    · rw [rd_un e]; simp [show ¬ b = i from fun z => e z.symm, show i < N by omega]
  · simp [h]
theorem rd_k_z {p : Nat → Bool} {n : Nat} : rd_k p n = 0 ↔ ∀ i, i < n → p i = false := by
  constructor
  · intro h i hi
    have e := rd_k_bit p n i
    rw [h, Nat.zero_testBit, decide_eq_true hi, Bool.true_and] at e
    exact e.symm
  · intro h
    apply Nat.eq_of_testBit_eq
    intro i
    rw [rd_k_bit, Nat.zero_testBit]
    by_cases hi : i < n
    · rw [h i hi, Bool.and_false]
    · rw [decide_eq_false hi, Bool.false_and]
theorem rd_k_f {p : Nat → Bool} {n : Nat} : rd_k p n = 2 ^ n - 1 ↔ ∀ i, i < n → p i = true := by
  constructor
  · intro h i hi
    have e := rd_k_bit p n i
    rw [h, Nat.testBit_two_pow_sub_one, decide_eq_true hi, Bool.true_and] at e
    exact e.symm
  · intro h
    apply Nat.eq_of_testBit_eq
    intro i
    rw [rd_k_bit, Nat.testBit_two_pow_sub_one]
    by_cases hi : i < n
    · rw [h i hi, Bool.and_true]
    · rw [decide_eq_false hi, Bool.false_and]
theorem rd_k_c (p : Nat → Bool) (n : Nat) : rd_c (fun i => (rd_k p n).testBit i) n = rd_c p n :=
  rd_c_ext (fun i hi => by rw [rd_k_bit, decide_eq_true hi, Bool.true_and])
/-! the lowest bit taken away -/
theorem rd_kn : ∀ x : Nat, 0 < x → ∃ a, x.testBit a = true ∧ ∀ i, (x &&& (x - 1)).testBit i = (x.testBit i && decide (i ≠ a)) := by
  intro x
  induction x using Nat.strongRecOn with
  | _ x ih =>
    intro h0
    by_cases ho : x % 2 = 1
    · refine ⟨0, by rw [Nat.testBit_zero, decide_eq_true ho], fun i => ?_⟩
      rw [Nat.testBit_and]
      cases i with
      | zero => rw [Nat.testBit_zero, Nat.testBit_zero, decide_eq_false (by omega : ¬ (x - 1) % 2 = 1)]; simp
      | succ i =>
        rw [Nat.testBit_add_one, Nat.testBit_add_one, show (x - 1) / 2 = x / 2 by omega]; simp
    · obtain ⟨a, h1, h2⟩ := ih (x / 2) (by omega) (by omega)
      refine ⟨a + 1, by rw [Nat.testBit_add_one]; exact h1, fun i => ?_⟩
      rw [Nat.testBit_and]
      cases i with
      | zero => rw [Nat.testBit_zero, Nat.testBit_zero, decide_eq_false ho]; simp
      | succ i =>
        have := h2 i
        rw [Nat.testBit_and] at this
        rw [Nat.testBit_add_one, Nat.testBit_add_one, show (x - 1) / 2 = x / 2 - 1 by omega, this]
        simp
theorem rd_kc {x n : Nat} (h0 : 0 < x) (hx : x < 2 ^ n) : rd_c (fun i => x.testBit i) n = rd_c (fun i => (x &&& (x - 1)).testBit i) n + 1 := by
  obtain ⟨a, h1, h2⟩ := rd_kn x h0
  have ha : a < n := by
    rcases Nat.lt_or_ge a n with h | h
    · exact h
    · have : x.testBit a = false := Nat.testBit_lt_two_pow (Nat.lt_of_lt_of_le hx (Nat.pow_le_pow_right (by decide) h))
      rw [this] at h1; cases h1
  rw [rd_c_clr (p := fun i => x.testBit i) (a := a) h1 ha]
  congr 1
  apply rd_c_ext
  intro i _
  rw [h2 i]
  by_cases e : i = a
  · subst e; rw [rd_us]; simp
  · rw [rd_un e]; simp [e]

/-! bytes: the field of 256 by 285 -/
def rd_tw (x : Nat) : Nat := if x < 128 then 2 * x else (2 * x) ^^^ 285
def rd_m : Nat → Nat → Nat
  | 0, x => x
  | k + 1, x => rd_tw (rd_m k x)
def rd_pw (k : Nat) : Nat := (70160881166704368827218703435136616750530459438269794890424969378298545675077208731798828898087927652446353395360628748027273188182808436399538186061104243134188885576122562338679313492324190829158544377810568631194580132524405266702234305646236648896994794467054525044798919765581988418950285252905306116225263236585714808161311289784028762024137133735135393922581566890382566480334369299400480864790538739986285574563168380416343369614948461817839620668187777978661530364712890858126432457562886306102556561631759900551331094983229723298224611133722330829711659991602983068895685602467964643306841827719562658305 >>> (8 * k)) % 256
def rd_lg (x : Nat) : Nat := (22135253156888987530748098150270024343632497605293634117281264061560962248099620766229961468867162294233796152347975563017024165690400661622462404646302566225833645086064538892198543335321514950294300187779610338557442029018619797274438901674641748676613670242915365385819254959901651105240253464034662486586186382979728982817772067067513442677601938078891989292316012868233806586592927239821351197800766822366321181463280924672822998103315976779850880337712374790938628529953751181886374687897611504386983350015558142994211516619836411558782076806704747441947939324473761869443721989389604670425385080942269787340800 >>> (8 * x)) % 256
def rd_q (x e : Nat) : Nat := if x = 0 then 0 else rd_pw ((rd_lg x + 255 - e) % 255)
theorem rd_pw_0 : rd_pw 0 = 1 := by decide +kernel
theorem rd_pw_s : ∀ k, k < 255 → rd_pw ((k + 1) % 255) = rd_tw (rd_pw k) := by decide +kernel
theorem rd_pw_r : ∀ k, k < 255 → 0 < rd_pw k ∧ rd_pw k < 256 ∧ rd_lg (rd_pw k) = k := by decide +kernel
theorem rd_lg_r : ∀ x, x < 256 → 0 < x → rd_lg x < 255 ∧ rd_pw (rd_lg x) = x := by decide +kernel
theorem rd_m_pw : ∀ k, k < 4 → ∀ x, x < 256 → 0 < x → rd_m k x = rd_pw ((k + rd_lg x) % 255) := by decide +kernel
theorem rd_q_m : ∀ k, k < 4 → ∀ x, x < 256 → rd_q (rd_m k x) k = x ∧ rd_m k (rd_q x k) = x := by decide +kernel
theorem rd_m_lt : ∀ k, k < 4 → ∀ x, x < 256 → rd_m k x < 256 := by decide +kernel
theorem rd_m_0 : ∀ k, k < 4 → rd_m k 0 = 0 := by decide +kernel
def rd_ff (i j : Nat) : Nat := rd_pw i ^^^ rd_pw j
theorem rd_ff_r : ∀ i, i < 4 → ∀ j, j < 4 → i < j → 0 < rd_ff i j ∧ rd_ff i j < 256 ∧ rd_lg (rd_ff i j) < 255 := by decide +kernel
theorem rd_ff_q : ∀ i, i < 4 → ∀ j, j < 4 → i < j → ∀ x, x < 256 → rd_q (rd_m i x ^^^ rd_m j x) (rd_lg (rd_ff i j)) = x ∧ rd_m i (rd_q x (rd_lg (rd_ff i j))) ^^^ rd_m j (rd_q x (rd_lg (rd_ff i j))) = x := by decide +kernel
theorem rd_q_lt {x e : Nat} : rd_q x e < 256 := by
  unfold rd_q rd_pw
  split
  · decide
  · exact Nat.mod_lt _ (by decide)
theorem rd_xl {a b : Nat} (ha : a < 256) (hb : b < 256) : a ^^^ b < 256 := Nat.xor_lt_two_pow (n := 8) ha hb
theorem rd_128 {x : Nat} (h : x < 256) : x.testBit 7 = decide (¬ x < 128) := by
  rw [Nat.testBit_eq_decide_div_mod_eq]
  congr 1
  apply propext
  omega
theorem rd_2x (a b : Nat) : 2 * (a ^^^ b) = 2 * a ^^^ 2 * b := by
  have h := Nat.shiftLeft_xor_distrib (a := a) (b := b) (i := 1)
  rw [Nat.shiftLeft_eq, Nat.shiftLeft_eq, Nat.shiftLeft_eq, Nat.pow_one] at h
  rw [Nat.mul_comm 2 (a ^^^ b), Nat.mul_comm 2 a, Nat.mul_comm 2 b]; exact h
theorem rd_tw_x {x y : Nat} (hx : x < 256) (hy : y < 256) : rd_tw (x ^^^ y) = rd_tw x ^^^ rd_tw y := by
  have h := rd_128 (rd_xl hx hy)
  rw [Nat.testBit_xor, rd_128 hx, rd_128 hy] at h
  unfold rd_tw
  by_cases a : x < 128 <;> by_cases b : y < 128
  · have c : x ^^^ y < 128 := by
      simp only [a, b, not_true_eq_false, decide_false, Bool.xor_self] at h
      have := of_decide_eq_false h.symm
      omega
    rw [if_pos a, if_pos b, if_pos c, rd_2x]
  · have c : ¬ x ^^^ y < 128 := by
      simp only [a, b, not_true_eq_false, not_false_eq_true, decide_false, decide_true, Bool.false_xor] at h
      exact of_decide_eq_true h.symm
    rw [if_pos a, if_neg b, if_neg c, rd_2x, Nat.xor_assoc]
  · have c : ¬ x ^^^ y < 128 := by
      simp only [a, b, not_true_eq_false, not_false_eq_true, decide_false, decide_true, Bool.xor_false] at h
      exact of_decide_eq_true h.symm
    rw [if_neg a, if_pos b, if_neg c, rd_2x, Nat.xor_assoc, Nat.xor_assoc, Nat.xor_comm 285]
  · have c : x ^^^ y < 128 := by
      simp only [a, b, not_false_eq_true, decide_true, Bool.xor_self] at h
      have := of_decide_eq_false h.symm
      omega
    rw [if_neg a, if_neg b, if_pos c, rd_2x, Nat.xor_assoc, ← Nat.xor_assoc 285, Nat.xor_comm 285, Nat.xor_assoc (2 * y), Nat.xor_self, Nat.xor_zero]
theorem rd_tw_lt {x : Nat} (h : x < 256) : rd_tw x < 256 := (by decide +kernel : ∀ x, x < 256 → rd_tw x < 256) x h
theorem rd_m_l {x : Nat} (h : x < 256) : ∀ k, rd_m k x < 256
  | 0 => h
  | k + 1 => rd_tw_lt (rd_m_l h k)
theorem rd_m_x {x y : Nat} (hx : x < 256) (hy : y < 256) : ∀ k, rd_m k (x ^^^ y) = rd_m k x ^^^ rd_m k y
  | 0 => rfl
  | k + 1 => by
    show rd_tw (rd_m k (x ^^^ y)) = rd_tw (rd_m k x) ^^^ rd_tw (rd_m k y)
    rw [rd_m_x hx hy k, rd_tw_x (rd_m_l hx k) (rd_m_l hy k)]
/-- the place of the one wrong byte: by logarithms, and by trying -/
theorem rd_which {p q k : Nat} (hp : p < 256) (hp0 : 0 < p) (hq : q < 256) (hq0 : 0 < q) (hk : k < 4) : rd_m k p = q ↔ (rd_lg q + 255 - rd_lg p) % 255 = k := by
  obtain ⟨l1, l2⟩ := rd_lg_r p hp hp0
  obtain ⟨g1, g2⟩ := rd_lg_r q hq hq0
  rw [rd_m_pw k hk p hp hp0]
  constructor
  · intro h
    have e := (rd_pw_r ((k + rd_lg p) % 255) (Nat.mod_lt _ (by decide))).2.2
    rw [h] at e
    rw [e]
    generalize rd_lg p = l at *
    omega
  · intro h
    have e : (k + rd_lg p) % 255 = rd_lg q := by
      generalize rd_lg p = l at *
      generalize rd_lg q = g at *
      omega
    rw [e, g2]
end
section
/-! the pictures of the state, and numbers -/
def rd_b (b : Bool) : Int32 := if b = true then 1 else 0
def rd_nF (f : Nat → Nat) : Nat → Int32 := fun j => nI (f j)
def rd_bF (f : Nat → Nat) : Nat → Int32 := fun j => sb_b (f j)
def rd_vF (f : Nat → Bool) : Nat → Int32 := fun j => rd_b (f j)
def rd_on (MP : Nat → Nat) : Nat → Int32 := fun j => if j < 120 then nI (MP j) - 1 else 0
def rd_isT (HE MK : Nat → Nat) (d s : Nat) : Bool := decide (HE d = 0 ∨ (HE d = 2 ∧ s < MK d))
def rd_th (HE MK : Nat → Nat) : Nat → Int32 := fun s => if s < 16 then nI (rd_k (fun d => rd_isT HE MK d s) 6) else 0
def rd_ct (MP : Nat → Nat) (b : Nat) : Nat := rd_c (fun m => decide (MP m = b + 1)) 120
def rd_fz (MP : Nat → Nat) : Nat → Bool := fun b => decide (rd_ct MP b = 0)
def rd_sh (MP : Nat → Nat) : Nat → Bool := fun b => decide (1 < rd_ct MP b)
def rd_uF (MP : Nat → Nat) : Nat → Int32 := fun b => if b < 64 then nI (rd_ct MP b) else 0
def rd_nt (n0 n1 n2 : Nat) : Nat → Int32 := fun j => if j = 0 then nI n0 else if j = 1 then nI n1 else if j = 2 then nI n2 else 0
def rd_PW : Nat → Int32 := fun j => if j < 510 then nI (rd_pw (j % 255)) else 0
def rd_PL : Nat → Int32 := fun x => if 0 < x ∧ x < 256 then nI (rd_lg x) else 0
def rd_dk (s k : Nat) : Nat := (s + k) % 6
def rd_cel (s k : Nat) : Nat := 16 * rd_dk s k + s
def rd_hs (HE MK : Nat → Nat) (s k : Nat) : Bool := rd_isT HE MK (rd_dk s k) s
def rd_ls (HE MK : Nat → Nat) (s : Nat) : Bool := decide (2 < rd_c (fun k => !rd_hs HE MK s k) 6)
def rd_pB (HE MK B : Nat → Nat) (s k v : Nat) : Nat → Nat := if rd_hs HE MK s k = true then rd_u B (rd_cel s k) v else B
def rd_sz (f : Nat → Nat) : Nat → Nat
  | 0 => 0
  | n + 1 => rd_sz f n ^^^ f n
def rd_wz (f : Nat → Nat) : Nat → Nat
  | 0 => 0
  | n + 1 => rd_wz f n ^^^ rd_m n (f n)
/-- cells below four of f, the rest of g -/
def rd_4 (f : Nat → Nat) (g : Nat → Int32) : Nat → Int32 := fun j => if j < 4 then nI (f j) else g j
theorem rd_b_nar (b : Bool) : narrow .boolean (.int (rd_b b)) = .int (rd_b b) := by cases b <;> rfl
theorem rd_b_0 {b : Bool} : rd_b b = 0 ↔ b = false := by cases b <;> simp [rd_b]
theorem rd_dk_lt (s k : Nat) : rd_dk s k < 6 := Nat.mod_lt _ (by decide)
theorem rd_cel_lt {s k : Nat} (h : s < 16) : rd_cel s k < 96 := by have := rd_dk_lt s k; unfold rd_cel; omega
/-! branches -/
theorem rd_brb {x : Int32} {A C : Prop} (b : Bool) (hx : x = rd_b b) (f : b = false → A) (g : b = true → C) : (x = 0 → A) ∧ (¬ x = 0 → C) := by
  subst hx
  cases b with
  | false => exact br_t rfl (f rfl)
  | true => exact br_f (by decide) (g rfl)
/-! stores -/
theorem rd_upN (f : Nat → Nat) (k x : Nat) : upd (rd_nF f) k (nI x) = rd_nF (rd_u f k x) := by
  funext j
  show (if j = k then nI x else nI (f j)) = nI (if j = k then x else f j)
  by_cases h : j = k
  · rw [if_pos h, if_pos h]
  · rw [if_neg h, if_neg h]
theorem rd_upB (f : Nat → Nat) (k x : Nat) : upd (rd_bF f) k (sb_b x) = rd_bF (rd_u f k x) := by
  funext j
  show (if j = k then sb_b x else sb_b (f j)) = sb_b (if j = k then x else f j)
  by_cases h : j = k
  · rw [if_pos h, if_pos h]
  · rw [if_neg h, if_neg h]
theorem rd_upV (f : Nat → Bool) (k : Nat) (x : Bool) : upd (rd_vF f) k (rd_b x) = rd_vF (rd_u f k x) := by
  funext j
  show (if j = k then rd_b x else rd_b (f j)) = rd_b (if j = k then x else f j)
  by_cases h : j = k
  · rw [if_pos h, if_pos h]
  · rw [if_neg h, if_neg h]
theorem rd_upO (f : Nat → Nat) {k : Nat} (x : Nat) (hk : k < 120) : upd (rd_on f) k (nI x - 1) = rd_on (rd_u f k x) := by
  funext j
  show (if j = k then nI x - 1 else if j < 120 then nI (f j) - 1 else 0) = if j < 120 then nI (if j = k then x else f j) - 1 else 0
  by_cases h : j = k
  · rw [if_pos h, if_pos h, if_pos (by omega)]
  · rw [if_neg h, if_neg h]
theorem rd_on_v (f : Nat → Nat) {k : Nat} (hk : k < 120) : rd_on f k = nI (f k) - 1 := if_pos hk
theorem rd_m1 (n : Nat) : nI (n + 1) - 1 = nI n := nI_pred n
theorem rd_m10 : nI 0 - 1 = -1 := by decide
/-! narrowing -/
theorem rd_nb {n : Nat} (h : n < 128) : vp_nar .byte (nI n).toInt8.toInt32 = nI n := by
  rw [pk_vb]
  exact (by decide +kernel : ∀ n, n < 128 → (nI n).toInt8.toInt32 = nI n) n h
theorem rd_nb' {n : Nat} (h : n < 128) : vp_nar .byte (nI n) = nI n := by
  rw [vp_nar_byte]
  exact (by decide +kernel : ∀ n, n < 128 → (nI n).toInt8.toInt32 = nI n) n h
theorem rd_ns {n : Nat} (h : n < 256) : vp_nar .short (nI n).toInt16.toInt32 = nI n := by
  rw [pk_vs]
  exact (by decide +kernel : ∀ n, n < 256 → (nI n).toInt16.toInt32 = nI n) n h
theorem rd_ns' {n : Nat} (h : n < 256) : vp_nar .short (nI n) = nI n := by
  rw [vp_nar_short]
  exact (by decide +kernel : ∀ n, n < 256 → (nI n).toInt16.toInt32 = nI n) n h
theorem rd_nsb (n : Nat) : vp_nar .byte (nI n).toInt8.toInt32 = sb_b n := pk_vb _
theorem rd_nz : vp_nar .boolean 0 = rd_b false := by rfl
theorem rd_no : vp_nar .boolean 1 = rd_b true := by rfl
/-! bits -/
theorem rd_e0 {n : Nat} (h : n < 2 ^ 31) : nI n = 0 ↔ n = 0 := by rw [← nI_0]; exact nI_eq h (by decide)
theorem rd_bit1 {t d : Nat} (ht : t < 2 ^ 31) (hd : d < 31) : ((nI t >>> (nI d &&& 31)) &&& 1) = 0 ↔ t.testBit d = false := by
  have h2 : t / 2 ^ d ≤ t := Nat.div_le_self _ _
  rw [pk_shrN ht _ d (s_l d (by omega)), pk_andN (m := 1) (by omega) 1 (by decide), rd_e0 (by omega), Nat.testBit_eq_decide_div_mod_eq, decide_eq_false_iff_not]
  omega
theorem rd_shl1 {d : Nat} (hd : d < 31) : (1 : Int32) <<< (nI d &&& 31) = nI (2 ^ d) := by
  have h : 2 ^ d < 2 ^ 31 := wb_lt2 hd
  have e := pk_shlN (n := 1) (nI d &&& 31) d (s_l d (by omega)) (by omega)
  rw [Nat.one_mul] at e
  exact e
theorem rd_m1N : (-1 : Int32) = nI (2 ^ 32 - 1) := by decide +kernel
theorem rd_m1L : (-1 : Int64) = lN (2 ^ 64 - 1) := by decide +kernel
theorem rd_setI (p : Nat → Bool) {d n : Nat} (hd : d < n) (hn : n < 31) : nI (rd_k p n) ||| ((1 : Int32) <<< (nI d &&& 31)) = nI (rd_k (rd_u p d true) n) := by
  rw [rd_shl1 (by omega), ← rd_k_or p hd]
  apply Int32.toBitVec_inj.1
  show BitVec.ofNat 32 _ ||| BitVec.ofNat 32 _ = BitVec.ofNat 32 _
  apply BitVec.eq_of_getLsbD_eq
  intro i hi
  simp [hi]
theorem rd_clrI (p : Nat → Bool) {d n : Nat} (hd : d < n) (hn : n < 31) : nI (rd_k p n) &&& (((1 : Int32) <<< (nI d &&& 31)) ^^^ (-1)) = nI (rd_k (rd_u p d false) n) := by
  rw [rd_shl1 (by omega), rd_m1N, nx_xor, nx_and, rd_k_and p (by omega)]
theorem rd_sh1L {b : Nat} (hb : b < 64) : (1 : Int64) <<< ((nI b).toInt64 &&& 63) = lN (2 ^ b) := by
  have e := wb_shl 1 hb
  rw [Nat.one_mul] at e
  exact e
theorem rd_setL (p : Nat → Bool) {b : Nat} (hb : b < 64) : lN (rd_k p 64) ||| ((1 : Int64) <<< ((nI b).toInt64 &&& 63)) = lN (rd_k (rd_u p b true) 64) := by
  rw [rd_sh1L hb, wb_or (rd_k_lt p 64) (wb_lt2 hb), rd_k_or p hb]
theorem rd_clrL (p : Nat → Bool) {b : Nat} (hb : b < 64) : lN (rd_k p 64) &&& (((1 : Int64) <<< ((nI b).toInt64 &&& 63)) ^^^ (-1)) = lN (rd_k (rd_u p b false) 64) := by
  rw [rd_sh1L hb, rd_m1L, lN_xor, wb_and (rd_k_lt p 64) (Nat.xor_lt_two_pow (wb_lt2 hb) (by decide)), rd_k_and p (Nat.le_refl _)]
theorem rd_bitL {n b : Nat} (hn : n < 2 ^ 64) (hb : b < 64) : ((lN n >>> ((nI b).toInt64 &&& 63)) &&& 1) = 0 ↔ n.testBit b = false := by
  have hk : (((nI b).toInt64 &&& 63).toBitVec.smod 64).toNat = b := by
    rw [wb_c b hb, wb_tb, wb_sm b hb, BitVec.toNat_ofNat, Nat.mod_eq_of_lt (by omega)]
  rw [← Int64.toBitVec_inj, Int64.toBitVec_and, Int64.toBitVec_shiftRight]
  show (lN n).toBitVec.sshiftRight (((nI b).toInt64 &&& 63).toBitVec.smod 64).toNat &&& 1#64 = 0#64 ↔ _
  rw [hk, wb_tb]
  constructor
  · intro h
    have t := congrArg (fun x => x.getLsbD 0) h
    simp only [BitVec.getLsbD_and, BitVec.getLsbD_sshiftRight, BitVec.getLsbD_ofNat] at t
    simpa [hb] using t
  · intro h
    apply BitVec.eq_of_getLsbD_eq
    intro i hi
    rw [BitVec.getLsbD_and, BitVec.getLsbD_sshiftRight, BitVec.getLsbD_ofNat]
    cases i with
    | zero => simp [h, hb]
    | succ i => simp
theorem rd_lN0 {n : Nat} (h : n < 2 ^ 64) : lN n = 0 ↔ n = 0 := by
  constructor
  · intro e
    have t : (lN n).toBitVec.toNat = (0 : Int64).toBitVec.toNat := congrArg (fun x => x.toBitVec.toNat) e
    rw [wb_tn h] at t
    exact t
  · intro e; subst e; rfl
/-! counts of what is on a block -/
theorem rd_ct_le (MP : Nat → Nat) (b : Nat) : rd_ct MP b ≤ 120 := rd_c_le _ _
theorem rd_ct_inc {MP : Nat → Nat} {m b : Nat} (hm : m < 120) (h : MP m = 0) (c : Nat) : rd_ct (rd_u MP m (b + 1)) c = if c = b then rd_ct MP c + 1 else rd_ct MP c := by
  unfold rd_ct
  by_cases e : c = b
  · subst e
    rw [if_pos rfl, ← rd_c_set (p := fun m => decide (MP m = c + 1)) (a := m) (by simp [h]) hm]
    apply rd_c_ext
    intro i _
    by_cases z : i = m
    · subst z; rw [rd_us, rd_us]; simp
    · rw [rd_un z, rd_un z]
  · rw [if_neg e]
    apply rd_c_ext
    intro i _
    by_cases z : i = m
    · subst z; rw [rd_us, h]; simp [show ¬ b = c from fun q => e q.symm]
    · rw [rd_un z]
theorem rd_ct_dec {MP : Nat → Nat} {m b : Nat} (hm : m < 120) (h : MP m = b + 1) (c : Nat) : rd_ct MP c = if c = b then rd_ct (rd_u MP m 0) c + 1 else rd_ct (rd_u MP m 0) c := by
  have e := rd_ct_inc (MP := rd_u MP m 0) (b := b) hm rd_us c
  rw [rd_uu, ← h, rd_ui] at e
  exact e
theorem rd_ct_pos {MP : Nat → Nat} {m b : Nat} (hm : m < 120) (h : MP m = b + 1) : 0 < rd_ct MP b := by
  have e := rd_ct_dec hm h b
  rw [if_pos rfl] at e
  omega
/-! rotations of six -/
theorem rd_rot (g : Nat → Bool) (s : Nat) : rd_c (fun k => g (rd_dk s k)) 6 = rd_c g 6 := by
  have h : ∀ k, rd_dk s k = (s % 6 + k) % 6 := fun k => by unfold rd_dk; omega
  simp only [h]
  have hr : s % 6 < 6 := Nat.mod_lt _ (by decide)
  generalize s % 6 = r at hr
  rcases (by omega : r = 0 ∨ r = 1 ∨ r = 2 ∨ r = 3 ∨ r = 4 ∨ r = 5) with e | e | e | e | e | e <;> subst e <;> simp [rd_c] <;> omega
theorem rd_all6 {g : Nat → Bool} {s : Nat} : (∀ k, k < 6 → g (rd_dk s k) = true) ↔ ∀ d, d < 6 → g d = true := by
  constructor
  · intro h d hd
    have := h ((d + 6 - s % 6) % 6) (Nat.mod_lt _ (by decide))
    rw [show rd_dk s ((d + 6 - s % 6) % 6) = d by unfold rd_dk; omega] at this
    exact this
  · exact fun h k _ => h _ (rd_dk_lt s k)
end
section
/-! X: the small methods -/
section
variable {f_volumes : Int32} {f_free : Int64} {f_shared : Int32} {f_crashAfter : Int32} {f_next : Int32} {f_bad : Int32} {f_down : Int32} {f_noteMap : Int32} {f_noteBlock : Int32} {f_noteData : Int32} {f_noteP : Int32} {f_noteQ : Int32} {f_waiting : Int32} {f_delay : Int32} {a_disk : Nat → Int32} {a_health : Nat → Int32} {a_mark : Nat → Int32} {a_there : Nat → Int32} {a_power : Nat → Int32} {a_place : Nat → Int32} {a_map : Nat → Int32} {a_uses : Nat → Int32} {a_data : Nat → Int32} {a_waitMap : Nat → Int32} {a_waitValue : Nat → Int32}
variable {HE MK B : Nat → Nat} {VT : Nat → Bool}
theorem rd_x_tw {post : Int32 → Prop} {x : Nat} (hx : x < 256) (hp : post (nI (rd_tw x))) : wpX_twice post (nI x) := by
  unfold wpX_twice
  have e : nI x <<< ((1 : Int32) &&& 31) = nI (2 * x) := by
    rw [pk_shlN _ 1 (by decide) (by omega), Nat.pow_one, Nat.mul_comm]
  rw [e]
  refine pk_le 128 x (fun h => ?_) (fun h => ?_)
  · have : nI (2 * x) ^^^ 285 = nI (rd_tw x) := by
      unfold rd_tw; rw [if_neg (by omega)]; exact nx_xor (2 * x) 285
    rw [this]; exact hp
  · have : rd_tw x = 2 * x := if_pos h
    rw [← this]; exact hp
theorem rd_PLv {x : Nat} (h0 : 0 < x) (h : x < 256) : rd_PL x = nI (rd_lg x) := if_pos ⟨h0, h⟩
theorem rd_PWv {j : Nat} (h : j < 510) : rd_PW j = nI (rd_pw (j % 255)) := if_pos h
theorem rd_x_prod {post : Int32 → Prop} {k x : Nat} (hk : k < 4) (hx : x < 256) (hp : post (nI (rd_m k x))) : wpX_product post (f_volumes, f_free, f_shared, f_crashAfter, f_next, f_bad, f_down, f_noteMap, f_noteBlock, f_noteData, f_noteP, f_noteQ, f_waiting, f_delay, a_disk, a_health, a_mark, a_there, rd_PW, rd_PL, a_map, a_uses, a_data, a_waitMap, a_waitValue) (nI k) (nI x) := by
  unfold wpX_product
  dsimp only
  refine pk_eq x 0 (fun e => ?_) (fun e => ?_)
  · subst e; rw [rd_m_0 k hk] at hp; exact hp
  · have l := rd_lg_r x hx (by omega)
    have e1 : nI k + rd_PL (nI x).toNatClampNeg = nI (k + rd_lg x) := by
      rw [nI_clamp (by omega), rd_PLv (by omega) hx, nI_add]
    rw [e1]
    refine ⟨vp_in_nI hx (by omega), vp_in_nI (by omega) (by omega), ?_⟩
    rw [nI_clamp (by omega), rd_PWv (by omega), ← rd_m_pw k hk x hx (by omega)]
    exact hp
theorem rd_x_quot {post : Int32 → Prop} {x e : Nat} (hx : x < 256) (he : e < 255) (hp : post (nI (rd_q x e))) : wpX_quotient post (f_volumes, f_free, f_shared, f_crashAfter, f_next, f_bad, f_down, f_noteMap, f_noteBlock, f_noteData, f_noteP, f_noteQ, f_waiting, f_delay, a_disk, a_health, a_mark, a_there, rd_PW, rd_PL, a_map, a_uses, a_data, a_waitMap, a_waitValue) (nI x) (nI e) := by
  unfold wpX_quotient
  dsimp only
  refine pk_eq x 0 (fun z => ?_) (fun z => ?_)
  · subst z
    have : rd_q 0 e = 0 := if_pos rfl
    rw [this] at hp; exact hp
  · have l := rd_lg_r x hx (by omega)
    have e1 : rd_PL (nI x).toNatClampNeg + 255 - nI e = nI (rd_lg x + 255 - e) := by
      rw [nI_clamp (by omega), rd_PLv (by omega) hx]
      have : nI (rd_lg x) + 255 = nI (rd_lg x + 255) := nI_add _ 255
      rw [this, pk_sub (by omega)]
    rw [e1]
    refine ⟨vp_in_nI hx (by omega), vp_in_nI (by omega) (by omega), ?_⟩
    rw [nI_clamp (by omega), rd_PWv (by omega)]
    have : rd_q x e = rd_pw ((rd_lg x + 255 - e) % 255) := if_neg z
    rw [← this]; exact hp
theorem rd_x_dk {post : Int32 → Prop} {s k : Nat} (hs : s < 16) (hk : k < 6) (hp : post (nI (rd_dk s k))) : wpX_diskOf post (nI s) (nI k) := by
  unfold wpX_diskOf
  have e : (nI s + nI k) - (nI s + nI k) / 6 * 6 = nI (rd_dk s k) := by
    rw [nI_add]; exact pk_rem (d := 6) (by omega) (by decide) (by decide)
  rw [e]
  exact ⟨by decide, hp⟩
theorem rd_th_v {s : Nat} (hs : s < 16) : rd_th HE MK (nI s).toNatClampNeg = nI (rd_k (fun d => rd_isT HE MK d s) 6) := by
  rw [nI_clamp (by omega)]; exact if_pos hs
theorem rd_x_bit {s d : Nat} {A C : Prop} (hs : s < 16) (hd : d < 6) (f : rd_isT HE MK d s = false → A) (g : rd_isT HE MK d s = true → C) : ((((rd_th HE MK (nI s).toNatClampNeg) >>> (nI d &&& 31)) &&& 1) = 0 → A) ∧ (¬ (((rd_th HE MK (nI s).toNatClampNeg) >>> (nI d &&& 31)) &&& 1) = 0 → C) := by
  have hl := rd_k_lt (fun d => rd_isT HE MK d s) 6
  rw [rd_th_v hs]
  have hb := rd_bit1 (t := rd_k (fun d => rd_isT HE MK d s) 6) (d := d) (by omega) (by omega)
  rw [rd_k_bit, decide_eq_true hd, Bool.true_and] at hb
  exact ek_if hb f (fun h => g (ts_nf h))
theorem rd_x_has {post : Int32 → Prop} {s k : Nat} (hs : s < 16) (hk : k < 6) (hp : post (rd_b (rd_hs HE MK s k))) : wpX_has post (f_volumes, f_free, f_shared, f_crashAfter, f_next, f_bad, f_down, f_noteMap, f_noteBlock, f_noteData, f_noteP, f_noteQ, f_waiting, f_delay, a_disk, a_health, a_mark, rd_th HE MK, a_power, a_place, a_map, a_uses, a_data, a_waitMap, a_waitValue) (nI s) (nI k) := by
  unfold wpX_has
  dsimp only
  refine ⟨vp_in_nI hs (by omega), rd_x_dk hs hk ?_⟩
  refine rd_x_bit hs (rd_dk_lt s k) (fun h => ?_) (fun h => ?_)
  · have : rd_hs HE MK s k = false := h
    rw [this] at hp; exact hp
  · have : rd_hs HE MK s k = true := h
    rw [this] at hp; exact hp
theorem rd_celI (s k : Nat) : 16 * nI (rd_dk s k) + nI s = nI (rd_cel s k) := by
  have : (16 : Int32) * nI (rd_dk s k) = nI (16 * rd_dk s k) := pk_mul 16 _
  rw [this, nI_add]; rfl
theorem rd_x_at {post : Int32 → Prop} {s k : Nat} (hB : ∀ j, B j < 256) (hs : s < 16) (hk : k < 6) (hp : post (nI (B (rd_cel s k)))) : wpX_at post (f_volumes, f_free, f_shared, f_crashAfter, f_next, f_bad, f_down, f_noteMap, f_noteBlock, f_noteData, f_noteP, f_noteQ, f_waiting, f_delay, rd_bF B, a_health, a_mark, a_there, a_power, a_place, a_map, a_uses, a_data, a_waitMap, a_waitValue) (nI s) (nI k) := by
  unfold wpX_at
  dsimp only
  refine rd_x_dk hs hk ?_
  have hc := rd_cel_lt (k := k) hs
  rw [rd_celI]
  refine ⟨vp_in_nI hc (by omega), ?_⟩
  rw [nI_clamp (by omega), show rd_bF B (rd_cel s k) &&& 255 = nI (B (rd_cel s k)) from (sb_byte _ (hB _)).1]
  exact hp
theorem rd_x_put {post : SX → Prop} {s k v : Nat} (hs : s < 16) (hk : k < 6) (hp : post (f_volumes, f_free, f_shared, f_crashAfter, f_next, f_bad, f_down, f_noteMap, f_noteBlock, f_noteData, f_noteP, f_noteQ, f_waiting, f_delay, rd_bF (rd_pB HE MK B s k v), a_health, a_mark, rd_th HE MK, a_power, a_place, a_map, a_uses, a_data, a_waitMap, a_waitValue)) : wpX_put post (f_volumes, f_free, f_shared, f_crashAfter, f_next, f_bad, f_down, f_noteMap, f_noteBlock, f_noteData, f_noteP, f_noteQ, f_waiting, f_delay, rd_bF B, a_health, a_mark, rd_th HE MK, a_power, a_place, a_map, a_uses, a_data, a_waitMap, a_waitValue) (nI s) (nI k) (nI v) := by
  unfold wpX_put
  dsimp only
  refine rd_x_has hs hk ?_
  refine rd_brb _ rfl (fun h => ?_) (fun h => ?_)
  · have : rd_pB HE MK B s k v = B := by unfold rd_pB; rw [h]; rfl
    rw [this] at hp; exact hp
  · refine rd_x_dk hs hk ?_
    have hc := rd_cel_lt (k := k) hs
    rw [rd_celI]
    refine ⟨vp_in_nI hc (by omega), ?_⟩
    intro y hy
    rw [nI_clamp (by omega), rd_nsb, rd_upB] at hy
    subst hy
    have : rd_pB HE MK B s k v = rd_u B (rd_cel s k) v := if_pos h
    rw [this] at hp; exact hp
theorem rd_x_miss9 {post : Int32 → Prop} : ∀ (n a x : Nat), x < 64 → rd_c (fun i => x.testBit i) 6 < n → post (nI (a + rd_c (fun i => x.testBit i) 6)) → wX_missing_9 post n (nI a) (nI x)
  | 0, _, _, _, h, _ => by omega
  | n + 1, a, x, hx, h, hp => by
    unfold wX_missing_9
    refine pk_eq x 0 (fun e => ?_) (fun e => ?_)
    · subst e
      have : rd_c (fun i => (0 : Nat).testBit i) 6 = 0 := rd_c_z.mpr (fun i _ => Nat.zero_testBit i)
      rw [this] at hp; exact hp
    · have hc := rd_kc (x := x) (n := 6) (by omega) hx
      refine nm_r (nI_1 a) (nm_r (e' := nI (x &&& (x - 1))) ?_ (rd_x_miss9 n (a + 1) (x &&& (x - 1)) ?_ ?_ ?_))
      · have : nI x - 1 = nI (x - 1) := pk_sub (b := 1) (by omega)
        rw [this, nx_and]
      · exact Nat.lt_of_le_of_lt Nat.and_le_left hx
      · omega
      · rw [hc] at hp
        rw [show a + 1 + rd_c (fun i => (x &&& (x - 1)).testBit i) 6 = a + (rd_c (fun i => (x &&& (x - 1)).testBit i) 6 + 1) by omega]
        exact hp
theorem rd_x_missing {post : Int32 → Prop} (p : Nat → Bool) (hp : post (nI (rd_c (fun d => !p d) 6))) : wpX_missing post (nI (rd_k p 6)) := by
  unfold wpX_missing
  have e : (63 : Int32) &&& (nI (rd_k p 6) ^^^ (-1)) = nI (rd_k (fun d => !p d) 6) := by
    rw [rd_m1N, nx_xor]
    have : (63 : Int32) &&& nI (rd_k p 6 ^^^ (2 ^ 32 - 1)) = nI (63 &&& (rd_k p 6 ^^^ (2 ^ 32 - 1))) := nx_and 63 _
    rw [this]
    congr 1
    apply Nat.eq_of_testBit_eq
    intro i
    have h63 : Nat.testBit 63 i = decide (i < 6) := Nat.testBit_two_pow_sub_one 6 i
    rw [Nat.testBit_and, Nat.testBit_xor, rd_k_bit, rd_k_bit, Nat.testBit_two_pow_sub_one, h63]
    by_cases h : i < 6
    · simp [h, show i < 32 by omega]
    · simp [h]
  refine nm_r e ⟨7, ?_⟩
  have hl := rd_c_le (fun d => !p d) 6
  refine rd_x_miss9 7 0 (rd_k (fun d => !p d) 6) (rd_k_lt _ 6) ?_ ?_
  · rw [rd_k_c]; omega
  · rw [rd_k_c, Nat.zero_add]; exact hp
theorem rd_x_lost {post : Int32 → Prop} {s : Nat} (hs : s < 16) (hp : post (rd_b (rd_ls HE MK s))) : wpX_lost post (f_volumes, f_free, f_shared, f_crashAfter, f_next, f_bad, f_down, f_noteMap, f_noteBlock, f_noteData, f_noteP, f_noteQ, f_waiting, f_delay, a_disk, a_health, a_mark, rd_th HE MK, a_power, a_place, a_map, a_uses, a_data, a_waitMap, a_waitValue) (nI s) := by
  unfold wpX_lost
  dsimp only
  rw [rd_th_v hs]
  refine ⟨vp_in_nI hs (by omega), rd_x_missing _ ?_⟩
  have e : rd_c (fun d => !rd_isT HE MK d s) 6 = rd_c (fun k => !rd_hs HE MK s k) 6 := (rd_rot (fun d => !rd_isT HE MK d s) s).symm
  rw [e]
  have hl := rd_c_le (fun k => !rd_hs HE MK s k) 6
  refine pk_le (rd_c (fun k => !rd_hs HE MK s k) 6) 2 (fun h => ?_) (fun h => ?_)
  · have : rd_ls HE MK s = false := decide_eq_false (by omega)
    rw [this] at hp; exact hp
  · have : rd_ls HE MK s = true := decide_eq_true (by omega)
    rw [this] at hp; exact hp
theorem rd_4v {f : Nat → Nat} {g : Nat → Int32} {k : Nat} (h : k < 4) : rd_4 f g k = nI (f k) := if_pos h
theorem rd_sz4 (f : Nat → Nat) : rd_sz f 4 = f 0 ^^^ f 1 ^^^ f 2 ^^^ f 3 := by simp [rd_sz]
theorem rd_x_sum {post : Int32 → Prop} (f : Nat → Nat) {g : Nat → Int32} (hp : post (nI (rd_sz f 4))) : wpX_sum post (f_volumes, f_free, f_shared, f_crashAfter, f_next, f_bad, f_down, f_noteMap, f_noteBlock, f_noteData, f_noteP, f_noteQ, f_waiting, f_delay, a_disk, a_health, a_mark, a_there, a_power, a_place, a_map, a_uses, rd_4 f g, a_waitMap, a_waitValue) := by
  unfold wpX_sum
  dsimp only
  rw [rd_4v (show 0 < 4 by decide), rd_4v (show 1 < 4 by decide), rd_4v (show 2 < 4 by decide), rd_4v (show 3 < 4 by decide), nx_xor, nx_xor, nx_xor, ← rd_sz4]
  exact hp
theorem rd_x_wei4 {post : Int32 → Prop} {f : Nat → Nat} {g : Nat → Int32} (hf : ∀ k, k < 4 → f k < 256) (hp : post (nI (rd_wz f 4))) : ∀ d k n : Nat, k + d = 4 → d < n → wX_weighed_4 post f_volumes f_free f_shared f_crashAfter f_next f_bad f_down f_noteMap f_noteBlock f_noteData f_noteP f_noteQ f_waiting f_delay a_disk a_health a_mark a_there rd_PW rd_PL a_map a_uses (rd_4 f g) a_waitMap a_waitValue n (nI (rd_wz f k)) (nI k)
  | 0, k, 0, _, h => by omega
  | 0, k, n + 1, h, _ => by
    unfold wX_weighed_4
    have : k = 4 := by omega
    subst this
    exact br_t (by decide) hp
  | d + 1, k, 0, _, h => by omega
  | d + 1, k, n + 1, h, hn => by
    unfold wX_weighed_4
    refine pk_le 4 k (fun z => by omega) (fun z => ⟨vp_in_nI z (by omega), ?_⟩)
    rw [nI_clamp (by omega), rd_4v z]
    refine rd_x_prod z (hf k z) ?_
    refine nm_r (nx_xor _ _) (nm_r (nI_1 k) ?_)
    exact rd_x_wei4 hf hp d (k + 1) n (by omega) (by omega)
theorem rd_x_wei {post : Int32 → Prop} {f : Nat → Nat} {g : Nat → Int32} (hf : ∀ k, k < 4 → f k < 256) (hp : post (nI (rd_wz f 4))) : wpX_weighed post (f_volumes, f_free, f_shared, f_crashAfter, f_next, f_bad, f_down, f_noteMap, f_noteBlock, f_noteData, f_noteP, f_noteQ, f_waiting, f_delay, a_disk, a_health, a_mark, a_there, rd_PW, rd_PL, a_map, a_uses, rd_4 f g, a_waitMap, a_waitValue) := by
  unfold wpX_weighed
  dsimp only
  exact ⟨5, rd_x_wei4 hf hp 4 0 5 rfl (by decide)⟩
/-! volumes -/
def rd_vol (VT : Nat → Bool) (v : Int32) : Bool := decide (0 ≤ v) && decide (v < 6) && VT v.toNatClampNeg
def rd_lb (VT : Nat → Bool) (v l : Int32) : Bool := rd_vol VT v && (decide (0 ≤ l) && decide (l < 20))
theorem rd_vol_n {v : Int32} (h : v < 0) : rd_vol VT v = false := by
  unfold rd_vol; rw [decide_eq_false (Int32.not_le.mpr h)]; rfl
theorem rd_vol_g {v : Int32} (h : 6 ≤ v) : rd_vol VT v = false := by
  unfold rd_vol; rw [decide_eq_false (Int32.not_lt.mpr h)]; simp
theorem rd_vol_j {j : Nat} (h : j < 6) : rd_vol VT (nI j) = VT j := by
  unfold rd_vol
  rw [decide_eq_true (nI_pos' (by omega)), decide_eq_true (show nI j < 6 from nI_lt (b := 6) h (by decide)), nI_clamp (by omega)]; rfl
theorem rd_vol_t {v : Int32} (h : rd_vol VT v = true) : ∃ j, j < 6 ∧ v = nI j ∧ VT j = true := by
  rcases pk_ix v (n := 6) (by decide) with z | z | ⟨j, hj, rfl⟩
  · rw [rd_vol_n z] at h; cases h
  · rw [rd_vol_g z] at h; cases h
  · exact ⟨j, hj, rfl, by rw [rd_vol_j hj] at h; exact h⟩
theorem rd_lb_t {v l : Int32} (h : rd_lb VT v l = true) : ∃ j i, j < 6 ∧ i < 20 ∧ v = nI j ∧ l = nI i ∧ VT j = true ∧ 20 * v + l = nI (20 * j + i) := by
  unfold rd_lb at h
  rw [Bool.and_eq_true] at h
  obtain ⟨j, hj, rfl, hv⟩ := rd_vol_t h.1
  have h2 := h.2
  rw [Bool.and_eq_true] at h2
  rcases pk_ix l (n := 20) (by decide) with z | z | ⟨i, hi, rfl⟩
  · exact absurd (of_decide_eq_true h2.1) (Int32.not_le.mpr z)
  · exact absurd (of_decide_eq_true h2.2) (Int32.not_lt.mpr z)
  · refine ⟨j, i, hj, hi, rfl, rfl, hv, ?_⟩
    have : (20 : Int32) * nI j = nI (20 * j) := pk_mul 20 j
    rw [this, nI_add]
theorem rd_x_isV {post : Int32 → Prop} {v : Int32} (hp : post (rd_b (rd_vol VT v))) : wpX_isThere post (nI (rd_k VT 6), f_free, f_shared, f_crashAfter, f_next, f_bad, f_down, f_noteMap, f_noteBlock, f_noteData, f_noteP, f_noteQ, f_waiting, f_delay, a_disk, a_health, a_mark, a_there, a_power, a_place, a_map, a_uses, a_data, a_waitMap, a_waitValue) v := by
  unfold wpX_isThere
  dsimp only
  rcases pk_ix v (n := 6) (by decide) with z | z | ⟨j, hj, rfl⟩
  · rw [rd_vol_n z] at hp; exact br_t z hp
  · rw [rd_vol_g z] at hp
    have h0 : ¬ v < 0 := Int32.not_lt.mpr (Int32.le_trans (by decide) z)
    exact br_f h0 (br_t z hp)
  · rw [rd_vol_j hj] at hp
    refine br_f (nI_pos (by omega)) (br_f (nI_ge (b := 6) hj (by decide)) ?_)
    have hl := rd_k_lt VT 6
    have hb := rd_bit1 (t := rd_k VT 6) (d := j) (by omega) (by omega)
    rw [rd_k_bit, decide_eq_true hj, Bool.true_and] at hb
    refine ek_if hb (fun h => ?_) (fun h => ?_)
    · rw [h] at hp; exact hp
    · rw [ts_nf h] at hp; exact hp
theorem rd_x_isL {post : Int32 → Prop} {v l : Int32} (hp : post (rd_b (rd_lb VT v l))) : wpX_isLblock post (nI (rd_k VT 6), f_free, f_shared, f_crashAfter, f_next, f_bad, f_down, f_noteMap, f_noteBlock, f_noteData, f_noteP, f_noteQ, f_waiting, f_delay, a_disk, a_health, a_mark, a_there, a_power, a_place, a_map, a_uses, a_data, a_waitMap, a_waitValue) v l := by
  unfold wpX_isLblock
  dsimp only
  refine rd_x_isV ?_
  refine rd_brb _ rfl (fun h => ?_) (fun h => ?_)
  · unfold rd_lb at hp; rw [h] at hp; exact hp
  · unfold rd_lb at hp; rw [h, Bool.true_and] at hp
    refine br_c (fun z => ?_) (fun z => br_c (fun y => ?_) (fun y => ?_))
    · rw [decide_eq_false (Int32.not_le.mpr z)] at hp; exact hp
    · rw [decide_eq_false (Int32.not_lt.mpr y), Bool.and_false] at hp; exact hp
    · rw [decide_eq_true (Int32.not_lt.mp z), decide_eq_true (Int32.not_le.mp y)] at hp; exact hp
end
end
section
/-! Y: the small methods -/
section
variable {f_delay : Int32} {f_crash : Int32} {f_cursor : Int32} {f_bad : Int32} {f_down : Int32} {f_waiting : Int32} {f_noteBlock : Int32} {f_noteFor : Int32} {a_bytes : Nat → Int32} {a_health : Nat → Int32} {a_mark : Nat → Int32} {a_there : Nat → Int32} {a_on : Nat → Int32} {a_waitsFor : Nat → Int32} {a_waits : Nat → Int32} {a_note : Nat → Int32} {a_worth : Nat → Int32}
variable {HE MK B MP : Nat → Nat} {VT : Nat → Bool}
theorem rd_y_in {post : Int32 → Prop} {x a b : Int32} (hp : post (rd_b (decide (a ≤ x) && decide (x ≤ b)))) : wpY_in post x a b := by
  unfold wpY_in
  refine br_c (fun z => ?_) (fun z => br_c (fun y => ?_) (fun y => ?_))
  · rw [decide_eq_false (Int32.not_le.mpr z)] at hp; exact hp
  · rw [decide_eq_false (Int32.not_le.mpr y), Bool.and_false] at hp; exact hp
  · rw [decide_eq_true (Int32.not_lt.mp z), decide_eq_true (Int32.not_lt.mp y)] at hp; exact hp
theorem rd_y_prod4 {post : Int32 → Prop} {k x : Nat} (hx : x < 256) (hk : k < 100) (hp : post (nI (rd_m k x))) : ∀ d i n : Nat, i + d = k → d < n → wY_product_4 post (nI k) n (nI (rd_m i x)) (nI i)
  | _, _, 0, _, h => by omega
  | 0, i, n + 1, h, _ => by
    unfold wY_product_4
    have : i = k := by omega
    subst this
    exact br_t (Int32.le_refl _) hp
  | d + 1, i, n + 1, h, hn => by
    unfold wY_product_4
    have hy := rd_m_l hx i
    have e : (2 : Int32) * nI (rd_m i x) = nI (2 * rd_m i x) := pk_mul 2 _
    rw [e]
    refine pk_le k i (fun z => by omega) (fun z => pk_le 256 (2 * rd_m i x) (fun y => ?_) (fun y => ?_))
    · refine nm_r (e' := nI (rd_m (i + 1) x)) ?_ (nm_r (nI_1 i) (rd_y_prod4 hx hk hp d (i + 1) n (by omega) (by omega)))
      have : rd_m (i + 1) x = (2 * rd_m i x) ^^^ 285 := if_neg (by omega)
      rw [this]
      exact nx_xor (2 * rd_m i x) 285
    · refine nm_r (e' := nI (rd_m (i + 1) x)) ?_ (nm_r (nI_1 i) (rd_y_prod4 hx hk hp d (i + 1) n (by omega) (by omega)))
      have : rd_m (i + 1) x = 2 * rd_m i x := if_pos (by omega)
      rw [this]
theorem rd_y_prod {post : Int32 → Prop} {k x : Nat} (hx : x < 256) (hk : k < 100) (hp : post (nI (rd_m k x))) : wpY_product post (nI k) (nI x) :=
  ⟨k + 1, rd_y_prod4 hx hk hp k 0 (k + 1) (by omega) (by omega)⟩
theorem rd_y_dk {s k : Nat} (hs : s < 16) (hk : k < 6) : (nI s + nI k) - (nI s + nI k) / 6 * 6 = nI (rd_dk s k) := by
  rw [nI_add]; exact pk_rem (d := 6) (by omega) (by decide) (by decide)
theorem rd_y_cell {post : Int32 → Prop} {s k : Nat} (hs : s < 16) (hk : k < 6) (hp : post (nI (rd_cel s k))) : wpY_cell post (nI s) (nI k) := by
  unfold wpY_cell
  rw [rd_y_dk hs hk]
  have e : nI (rd_dk s k) * 16 = nI (rd_dk s k * 16) := pk_mul _ 16
  rw [e, nI_add, show rd_dk s k * 16 + s = rd_cel s k by unfold rd_cel; omega]
  exact ⟨by decide, hp⟩
theorem rd_y_isT {post : Int32 → Prop} {d s : Nat} (hH : ∀ d, HE d ≤ 2) (hM : ∀ d, MK d ≤ 16) (hd : d < 6) (hs : s < 16) (hp : post (rd_b (rd_isT HE MK d s))) : wpY_isThere post (f_delay, f_crash, f_cursor, f_bad, f_down, f_waiting, f_noteBlock, f_noteFor, a_bytes, rd_nF HE, rd_nF MK, a_there, a_on, a_waitsFor, a_waits, a_note, a_worth) (nI d) (nI s) := by
  unfold wpY_isThere
  dsimp only
  have h1 := hH d
  have h2 := hM d
  have hi : vp_in (nI d) 6 := vp_in_nI hd (by omega)
  rw [nI_clamp (by omega)]
  refine ⟨hi, pk_eq (HE d) 0 (fun z => ?_) (fun z => ⟨hi, pk_eq (HE d) 2 (fun y => ⟨hi, pk_le (MK d) s (fun w => ?_) (fun w => ?_)⟩) (fun y => ?_)⟩)⟩
  · have : rd_isT HE MK d s = true := decide_eq_true (Or.inl z)
    rw [this] at hp; exact hp
  · have : rd_isT HE MK d s = false := decide_eq_false (by omega)
    rw [this] at hp; exact hp
  · have : rd_isT HE MK d s = true := decide_eq_true (by omega)
    rw [this] at hp; exact hp
  · have : rd_isT HE MK d s = false := decide_eq_false (by omega)
    rw [this] at hp; exact hp
theorem rd_y_has {post : Int32 → Prop} {s k : Nat} (hH : ∀ d, HE d ≤ 2) (hM : ∀ d, MK d ≤ 16) (hs : s < 16) (hk : k < 6) (hp : post (rd_b (rd_hs HE MK s k))) : wpY_has post (f_delay, f_crash, f_cursor, f_bad, f_down, f_waiting, f_noteBlock, f_noteFor, a_bytes, rd_nF HE, rd_nF MK, a_there, a_on, a_waitsFor, a_waits, a_note, a_worth) (nI s) (nI k) := by
  unfold wpY_has
  dsimp only
  rw [rd_y_dk hs hk]
  refine ⟨by decide, rd_y_isT hH hM (rd_dk_lt s k) hs ?_⟩
  exact ⟨rd_b_nar _, hp⟩
theorem rd_y_lost4 {post : Int32 → Prop} {s : Nat} (hH : ∀ d, HE d ≤ 2) (hM : ∀ d, MK d ≤ 16) (hs : s < 16) (hp : post (rd_b (rd_ls HE MK s))) : ∀ d i n : Nat, i + d = 6 → d < n → wY_lost_4 post (nI s) f_delay f_crash f_cursor f_bad f_down f_waiting f_noteBlock f_noteFor a_bytes (rd_nF HE) (rd_nF MK) a_there a_on a_waitsFor a_waits a_note a_worth n (nI (rd_c (fun k => !rd_hs HE MK s k) i)) (nI i)
  | _, _, 0, _, h => by omega
  | 0, i, n + 1, h, _ => by
    unfold wY_lost_4
    have : i = 6 := by omega
    subst this
    have hl := rd_c_le (fun k => !rd_hs HE MK s k) 6
    refine br_t (by decide) (pk_le (rd_c (fun k => !rd_hs HE MK s k) 6) 2 (fun h => ?_) (fun h => ?_))
    · have : rd_ls HE MK s = false := decide_eq_false (by omega)
      rw [this] at hp; exact hp
    · have : rd_ls HE MK s = true := decide_eq_true (by omega)
      rw [this] at hp; exact hp
  | d + 1, i, n + 1, h, hn => by
    unfold wY_lost_4
    refine pk_le 6 i (fun z => by omega) (fun z => ?_)
    refine rd_y_has hH hM hs z ?_
    have ih := rd_y_lost4 hH hM hs hp d (i + 1) n (by omega) (by omega)
    refine rd_brb _ rfl (fun h => ?_) (fun h => ?_)
    · have e : rd_c (fun k => !rd_hs HE MK s k) (i + 1) = rd_c (fun k => !rd_hs HE MK s k) i + 1 := by simp only [rd_c]; rw [h]; rfl
      rw [e] at ih
      exact nm_r (nI_1 _) (nm_r (nI_1 i) ih)
    · have e : rd_c (fun k => !rd_hs HE MK s k) (i + 1) = rd_c (fun k => !rd_hs HE MK s k) i := by simp only [rd_c]; rw [h]; rfl
      rw [e] at ih
      exact nm_r (nI_1 i) ih
theorem rd_y_lost {post : Int32 → Prop} {s : Nat} (hH : ∀ d, HE d ≤ 2) (hM : ∀ d, MK d ≤ 16) (hs : s < 16) (hp : post (rd_b (rd_ls HE MK s))) : wpY_lost post (f_delay, f_crash, f_cursor, f_bad, f_down, f_waiting, f_noteBlock, f_noteFor, a_bytes, rd_nF HE, rd_nF MK, a_there, a_on, a_waitsFor, a_waits, a_note, a_worth) (nI s) := by
  unfold wpY_lost
  dsimp only
  exact ⟨7, rd_y_lost4 hH hM hs hp 6 0 7 rfl (by decide)⟩
theorem rd_y_sum {post : Int32 → Prop} (f : Nat → Nat) (hf : ∀ k, k < 4 → a_worth k = nI (f k)) (hp : post (nI (rd_sz f 4))) : wpY_sum post (f_delay, f_crash, f_cursor, f_bad, f_down, f_waiting, f_noteBlock, f_noteFor, a_bytes, a_health, a_mark, a_there, a_on, a_waitsFor, a_waits, a_note, a_worth) := by
  unfold wpY_sum
  dsimp only
  rw [hf 0 (by decide), hf 1 (by decide), hf 2 (by decide), hf 3 (by decide), nx_xor, nx_xor, nx_xor, ← rd_sz4]
  exact hp
theorem rd_y_sop4 {post : Int32 → Prop} {f : Nat → Nat} (h256 : ∀ k, k < 4 → f k < 256) (hf : ∀ k, k < 4 → a_worth k = nI (f k)) (hp : post (nI (rd_wz f 4))) : ∀ d k n : Nat, k + d = 4 → d < n → wY_sumOfProducts_4 post f_delay f_crash f_cursor f_bad f_down f_waiting f_noteBlock f_noteFor a_bytes a_health a_mark a_there a_on a_waitsFor a_waits a_note a_worth n (nI (rd_wz f k)) (nI k)
  | _, _, 0, _, h => by omega
  | 0, k, n + 1, h, _ => by
    unfold wY_sumOfProducts_4
    have : k = 4 := by omega
    subst this
    exact br_t (by decide) hp
  | d + 1, k, n + 1, h, hn => by
    unfold wY_sumOfProducts_4
    refine pk_le 4 k (fun z => by omega) (fun z => ⟨vp_in_nI (by omega) (by omega), ?_⟩)
    rw [nI_clamp (by omega), hf k z]
    refine rd_y_prod (h256 k z) (by omega) ?_
    refine nm_r (nx_xor _ _) (nm_r (nI_1 k) ?_)
    exact rd_y_sop4 h256 hf hp d (k + 1) n (by omega) (by omega)
theorem rd_y_sop {post : Int32 → Prop} (f : Nat → Nat) (h256 : ∀ k, k < 4 → f k < 256) (hf : ∀ k, k < 4 → a_worth k = nI (f k)) (hp : post (nI (rd_wz f 4))) : wpY_sumOfProducts post (f_delay, f_crash, f_cursor, f_bad, f_down, f_waiting, f_noteBlock, f_noteFor, a_bytes, a_health, a_mark, a_there, a_on, a_waitsFor, a_waits, a_note, a_worth) := by
  unfold wpY_sumOfProducts
  dsimp only
  exact ⟨5, rd_y_sop4 h256 hf hp 4 0 5 rfl (by decide)⟩
theorem rd_y_put {post : SY → Prop} {s k v : Nat} (hH : ∀ d, HE d ≤ 2) (hM : ∀ d, MK d ≤ 16) (hs : s < 16) (hk : k < 6) (hp : post (f_delay, f_crash, f_cursor, f_bad, f_down, f_waiting, f_noteBlock, f_noteFor, rd_nF (rd_pB HE MK B s k v), rd_nF HE, rd_nF MK, a_there, a_on, a_waitsFor, a_waits, a_note, a_worth)) : wpY_put post (f_delay, f_crash, f_cursor, f_bad, f_down, f_waiting, f_noteBlock, f_noteFor, rd_nF B, rd_nF HE, rd_nF MK, a_there, a_on, a_waitsFor, a_waits, a_note, a_worth) (nI s) (nI k) (nI v) := by
  unfold wpY_put
  dsimp only
  refine rd_y_has hH hM hs hk ?_
  refine rd_brb _ rfl (fun h => ?_) (fun h => ?_)
  · have : rd_pB HE MK B s k v = B := by unfold rd_pB; rw [h]; rfl
    rw [this] at hp; exact hp
  · refine rd_y_cell hs hk ?_
    have hc := rd_cel_lt (k := k) hs
    refine ⟨vp_in_nI hc (by omega), ?_⟩
    intro y hy
    rw [nI_clamp (by omega), rd_upN] at hy
    subst hy
    have : rd_pB HE MK B s k v = rd_u B (rd_cel s k) v := if_pos h
    rw [this] at hp; exact hp
theorem rd_on_eq {j b : Nat} (hM : ∀ m, MP m ≤ 64) (hj : j < 120) (hb : b < 65) : rd_on MP j = nI b ↔ MP j = b + 1 := by
  have := hM j
  rw [rd_on_v MP hj]
  cases h : MP j with
  | zero =>
    rw [rd_m10]
    constructor
    · intro e
      exact absurd (show nI b < 0 by rw [← e]; decide) (nI_pos (by omega))
    · intro e; omega
  | succ c => rw [rd_m1, nI_eq (by omega) (by omega)]; omega
theorem rd_y_users4 {post : Int32 → Prop} {b : Nat} (hM : ∀ m, MP m ≤ 64) (hb : b < 65) (hp : post (nI (rd_ct MP b))) : ∀ d i n : Nat, i + d = 120 → d < n → wY_users_4 post (nI b) f_delay f_crash f_cursor f_bad f_down f_waiting f_noteBlock f_noteFor a_bytes a_health a_mark a_there (rd_on MP) a_waitsFor a_waits a_note a_worth n (nI (rd_c (fun m => decide (MP m = b + 1)) i)) (nI i)
  | _, _, 0, _, h => by omega
  | 0, i, n + 1, h, _ => by
    unfold wY_users_4
    have : i = 120 := by omega
    subst this
    exact br_t (by decide) hp
  | d + 1, i, n + 1, h, hn => by
    unfold wY_users_4
    refine pk_le 120 i (fun z => by omega) (fun z => ⟨vp_in_nI z (by omega), ?_⟩)
    rw [nI_clamp (by omega)]
    have ih := rd_y_users4 hM hb hp d (i + 1) n (by omega) (by omega)
    refine ek_if (rd_on_eq hM z hb) (fun h => ?_) (fun h => ?_)
    · have e : rd_c (fun m => decide (MP m = b + 1)) (i + 1) = rd_c (fun m => decide (MP m = b + 1)) i + 1 := by
        show _ + (decide (MP i = b + 1)).toNat = _
        rw [decide_eq_true h]; rfl
      rw [e] at ih
      exact nm_r (nI_1 _) (nm_r (nI_1 i) ih)
    · have e : rd_c (fun m => decide (MP m = b + 1)) (i + 1) = rd_c (fun m => decide (MP m = b + 1)) i := by
        show _ + (decide (MP i = b + 1)).toNat = _
        rw [decide_eq_false h]; rfl
      rw [e] at ih
      exact nm_r (nI_1 i) ih
theorem rd_y_users {post : Int32 → Prop} {b : Nat} (hM : ∀ m, MP m ≤ 64) (hb : b < 65) (hp : post (nI (rd_ct MP b))) : wpY_users post (f_delay, f_crash, f_cursor, f_bad, f_down, f_waiting, f_noteBlock, f_noteFor, a_bytes, a_health, a_mark, a_there, rd_on MP, a_waitsFor, a_waits, a_note, a_worth) (nI b) := by
  unfold wpY_users
  dsimp only
  exact ⟨121, rd_y_users4 hM hb hp 120 0 121 rfl (by decide)⟩
theorem rd_y_free4 {post : Int32 → Prop} (hM : ∀ m, MP m ≤ 64) (hp : post (nI (rd_c (rd_fz MP) 64))) : ∀ d i n : Nat, i + d = 64 → d < n → wY_free_4 post f_delay f_crash f_cursor f_bad f_down f_waiting f_noteBlock f_noteFor a_bytes a_health a_mark a_there (rd_on MP) a_waitsFor a_waits a_note a_worth n (nI (rd_c (rd_fz MP) i)) (nI i)
  | _, _, 0, _, h => by omega
  | 0, i, n + 1, h, _ => by
    unfold wY_free_4
    have : i = 64 := by omega
    subst this
    exact br_t (by decide) hp
  | d + 1, i, n + 1, h, hn => by
    unfold wY_free_4
    refine pk_le 64 i (fun z => by omega) (fun z => ?_)
    refine rd_y_users hM (by omega) ?_
    have ih := rd_y_free4 hM hp d (i + 1) n (by omega) (by omega)
    have hc := rd_ct_le MP i
    refine pk_eq (rd_ct MP i) 0 (fun h => ?_) (fun h => ?_)
    · have e : rd_c (rd_fz MP) (i + 1) = rd_c (rd_fz MP) i + 1 := by
        show _ + (decide (rd_ct MP i = 0)).toNat = _
        rw [decide_eq_true h]; rfl
      rw [e] at ih
      exact nm_r (nI_1 _) (nm_r (nI_1 i) ih)
    · have e : rd_c (rd_fz MP) (i + 1) = rd_c (rd_fz MP) i := by
        show _ + (decide (rd_ct MP i = 0)).toNat = _
        rw [decide_eq_false h]; rfl
      rw [e] at ih
      exact nm_r (nI_1 i) ih
theorem rd_y_free {post : Int32 → Prop} (hM : ∀ m, MP m ≤ 64) (hp : post (nI (rd_c (rd_fz MP) 64))) : wpY_free post (f_delay, f_crash, f_cursor, f_bad, f_down, f_waiting, f_noteBlock, f_noteFor, a_bytes, a_health, a_mark, a_there, rd_on MP, a_waitsFor, a_waits, a_note, a_worth) := by
  unfold wpY_free
  dsimp only
  exact ⟨65, rd_y_free4 hM hp 64 0 65 rfl (by decide)⟩
theorem rd_y_isV {post : Int32 → Prop} {v : Int32} (hp : post (rd_b (rd_vol VT v))) : wpY_isVolume post (f_delay, f_crash, f_cursor, f_bad, f_down, f_waiting, f_noteBlock, f_noteFor, a_bytes, a_health, a_mark, rd_vF VT, a_on, a_waitsFor, a_waits, a_note, a_worth) v := by
  unfold wpY_isVolume
  dsimp only
  refine rd_y_in ?_
  rcases pk_ix v (n := 6) (by decide) with z | z | ⟨j, hj, rfl⟩
  · rw [rd_vol_n z] at hp
    rw [decide_eq_false (Int32.not_le.mpr z)]
    exact br_t rfl hp
  · rw [rd_vol_g z] at hp
    have h5 : ¬ v ≤ 5 := fun q => by
      have := Int32.le_trans z q
      exact absurd this (by decide)
    rw [decide_eq_false h5, Bool.and_false]
    exact br_t rfl hp
  · rw [rd_vol_j hj] at hp
    rw [decide_eq_true (nI_pos' (by omega)), decide_eq_true (show nI j ≤ 5 from nI_le (b := 5) (by omega) (by decide))]
    refine br_f (by decide) ⟨vp_in_nI hj (by omega), ?_⟩
    rw [nI_clamp (by omega)]
    refine rd_brb (VT j) rfl (fun h => ?_) (fun h => ?_)
    · rw [h] at hp; exact hp
    · rw [h] at hp; exact hp
theorem rd_y_isL {post : Int32 → Prop} {v l : Int32} (hp : post (rd_b (rd_lb VT v l))) : wpY_isLblock post (f_delay, f_crash, f_cursor, f_bad, f_down, f_waiting, f_noteBlock, f_noteFor, a_bytes, a_health, a_mark, rd_vF VT, a_on, a_waitsFor, a_waits, a_note, a_worth) v l := by
  unfold wpY_isLblock
  dsimp only
  refine rd_y_isV ?_
  refine rd_brb _ rfl (fun h => ?_) (fun h => ?_)
  · unfold rd_lb at hp; rw [h] at hp; exact hp
  · unfold rd_lb at hp; rw [h, Bool.true_and] at hp
    refine rd_y_in ?_
    have e : decide (l ≤ 19) = decide (l < 20) := by
      congr 1
      apply propext
      rw [Int32.le_iff_toInt_le, Int32.lt_iff_toInt_lt, show (19 : Int32).toInt = 19 by decide, show (20 : Int32).toInt = 20 by decide]
      omega
    rw [e]
    refine rd_brb _ rfl (fun h => ?_) (fun h => ?_)
    · rw [h] at hp; exact hp
    · rw [h] at hp; exact hp
end
end
section
/-! what a stripe's data bytes are worth -/
def rd_n (f : Nat → Nat) (n : Nat) (g : Nat → Int32) : Nat → Int32 := fun j => if j < n then nI (f j) else g j
theorem rd_nv {f : Nat → Nat} {g : Nat → Int32} {k n : Nat} (h : k < n) : rd_n f n g k = nI (f k) := if_pos h
theorem rd_n0 (f : Nat → Nat) (g : Nat → Int32) : rd_n f 0 g = g := by
  funext j; exact if_neg (by omega)
theorem rd_n_4 (f : Nat → Nat) (g : Nat → Int32) : rd_n f 4 g = rd_4 f g := rfl
theorem rd_n_s {f : Nat → Nat} {g : Nat → Int32} {k x : Nat} (h : f k = x) : upd (rd_n f k g) k (nI x) = rd_n f (k + 1) g := by
  subst h
  funext j
  show (if j = k then nI (f k) else if j < k then nI (f j) else g j) = if j < k + 1 then nI (f j) else g j
  by_cases e : j = k
  · subst e; rw [if_pos rfl, if_pos (by omega)]
  · rw [if_neg e]
    by_cases l : j < k
    · rw [if_pos l, if_pos (by omega)]
    · rw [if_neg l, if_neg (by omega)]
theorem rd_upd2 (f : Nat → Int32) (k : Nat) (x y : Int32) : upd (upd f k x) k y = upd f k y := by
  funext j
  show (if j = k then y else if j = k then x else f j) = if j = k then y else f j
  by_cases e : j = k
  · rw [if_pos e, if_pos e]
  · rw [if_neg e, if_neg e, if_neg e]
theorem rd_up4 {f : Nat → Nat} {g : Nat → Int32} {k : Nat} (x : Nat) (hk : k < 4) : upd (rd_4 f g) k (nI x) = rd_4 (rd_u f k x) g := by
  funext j
  show (if j = k then nI x else if j < 4 then nI (f j) else g j) = if j < 4 then nI (if j = k then x else f j) else g j
  by_cases e : j = k
  · rw [if_pos e, if_pos e, if_pos (by omega)]
  · rw [if_neg e, if_neg e]
theorem rd_upn {f : Nat → Nat} {g : Nat → Int32} {k n : Nat} (x : Nat) (hk : k < n) : upd (rd_n f n g) k (nI x) = rd_n (rd_u f k x) n g := by
  funext j
  show (if j = k then nI x else if j < n then nI (f j) else g j) = if j < n then nI (if j = k then x else f j) else g j
  by_cases e : j = k
  · rw [if_pos e, if_pos e, if_pos (by omega)]
  · rw [if_neg e, if_neg e]
theorem rd_n_ext {f f' : Nat → Nat} {g : Nat → Int32} {n : Nat} (h : ∀ k, k < n → f k = f' k) : rd_n f n g = rd_n f' n g := by
  funext j
  show (if j < n then nI (f j) else g j) = if j < n then nI (f' j) else g j
  by_cases e : j < n
  · rw [if_pos e, if_pos e, h j e]
  · rw [if_neg e, if_neg e]
/-- the first and the second of those that are wanting -/
def rd_sp (b : Bool) (k : Nat) (p : Int32 × Int32) : Int32 × Int32 := if b = true then p else if 0 ≤ p.1 then (p.1, nI k) else (nI k, p.2)
def rd_fs (h : Nat → Bool) : Nat → Int32 × Int32
  | 0 => (-1, -1)
  | k + 1 => rd_sp (h k) k (rd_fs h k)
theorem rd_fs_c (h : Nat → Bool) (hl : rd_c (fun k => !h k) 6 ≤ 2) : (rd_fs h 4 = (-1, -1) ∧ ∀ k, k < 4 → h k = true) ∨ (∃ i, i < 4 ∧ rd_fs h 4 = (nI i, -1) ∧ (∀ k, k < 4 → h k = decide (k ≠ i)) ∧ (h 4 = false → h 5 = true)) ∨ (∃ i j, i < j ∧ j < 4 ∧ rd_fs h 4 = (nI i, nI j) ∧ (∀ k, k < 4 → h k = (decide (k ≠ i) && decide (k ≠ j))) ∧ h 4 = true ∧ h 5 = true) := by
  simp only [rd_c] at hl
  rw [show rd_fs h 4 = rd_sp (h 3) 3 (rd_sp (h 2) 2 (rd_sp (h 1) 1 (rd_sp (h 0) 0 (-1, -1)))) from rfl]
  have h45 : (h 4).toNat ≤ 1 ∧ (h 5).toNat ≤ 1 := ⟨Bool.toNat_le _, Bool.toNat_le _⟩
  have n4 : (!h 4).toNat = 1 - (h 4).toNat := by cases h 4 <;> rfl
  have n5 : (!h 5).toNat = 1 - (h 5).toNat := by cases h 5 <;> rfl
  rw [n4, n5] at hl
  have t4 : (h 4).toNat = 1 → h 4 = true := by cases h 4 <;> simp
  have t5 : (h 5).toNat = 1 → h 5 = true := by cases h 5 <;> simp
  have f4 : h 4 = false → (h 4).toNat = 0 := by intro e; rw [e]; rfl
  cases h0 : h 0 <;> cases h1 : h 1 <;> cases h2 : h 2 <;> cases h3 : h 3 <;> rw [h0, h1, h2, h3] at hl <;> simp only [Bool.not_true, Bool.not_false, Bool.toNat_true, Bool.toNat_false] at hl
  · omega
  · omega
  · omega
  · exact Or.inr (Or.inr ⟨0, 1, by decide, by decide, by decide, fun k hk => co_4 (P := fun k => h k = (decide (k ≠ 0) && decide (k ≠ 1))) h0 h1 h2 h3 hk, t4 (by omega), t5 (by omega)⟩)
  · omega
  · exact Or.inr (Or.inr ⟨0, 2, by decide, by decide, by decide, fun k hk => co_4 (P := fun k => h k = (decide (k ≠ 0) && decide (k ≠ 2))) h0 h1 h2 h3 hk, t4 (by omega), t5 (by omega)⟩)
  · exact Or.inr (Or.inr ⟨0, 3, by decide, by decide, by decide, fun k hk => co_4 (P := fun k => h k = (decide (k ≠ 0) && decide (k ≠ 3))) h0 h1 h2 h3 hk, t4 (by omega), t5 (by omega)⟩)
  · exact Or.inr (Or.inl ⟨0, by decide, by decide, fun k hk => co_4 (P := fun k => h k = decide (k ≠ 0)) h0 h1 h2 h3 hk, fun e => t5 (by have := f4 e; omega)⟩)
  · omega
  · exact Or.inr (Or.inr ⟨1, 2, by decide, by decide, by decide, fun k hk => co_4 (P := fun k => h k = (decide (k ≠ 1) && decide (k ≠ 2))) h0 h1 h2 h3 hk, t4 (by omega), t5 (by omega)⟩)
  · exact Or.inr (Or.inr ⟨1, 3, by decide, by decide, by decide, fun k hk => co_4 (P := fun k => h k = (decide (k ≠ 1) && decide (k ≠ 3))) h0 h1 h2 h3 hk, t4 (by omega), t5 (by omega)⟩)
  · exact Or.inr (Or.inl ⟨1, by decide, by decide, fun k hk => co_4 (P := fun k => h k = decide (k ≠ 1)) h0 h1 h2 h3 hk, fun e => t5 (by have := f4 e; omega)⟩)
  · exact Or.inr (Or.inr ⟨2, 3, by decide, by decide, by decide, fun k hk => co_4 (P := fun k => h k = (decide (k ≠ 2) && decide (k ≠ 3))) h0 h1 h2 h3 hk, t4 (by omega), t5 (by omega)⟩)
  · exact Or.inr (Or.inl ⟨2, by decide, by decide, fun k hk => co_4 (P := fun k => h k = decide (k ≠ 2)) h0 h1 h2 h3 hk, fun e => t5 (by have := f4 e; omega)⟩)
  · exact Or.inr (Or.inl ⟨3, by decide, by decide, fun k hk => co_4 (P := fun k => h k = decide (k ≠ 3)) h0 h1 h2 h3 hk, fun e => t5 (by have := f4 e; omega)⟩)
  · exact Or.inl ⟨by decide, fun k hk => co_4 (P := fun k => h k = true) h0 h1 h2 h3 hk⟩
def rd_dt (HE MK B : Nat → Nat) (s : Nat) : Nat → Nat := fun k => if rd_hs HE MK s k = true then B (rd_cel s k) else 0
def rd_pp (HE MK B : Nat → Nat) (s : Nat) : Nat := B (rd_cel s 4) ^^^ rd_sz (rd_dt HE MK B s) 4
def rd_qq (HE MK B : Nat → Nat) (s : Nat) : Nat := B (rd_cel s 5) ^^^ rd_wz (rd_dt HE MK B s) 4
def rd_w1 (HE MK B : Nat → Nat) (s i : Nat) : Nat := if rd_hs HE MK s 4 = true then rd_pp HE MK B s else rd_q (rd_qq HE MK B s) i
def rd_w2 (HE MK B : Nat → Nat) (s i j : Nat) : Nat := rd_q (rd_qq HE MK B s ^^^ rd_m j (rd_pp HE MK B s)) (rd_lg (rd_ff i j))
def rd_wv (HE MK B : Nat → Nat) (s : Nat) : Nat → Nat :=
  if (rd_fs (rd_hs HE MK s) 4).1 < 0 then rd_dt HE MK B s
  else if (rd_fs (rd_hs HE MK s) 4).2 < 0 then rd_u (rd_dt HE MK B s) (rd_fs (rd_hs HE MK s) 4).1.toNatClampNeg (rd_w1 HE MK B s (rd_fs (rd_hs HE MK s) 4).1.toNatClampNeg)
  else rd_u (rd_u (rd_dt HE MK B s) (rd_fs (rd_hs HE MK s) 4).1.toNatClampNeg (rd_w2 HE MK B s (rd_fs (rd_hs HE MK s) 4).1.toNatClampNeg (rd_fs (rd_hs HE MK s) 4).2.toNatClampNeg)) (rd_fs (rd_hs HE MK s) 4).2.toNatClampNeg (rd_pp HE MK B s ^^^ rd_w2 HE MK B s (rd_fs (rd_hs HE MK s) 4).1.toNatClampNeg (rd_fs (rd_hs HE MK s) 4).2.toNatClampNeg)
section
variable {HE MK B : Nat → Nat} {s : Nat}
theorem rd_wv_0 (h : rd_fs (rd_hs HE MK s) 4 = (-1, -1)) : rd_wv HE MK B s = rd_dt HE MK B s := by
  unfold rd_wv; rw [h]; exact if_pos (by decide)
theorem rd_wv_1 {i : Nat} (hi : i < 4) (h : rd_fs (rd_hs HE MK s) 4 = (nI i, -1)) : rd_wv HE MK B s = rd_u (rd_dt HE MK B s) i (rd_w1 HE MK B s i) := by
  unfold rd_wv; rw [h]
  dsimp only
  rw [if_neg (nI_pos (by omega)), if_pos (by decide), nI_clamp (by omega)]
theorem rd_wv_2 {i j : Nat} (hi : i < 4) (hj : j < 4) (h : rd_fs (rd_hs HE MK s) 4 = (nI i, nI j)) : rd_wv HE MK B s = rd_u (rd_u (rd_dt HE MK B s) i (rd_w2 HE MK B s i j)) j (rd_pp HE MK B s ^^^ rd_w2 HE MK B s i j) := by
  unfold rd_wv; rw [h]
  dsimp only
  rw [if_neg (nI_pos (by omega)), if_neg (nI_pos (by omega)), nI_clamp (by omega), nI_clamp (by omega)]
theorem rd_dt_lt (hB : ∀ j, B j < 256) (k : Nat) : rd_dt HE MK B s k < 256 := by
  unfold rd_dt; split
  · exact hB _
  · decide
theorem rd_dt_t {k : Nat} (h : rd_hs HE MK s k = true) : rd_dt HE MK B s k = B (rd_cel s k) := if_pos h
theorem rd_dt_f {k : Nat} (h : rd_hs HE MK s k = false) : rd_dt HE MK B s k = 0 := if_neg (by rw [h]; decide)
theorem rd_sz_lt {f : Nat → Nat} (hf : ∀ k, f k < 256) : ∀ n, rd_sz f n < 256
  | 0 => show 0 < 256 by decide
  | n + 1 => rd_xl (rd_sz_lt hf n) (hf n)
theorem rd_wz_lt {f : Nat → Nat} (hf : ∀ k, f k < 256) : ∀ n, rd_wz f n < 256
  | 0 => show 0 < 256 by decide
  | n + 1 => rd_xl (rd_wz_lt hf n) (rd_m_l (hf n) n)
theorem rd_pp_lt (hB : ∀ j, B j < 256) : rd_pp HE MK B s < 256 := rd_xl (hB _) (rd_sz_lt (rd_dt_lt hB) 4)
theorem rd_qq_lt (hB : ∀ j, B j < 256) : rd_qq HE MK B s < 256 := rd_xl (hB _) (rd_wz_lt (rd_dt_lt hB) 4)
theorem rd_w1_lt {i : Nat} (hB : ∀ j, B j < 256) : rd_w1 HE MK B s i < 256 := by
  unfold rd_w1; split
  · exact rd_pp_lt hB
  · exact rd_q_lt
theorem rd_u_lt {f : Nat → Nat} {k x : Nat} (hf : ∀ k, f k < 256) (hx : x < 256) (j : Nat) : rd_u f k x j < 256 := by
  unfold rd_u; split
  · exact hx
  · exact hf j
theorem rd_wv_lt (hB : ∀ j, B j < 256) (k : Nat) : rd_wv HE MK B s k < 256 := by
  unfold rd_wv
  split
  · exact rd_dt_lt hB k
  · split
    · exact rd_u_lt (rd_dt_lt hB) (rd_w1_lt hB) k
    · exact rd_u_lt (rd_u_lt (rd_dt_lt hB) rd_q_lt) (rd_xl (rd_pp_lt hB) rd_q_lt) k
theorem rd_ls_le (h : rd_ls HE MK s = false) : rd_c (fun k => !rd_hs HE MK s k) 6 ≤ 2 := by
  have := of_decide_eq_false h
  omega
end
/-! X: gather -/
section
variable {f_volumes : Int32} {f_free : Int64} {f_shared : Int32} {f_crashAfter : Int32} {f_next : Int32} {f_bad : Int32} {f_down : Int32} {f_noteMap : Int32} {f_noteBlock : Int32} {f_noteData : Int32} {f_noteP : Int32} {f_noteQ : Int32} {f_waiting : Int32} {f_delay : Int32} {a_disk : Nat → Int32} {a_health : Nat → Int32} {a_mark : Nat → Int32} {a_there : Nat → Int32} {a_power : Nat → Int32} {a_place : Nat → Int32} {a_map : Nat → Int32} {a_uses : Nat → Int32} {a_data : Nat → Int32} {a_waitMap : Nat → Int32} {a_waitValue : Nat → Int32}
variable {HE MK B : Nat → Nat} {s : Nat}
theorem rd_x_both {post : SX → Prop} {f : Nat → Nat} {g : Nat → Int32} {i j p q : Nat} (hij : i < j) (hj : j < 4) (hp : p < 256) (hq : q < 256) (H : post (f_volumes, f_free, f_shared, f_crashAfter, f_next, f_bad, f_down, f_noteMap, f_noteBlock, f_noteData, f_noteP, f_noteQ, f_waiting, f_delay, a_disk, a_health, a_mark, a_there, rd_PW, rd_PL, a_map, a_uses, rd_4 (rd_u (rd_u f i (rd_q (q ^^^ rd_m j p) (rd_lg (rd_ff i j)))) j (p ^^^ rd_q (q ^^^ rd_m j p) (rd_lg (rd_ff i j)))) g, a_waitMap, a_waitValue)) : wpX_both post (f_volumes, f_free, f_shared, f_crashAfter, f_next, f_bad, f_down, f_noteMap, f_noteBlock, f_noteData, f_noteP, f_noteQ, f_waiting, f_delay, a_disk, a_health, a_mark, a_there, rd_PW, rd_PL, a_map, a_uses, rd_4 f g, a_waitMap, a_waitValue) (nI i) (nI j) (nI p) (nI q) := by
  unfold wpX_both
  dsimp only
  obtain ⟨f1, f2, f3⟩ := rd_ff_r i (by omega) j hj hij
  refine ⟨vp_in_nI (by omega) (by omega), vp_in_nI (by omega) (by omega), nm_r (e' := nI (rd_ff i j)) ?_ ?_⟩
  · rw [nI_clamp (by omega), nI_clamp (by omega), rd_PWv (by omega), rd_PWv (by omega), Nat.mod_eq_of_lt (show i < 255 by omega), Nat.mod_eq_of_lt (show j < 255 by omega), nx_xor]
    rfl
  · refine rd_x_prod hj hp ?_
    refine nm_r (nx_xor q (rd_m j p)) ⟨vp_in_nI f2 (by omega), ?_⟩
    rw [nI_clamp (n := rd_ff i j) (by omega), rd_PLv f1 f2]
    refine rd_x_quot (rd_xl hq (rd_m_l hp j)) f3 ?_
    refine ⟨vp_in_nI (by omega) (by omega), ?_⟩
    rw [nI_clamp (by omega), nI_clamp (by omega), rd_up4 _ (by omega)]
    refine nm_e ⟨vp_in_nI (by omega) (by omega), vp_in_nI hj (by omega), ?_⟩
    rw [rd_4v (by omega), rd_us, nx_xor, rd_up4 _ hj]
    exact nm_e H
theorem rd_x_g13 {post : SX → Prop} {DA : Nat → Int32} (hB : ∀ j, B j < 256) (hs : s < 16) (HX : ∀ n, wX_gather_13 post (nI s) f_volumes f_free f_shared f_crashAfter f_next f_bad f_down f_noteMap f_noteBlock f_noteData f_noteP f_noteQ f_waiting f_delay (n + 1) (nI (rd_sz (rd_dt HE MK B s) 4)) (nI (rd_wz (rd_dt HE MK B s) 4)) (rd_fs (rd_hs HE MK s) 4).1 (rd_fs (rd_hs HE MK s) 4).2 (nI 4) (rd_bF B) a_health a_mark (rd_th HE MK) rd_PW rd_PL a_map a_uses (rd_n (rd_dt HE MK B s) 4 DA) a_waitMap a_waitValue) : ∀ (d k n : Nat) (D : Nat → Int32), k + d = 4 → d < n → D = rd_n (rd_dt HE MK B s) k DA → wX_gather_13 post (nI s) f_volumes f_free f_shared f_crashAfter f_next f_bad f_down f_noteMap f_noteBlock f_noteData f_noteP f_noteQ f_waiting f_delay n (nI (rd_sz (rd_dt HE MK B s) k)) (nI (rd_wz (rd_dt HE MK B s) k)) (rd_fs (rd_hs HE MK s) k).1 (rd_fs (rd_hs HE MK s) k).2 (nI k) (rd_bF B) a_health a_mark (rd_th HE MK) rd_PW rd_PL a_map a_uses D a_waitMap a_waitValue
  | _, _, 0, _, _, h, _ => by omega
  | 0, k, n + 1, D, h, _, hD => by
    have : k = 4 := by omega
    subst this
    subst hD
    exact HX n
  | d + 1, k, n + 1, D, h, hn, hD => by
    subst hD
    have ih := rd_x_g13 hB hs HX d (k + 1) n _ (by omega) (by omega) rfl
    have hk : k < 4 := by omega
    have hi : vp_in (nI k) 4 := vp_in_nI hk (by omega)
    unfold wX_gather_13
    refine pk_le 4 k (fun z => by omega) (fun z => ⟨hi, ?_⟩)
    rw [nI_clamp (by omega)]
    refine nm_e ?_
    refine rd_x_has hs (by omega) ?_
    refine rd_brb _ rfl (fun e => ?_) (fun e => ?_)
    · have d0 : rd_dt HE MK B s k = 0 := rd_dt_f e
      have e1 : rd_sz (rd_dt HE MK B s) (k + 1) = rd_sz (rd_dt HE MK B s) k := by
        show rd_sz _ k ^^^ rd_dt HE MK B s k = _
        rw [d0, Nat.xor_zero]
      have e2 : rd_wz (rd_dt HE MK B s) (k + 1) = rd_wz (rd_dt HE MK B s) k := by
        show rd_wz _ k ^^^ rd_m k (rd_dt HE MK B s k) = _
        rw [d0, rd_m_0 k hk, Nat.xor_zero]
      have e3 : upd (rd_n (rd_dt HE MK B s) k DA) k 0 = rd_n (rd_dt HE MK B s) (k + 1) DA := rd_n_s d0
      rw [e1, e2] at ih
      rw [e3]
      refine br_c (fun y => nm_r (nI_1 k) ?_) (fun y => nm_r (nI_1 k) ?_)
      · have e4 : rd_fs (rd_hs HE MK s) (k + 1) = ((rd_fs (rd_hs HE MK s) k).1, nI k) := by
          show (if rd_hs HE MK s k = true then rd_fs (rd_hs HE MK s) k else _) = _
          rw [if_neg (by rw [e]; decide), if_pos y]
        rw [e4] at ih
        exact ih
      · have e4 : rd_fs (rd_hs HE MK s) (k + 1) = (nI k, (rd_fs (rd_hs HE MK s) k).2) := by
          show (if rd_hs HE MK s k = true then rd_fs (rd_hs HE MK s) k else _) = _
          rw [if_neg (by rw [e]; decide), if_neg y]
        rw [e4] at ih
        exact ih
    · have d0 : rd_dt HE MK B s k = B (rd_cel s k) := rd_dt_t e
      have e4 : rd_fs (rd_hs HE MK s) (k + 1) = rd_fs (rd_hs HE MK s) k := by
        show (if rd_hs HE MK s k = true then rd_fs (rd_hs HE MK s) k else _) = _
        rw [if_pos e]
      rw [e4] at ih
      refine rd_x_at hB hs (by omega) ?_
      refine ⟨hi, ?_⟩
      rw [rd_upd2, rd_n_s d0]
      refine nm_e ⟨hi, ?_⟩
      rw [rd_nv (show k < k + 1 by omega)]
      refine nm_r (nx_xor _ _) ⟨hi, ?_⟩
      refine rd_x_prod hk (rd_dt_lt hB k) ?_
      refine nm_r (nx_xor _ _) (nm_r (nI_1 k) ?_)
      exact ih
theorem rd_x_gather {post : SX → Prop} (hB : ∀ j, B j < 256) (hs : s < 16) (hl : rd_ls HE MK s = false) (hp : post (f_volumes, f_free, f_shared, f_crashAfter, f_next, f_bad, f_down, f_noteMap, f_noteBlock, f_noteData, f_noteP, f_noteQ, f_waiting, f_delay, rd_bF B, a_health, a_mark, rd_th HE MK, rd_PW, rd_PL, a_map, a_uses, rd_4 (rd_wv HE MK B s) a_data, a_waitMap, a_waitValue)) : wpX_gather post (f_volumes, f_free, f_shared, f_crashAfter, f_next, f_bad, f_down, f_noteMap, f_noteBlock, f_noteData, f_noteP, f_noteQ, f_waiting, f_delay, rd_bF B, a_health, a_mark, rd_th HE MK, rd_PW, rd_PL, a_map, a_uses, a_data, a_waitMap, a_waitValue) (nI s) := by
  unfold wpX_gather
  dsimp only
  refine ⟨5, rd_x_g13 (DA := a_data) hB hs ?_ 4 0 5 a_data rfl (by decide) (rd_n0 _ _).symm⟩
  · intro n
    unfold wX_gather_13
    refine br_t (by decide) ?_
    rw [rd_n_4]
    rcases rd_fs_c (rd_hs HE MK s) (rd_ls_le hl) with ⟨e, _⟩ | ⟨i, hi, e, _, h45⟩ | ⟨i, j, hij, hj, e, _, h4, h5⟩
    · rw [rd_wv_0 e] at hp
      rw [e]
      exact br_f (by decide) hp
    · rw [rd_wv_1 hi e] at hp
      rw [e]
      have hv : vp_in (nI i) 4 := vp_in_nI hi (by omega)
      refine br_t (nI_pos' (by omega)) (rd_x_at hB hs (by decide) (nm_r (nx_xor _ _) (rd_x_at hB hs (by decide) (nm_r (nx_xor _ _) (br_t (show (-1 : Int32) < 0 by decide) ?_)))))
      refine rd_x_has hs (by decide) (rd_brb _ rfl (fun z => ?_) (fun z => ⟨hv, ?_⟩))
      · refine rd_x_quot (rd_qq_lt (HE := HE) (MK := MK) (s := s) hB) (by omega) ⟨hv, ?_⟩
        rw [nI_clamp (by omega), rd_up4 _ hi]
        have : rd_w1 HE MK B s i = rd_q (rd_qq HE MK B s) i := if_neg (by rw [z]; decide)
        rw [this] at hp
        exact nm_e hp
      · rw [nI_clamp (by omega), rd_up4 _ hi]
        have : rd_w1 HE MK B s i = rd_pp HE MK B s := if_pos z
        rw [this] at hp
        exact nm_e hp
    · rw [rd_wv_2 (by omega) hj e] at hp
      rw [e]
      refine br_t (nI_pos' (by omega)) (rd_x_at hB hs (by decide) (nm_r (nx_xor _ _) (rd_x_at hB hs (by decide) (nm_r (nx_xor _ _) (br_f (nI_pos (by omega)) ?_)))))
      exact rd_x_both hij hj (rd_pp_lt (HE := HE) (MK := MK) (s := s) hB) (rd_qq_lt (HE := HE) (MK := MK) (s := s) hB) hp
end
end
section
/-! Y: weigh finds the same worths by trying -/
theorem rd_xc {a x p : Nat} : a ^^^ x = p ↔ x = p ^^^ a := by
  constructor
  · intro h; subst h; rw [Nat.xor_comm a x, Nat.xor_assoc, Nat.xor_self, Nat.xor_zero]
  · intro h; subst h; rw [Nat.xor_comm p a, ← Nat.xor_assoc, Nat.xor_self, Nat.zero_xor]
theorem rd_sz_e {f g : Nat → Nat} : ∀ {n : Nat}, (∀ k, k < n → f k = g k) → rd_sz f n = rd_sz g n
  | 0, _ => rfl
  | n + 1, h => by
    simp only [rd_sz]
    rw [rd_sz_e (n := n) (fun i hi => h i (by omega)), h n (by omega)]
theorem rd_wz_e {f g : Nat → Nat} : ∀ {n : Nat}, (∀ k, k < n → f k = g k) → rd_wz f n = rd_wz g n
  | 0, _ => rfl
  | n + 1, h => by
    simp only [rd_wz]
    rw [rd_wz_e (n := n) (fun i hi => h i (by omega)), h n (by omega)]
theorem rd_sz_u {f : Nat → Nat} {i x : Nat} (h0 : f i = 0) : ∀ n, i < n → rd_sz (rd_u f i x) n = rd_sz f n ^^^ x
  | 0, h => by omega
  | n + 1, h => by
    simp only [rd_sz]
    by_cases e : i = n
    · subst e
      rw [rd_us, h0, Nat.xor_zero, rd_sz_e (f := rd_u f i x) (g := f) (fun k hk => rd_un (by omega))]
    · rw [rd_un (fun z => e z.symm), rd_sz_u h0 n (by omega), Nat.xor_assoc, Nat.xor_comm x, ← Nat.xor_assoc]
theorem rd_wz_u {f : Nat → Nat} {i x : Nat} (hi : i < 4) (h0 : f i = 0) : ∀ n, i < n → rd_wz (rd_u f i x) n = rd_wz f n ^^^ rd_m i x
  | 0, h => by omega
  | n + 1, h => by
    simp only [rd_wz]
    by_cases e : i = n
    · subst e
      rw [rd_us, h0, rd_m_0 i hi, Nat.xor_zero, rd_wz_e (f := rd_u f i x) (g := f) (fun k hk => rd_un (by omega))]
    · rw [rd_un (fun z => e z.symm), rd_wz_u hi h0 n (by omega), Nat.xor_assoc, Nat.xor_comm (rd_m i x), ← Nat.xor_assoc]
section
variable {HE MK B : Nat → Nat} {s : Nat}
theorem rd_c1p {i x : Nat} (hi : i < 4) (h : rd_hs HE MK s i = false) (h4 : rd_hs HE MK s 4 = true) : rd_sz (rd_u (rd_dt HE MK B s) i x) 4 = rd_dt HE MK B s 4 ↔ x = rd_w1 HE MK B s i := by
  rw [rd_sz_u (rd_dt_f h) 4 hi, rd_dt_t h4, rd_xc, show rd_w1 HE MK B s i = rd_pp HE MK B s from if_pos h4]
  rfl
theorem rd_c1q {i x : Nat} (hB : ∀ j, B j < 256) (hi : i < 4) (hx : x < 256) (h : rd_hs HE MK s i = false) (h4 : rd_hs HE MK s 4 = false) (h5 : rd_hs HE MK s 5 = true) : rd_wz (rd_u (rd_dt HE MK B s) i x) 4 = rd_dt HE MK B s 5 ↔ x = rd_w1 HE MK B s i := by
  rw [rd_wz_u hi (rd_dt_f h) 4 hi, rd_dt_t h5, rd_xc, show rd_w1 HE MK B s i = rd_q (rd_qq HE MK B s) i from if_neg (by rw [h4]; decide)]
  show rd_m i x = rd_qq HE MK B s ↔ _
  constructor
  · intro e; rw [← e]; exact (rd_q_m i hi x hx).1.symm
  · intro e; rw [e]; exact (rd_q_m i hi _ (rd_qq_lt hB)).2
theorem rd_c2 {i j x : Nat} (hB : ∀ j, B j < 256) (hij : i < j) (hj : j < 4) (hx : x < 256) (h : rd_hs HE MK s i = false) (h' : rd_hs HE MK s j = false) (h5 : rd_hs HE MK s 5 = true) : rd_wz (rd_u (rd_u (rd_dt HE MK B s) i x) j (rd_pp HE MK B s ^^^ x)) 4 = rd_dt HE MK B s 5 ↔ x = rd_w2 HE MK B s i j := by
  have hi : i < 4 := by omega
  have hp := rd_pp_lt (HE := HE) (MK := MK) (s := s) hB
  rw [rd_wz_u hj (by rw [rd_un (by omega)]; exact rd_dt_f h') 4 hj, rd_wz_u hi (rd_dt_f h) 4 hi, rd_dt_t h5, rd_m_x hp hx j]
  have e : rd_wz (rd_dt HE MK B s) 4 ^^^ rd_m i x ^^^ (rd_m j (rd_pp HE MK B s) ^^^ rd_m j x) = (rd_wz (rd_dt HE MK B s) 4 ^^^ rd_m j (rd_pp HE MK B s)) ^^^ (rd_m i x ^^^ rd_m j x) := by
    rw [Nat.xor_assoc, Nat.xor_assoc, ← Nat.xor_assoc (rd_m i x), Nat.xor_comm (rd_m i x), Nat.xor_assoc]
  rw [e, rd_xc, ← Nat.xor_assoc]
  show rd_m i x ^^^ rd_m j x = rd_qq HE MK B s ^^^ rd_m j (rd_pp HE MK B s) ↔ _
  constructor
  · intro e; unfold rd_w2; rw [← e]; exact (rd_ff_q i hi j hj hij x hx).1.symm
  · intro e; rw [e]; exact (rd_ff_q i hi j hj hij _ (rd_xl (rd_qq_lt hB) (rd_m_l hp j))).2
theorem rd_y2 {i j x : Nat} (hi : i < 4) (h : rd_hs HE MK s i = false) (h4 : rd_hs HE MK s 4 = true) : rd_sz (rd_u (rd_dt HE MK B s) i x) 4 ^^^ rd_dt HE MK B s 4 = rd_pp HE MK B s ^^^ x := by
  rw [rd_sz_u (rd_dt_f h) 4 hi, rd_dt_t h4]
  unfold rd_pp
  rw [Nat.xor_comm, ← Nat.xor_assoc]
end
def rd_F6 (HE MK B : Nat → Nat) (s : Nat) (f : Nat → Nat) : Nat → Nat := fun k => if k < 4 then f k else if k = 4 then (if rd_hs HE MK s 4 = true then B (rd_cel s 4) else rd_sz f 4) else (if rd_hs HE MK s 5 = true then B (rd_cel s 5) else rd_wz f 4)
section
variable {f_delay : Int32} {f_crash : Int32} {f_cursor : Int32} {f_bad : Int32} {f_down : Int32} {f_waiting : Int32} {f_noteBlock : Int32} {f_noteFor : Int32} {a_bytes : Nat → Int32} {a_health : Nat → Int32} {a_mark : Nat → Int32} {a_there : Nat → Int32} {a_on : Nat → Int32} {a_waitsFor : Nat → Int32} {a_waits : Nat → Int32} {a_note : Nat → Int32} {a_worth : Nat → Int32}
variable {HE MK B : Nat → Nat} {s : Nat}
theorem rd_y_w262 {post : SY → Prop} {b : Bool} {F : Nat → Nat} {WO : Nat → Int32} (hF : ∀ k, F k < 256) (hp : post (f_delay, f_crash, f_cursor, f_bad, f_down, f_waiting, f_noteBlock, f_noteFor, a_bytes, a_health, a_mark, a_there, a_on, a_waitsFor, a_waits, a_note, rd_n (if b = true then F else rd_u F 5 (rd_wz F 4)) 6 WO)) : wY_weigh_262 post (rd_b b) f_delay f_crash f_cursor f_bad f_down f_waiting f_noteBlock f_noteFor a_bytes a_health a_mark a_there a_on a_waitsFor a_waits a_note (rd_n F 6 WO) := by
  unfold wY_weigh_262
  refine rd_brb b rfl (fun h => ?_) (fun h => ?_)
  · refine rd_y_sop F (fun k _ => hF k) (fun k hk => rd_nv (by omega)) ?_
    refine nm_r (rd_upn _ (by decide)) ?_
    rw [if_neg (by rw [h]; decide)] at hp
    exact hp
  · rw [if_pos h] at hp; exact hp
theorem rd_y_w247 {post : SY → Prop} {b c : Bool} {F : Nat → Nat} {WO : Nat → Int32} (hF : ∀ k, F k < 256) (hp : ∀ G : Nat → Nat, (∀ k, k < 4 → G k = F k) → (G 4 = if b = true then F 4 else rd_sz F 4) → (G 5 = if c = true then F 5 else rd_wz F 4) → post (f_delay, f_crash, f_cursor, f_bad, f_down, f_waiting, f_noteBlock, f_noteFor, a_bytes, a_health, a_mark, a_there, a_on, a_waitsFor, a_waits, a_note, rd_n G 6 WO)) : wY_weigh_247 post (rd_b b) (rd_b c) f_delay f_crash f_cursor f_bad f_down f_waiting f_noteBlock f_noteFor a_bytes a_health a_mark a_there a_on a_waitsFor a_waits a_note (rd_n F 6 WO) := by
  unfold wY_weigh_247
  refine rd_brb b rfl (fun h => ?_) (fun h => ?_)
  · refine rd_y_sum F (fun k hk => rd_nv (by omega)) ?_
    refine nm_r (rd_upn _ (by decide)) ?_
    refine rd_y_w262 (rd_u_lt hF (rd_sz_lt hF 4)) (hp _ ?_ ?_ ?_)
    · intro k hk
      split
      · exact rd_un (by omega)
      · rw [rd_un (by omega), rd_un (by omega)]
    · rw [if_neg (c := b = true) (by rw [h]; decide)]
      split
      · exact rd_us
      · rw [rd_un (by omega), rd_us]
    · split
      · exact rd_un (by omega)
      · rw [rd_us]
        exact rd_wz_e (fun k hk => rd_un (by omega))
  · refine rd_y_w262 hF (hp _ ?_ ?_ ?_)
    · intro k hk
      split
      · rfl
      · exact rd_un (by omega)
    · rw [if_pos h]
      split
      · rfl
      · exact rd_un (by omega)
    · split
      · rfl
      · exact rd_us
theorem rd_y_wdone {post : SY → Prop} {x2 x3 x4 x5 x7 : Int32} {n : Nat} (h : wY_weigh_247 post x4 x5 f_delay f_crash f_cursor f_bad f_down f_waiting f_noteBlock f_noteFor a_bytes a_health a_mark a_there a_on a_waitsFor a_waits a_note a_worth) : wY_weigh_123 post x2 x3 x4 x5 f_delay f_crash f_cursor f_bad f_down f_waiting f_noteBlock f_noteFor (n + 1) 1 x7 a_bytes a_health a_mark a_there a_on a_waitsFor a_waits a_note a_worth := by
  unfold wY_weigh_123
  exact br_c (fun _ => h) (fun _ => br_f (by decide) h)
theorem rd_gi {g WO : Nat → Int32} {f : Nat → Nat} {i : Nat} (x : Nat) (hi : i < 6) (hg : ∀ k, k ≠ i → g k = rd_n f 6 WO k) : upd g i (nI x) = rd_n (rd_u f i x) 6 WO := by
  rw [← rd_upn x hi]
  funext j
  show (if j = i then nI x else g j) = if j = i then nI x else rd_n f 6 WO j
  by_cases e : j = i
  · rw [if_pos e, if_pos e]
  · rw [if_neg e, if_neg e, hg j e]
theorem rd_gij {g WO : Nat → Int32} {f : Nat → Nat} {i j : Nat} (x : Nat) (hi : i < 6) (hj : j < 6) (hij : i < j) (h0 : f j = 0) (hg : ∀ k, k ≠ i → k ≠ j → g k = rd_n f 6 WO k) : upd (upd g i (nI x)) j 0 = rd_n (rd_u f i x) 6 WO := by
  rw [← rd_upn x hi]
  funext k
  show (if k = j then 0 else if k = i then nI x else g k) = if k = i then nI x else rd_n f 6 WO k
  by_cases e : k = j
  · subst e
    rw [if_pos rfl, if_neg (by omega), rd_nv hj, h0]; rfl
  · rw [if_neg e]
    by_cases d : k = i
    · rw [if_pos d, if_pos d]
    · rw [if_neg d, if_neg d, hg k d e]
theorem rd_y_w1 {post : SY → Prop} {i v : Nat} {WO : Nat → Int32} (hB : ∀ j, B j < 256) (hi : i < 4) (h : rd_hs HE MK s i = false) (h45 : rd_hs HE MK s 4 = false → rd_hs HE MK s 5 = true) (hv : v = rd_w1 HE MK B s i) (HX : wY_weigh_247 post (rd_b (rd_hs HE MK s 4)) (rd_b (rd_hs HE MK s 5)) f_delay f_crash f_cursor f_bad f_down f_waiting f_noteBlock f_noteFor a_bytes a_health a_mark a_there a_on a_waitsFor a_waits a_note (rd_n (rd_u (rd_dt HE MK B s) i v) 6 WO)) : ∀ (d x n : Nat) (g : Nat → Int32), x + d = v → d + 1 < n → (∀ k, k ≠ i → g k = rd_n (rd_dt HE MK B s) 6 WO k) → wY_weigh_123 post (nI i) (-1) (rd_b (rd_hs HE MK s 4)) (rd_b (rd_hs HE MK s 5)) f_delay f_crash f_cursor f_bad f_down f_waiting f_noteBlock f_noteFor n 0 (nI x) a_bytes a_health a_mark a_there a_on a_waitsFor a_waits a_note g
  | _, _, 0, _, _, h, _ => by omega
  | _, _, 1, _, _, h, _ => by omega
  | d, x, n + 2, g, hx, hn, hg => by
    have hv' : v < 256 := by rw [hv]; exact rd_w1_lt hB
    have hx' : x < 256 := by omega
    have hF := rd_u_lt (f := rd_dt HE MK B s) (k := i) (x := x) (rd_dt_lt hB) hx'
    have step : ∀ y, x ≠ v → y = nI (x + 1) → wY_weigh_123 post (nI i) (-1) (rd_b (rd_hs HE MK s 4)) (rd_b (rd_hs HE MK s 5)) f_delay f_crash f_cursor f_bad f_down f_waiting f_noteBlock f_noteFor (n + 1) 0 y a_bytes a_health a_mark a_there a_on a_waitsFor a_waits a_note (rd_n (rd_u (rd_dt HE MK B s) i x) 6 WO) := by
      intro y hy e
      subst e
      match d, hx, hn with
      | 0, hx, _ => exact absurd hx hy
      | d + 1, hx, hn =>
        refine rd_y_w1 hB hi h h45 hv HX d (x + 1) (n + 1) _ (by omega) (by omega) (fun k hk => ?_)
        rw [← rd_upn x (by omega)]
        exact pk_un hk
    unfold wY_weigh_123
    refine pk_le 256 x (fun z => by omega) (fun z => br_t rfl ⟨vp_in_nI (by omega) (by omega), ?_⟩)
    rw [nI_clamp (by omega), rd_gi x (by omega) hg]
    refine nm_e (br_t (by decide) (rd_brb (rd_hs HE MK s 4) rfl (fun h4 => ?_) (fun h4 => ?_)))
    · refine rd_y_sop (rd_u (rd_dt HE MK B s) i x) (fun k _ => hF k) (fun k hk => rd_nv (by omega)) ?_
      rw [rd_nv (by decide), rd_un (by omega)]
      have hc := rd_c1q (x := x) hB hi hx' h h4 (h45 h4)
      have hw := rd_wz_lt hF 4
      have hd := rd_dt_lt (HE := HE) (MK := MK) (s := s) hB 5
      refine pk_eq _ _ (fun e => nm_r (nI_1 x) ?_) (fun e => nm_r (nI_1 x) ?_)
      · have e' := hc.mp e
        rw [← hv] at e'
        subst e'
        exact rd_y_wdone HX
      · exact step _ (fun q => e (hc.mpr (by rw [← hv]; exact q))) rfl
    · refine rd_y_sum (rd_u (rd_dt HE MK B s) i x) (fun k hk => rd_nv (by omega)) ?_
      rw [rd_nv (by decide), rd_un (by omega)]
      have hc := rd_c1p (B := B) (x := x) hi h h4
      have hw := rd_sz_lt hF 4
      have hd := rd_dt_lt (HE := HE) (MK := MK) (s := s) hB 4
      refine pk_eq _ _ (fun e => nm_r (nI_1 x) ?_) (fun e => nm_r (nI_1 x) ?_)
      · have e' := hc.mp e
        rw [← hv] at e'
        subst e'
        exact rd_y_wdone HX
      · exact step _ (fun q => e (hc.mpr (by rw [← hv]; exact q))) rfl
theorem rd_y_w2 {post : SY → Prop} {i j v : Nat} {WO : Nat → Int32} (hB : ∀ j, B j < 256) (hij : i < j) (hj : j < 4) (h : rd_hs HE MK s i = false) (h' : rd_hs HE MK s j = false) (h4 : rd_hs HE MK s 4 = true) (h5 : rd_hs HE MK s 5 = true) (hv : v = rd_w2 HE MK B s i j) (HX : wY_weigh_247 post (rd_b (rd_hs HE MK s 4)) (rd_b (rd_hs HE MK s 5)) f_delay f_crash f_cursor f_bad f_down f_waiting f_noteBlock f_noteFor a_bytes a_health a_mark a_there a_on a_waitsFor a_waits a_note (rd_n (rd_u (rd_u (rd_dt HE MK B s) i v) j (rd_pp HE MK B s ^^^ v)) 6 WO)) : ∀ (d x n : Nat) (g : Nat → Int32), x + d = v → d + 1 < n → (∀ k, k ≠ i → k ≠ j → g k = rd_n (rd_dt HE MK B s) 6 WO k) → wY_weigh_123 post (nI i) (nI j) (rd_b (rd_hs HE MK s 4)) (rd_b (rd_hs HE MK s 5)) f_delay f_crash f_cursor f_bad f_down f_waiting f_noteBlock f_noteFor n 0 (nI x) a_bytes a_health a_mark a_there a_on a_waitsFor a_waits a_note g
  | _, _, 0, _, _, h, _ => by omega
  | _, _, 1, _, _, h, _ => by omega
  | d, x, n + 2, g, hx, hn, hg => by
    have hv' : v < 256 := by rw [hv]; exact rd_q_lt
    have hx' : x < 256 := by omega
    have hp := rd_pp_lt (HE := HE) (MK := MK) (s := s) hB
    have hF1 := rd_u_lt (f := rd_dt HE MK B s) (k := i) (x := x) (rd_dt_lt hB) hx'
    have hF := rd_u_lt (f := rd_u (rd_dt HE MK B s) i x) (k := j) (x := rd_pp HE MK B s ^^^ x) hF1 (rd_xl hp hx')
    unfold wY_weigh_123
    refine pk_le 256 x (fun z => by omega) (fun z => br_t rfl ⟨vp_in_nI (by omega) (by omega), ?_⟩)
    refine nm_e (br_f (nI_pos (by omega)) ⟨vp_in_nI (by omega) (by omega), ?_⟩)
    rw [nI_clamp (by omega), nI_clamp (by omega), rd_gij x (by omega) (by omega) hij (rd_dt_f h') hg]
    refine nm_e (rd_y_sum (rd_u (rd_dt HE MK B s) i x) (fun k hk => rd_nv (by omega)) ⟨vp_in_nI (by omega) (by omega), ?_⟩)
    rw [rd_nv (by decide), rd_un (by omega), nx_xor, rd_y2 (j := j) (by omega) h h4, rd_upn _ (by omega)]
    refine nm_e (rd_y_sop (rd_u (rd_u (rd_dt HE MK B s) i x) j (rd_pp HE MK B s ^^^ x)) (fun k _ => hF k) (fun k hk => rd_nv (by omega)) ?_)
    rw [rd_nv (by decide), rd_un (by omega), rd_un (by omega)]
    have hc := rd_c2 (x := x) hB hij hj hx' h h' h5
    have hw := rd_wz_lt hF 4
    have hd := rd_dt_lt (HE := HE) (MK := MK) (s := s) hB 5
    refine pk_eq _ _ (fun e => nm_r (nI_1 x) ?_) (fun e => nm_r (nI_1 x) ?_)
    · have e' := hc.mp e
      rw [← hv] at e'
      subst e'
      exact rd_y_wdone HX
    · have hy : x ≠ v := fun q => e (hc.mpr (by rw [← hv]; exact q))
      match d, hx, hn with
      | 0, hx, _ => exact absurd hx hy
      | d + 1, hx, hn =>
        refine rd_y_w2 hB hij hj h h' h4 h5 hv HX d (x + 1) (n + 1) _ (by omega) (by omega) (fun k hk hk' => ?_)
        rw [← rd_upn _ (by omega), ← rd_upn x (by omega), pk_un hk', pk_un hk]
theorem rd_y_w55 {post : SY → Prop} (hH : ∀ d, HE d ≤ 2) (hM : ∀ d, MK d ≤ 16) (hs : s < 16) (HX : ∀ n, wY_weigh_55 post (nI s) f_delay f_crash f_cursor f_bad f_down f_waiting f_noteBlock f_noteFor a_bytes (rd_nF HE) (rd_nF MK) a_there a_on a_waitsFor a_waits a_note a_worth (n + 1) (rd_fs (rd_hs HE MK s) 4).1 (rd_fs (rd_hs HE MK s) 4).2 (nI 4)) : ∀ (d k n : Nat), k + d = 4 → d < n → wY_weigh_55 post (nI s) f_delay f_crash f_cursor f_bad f_down f_waiting f_noteBlock f_noteFor a_bytes (rd_nF HE) (rd_nF MK) a_there a_on a_waitsFor a_waits a_note a_worth n (rd_fs (rd_hs HE MK s) k).1 (rd_fs (rd_hs HE MK s) k).2 (nI k)
  | _, _, 0, _, h => by omega
  | 0, k, n + 1, h, _ => by
    have : k = 4 := by omega
    subst this
    exact HX n
  | d + 1, k, n + 1, h, hn => by
    have ih := rd_y_w55 hH hM hs HX d (k + 1) n (by omega) (by omega)
    have hk : k < 4 := by omega
    unfold wY_weigh_55
    refine pk_le 4 k (fun z => by omega) (fun z => ?_)
    refine rd_y_has hH hM hs (by omega) ?_
    refine rd_brb _ rfl (fun e => ?_) (fun e => ?_)
    · refine br_c (fun y => nm_r (nI_1 k) ?_) (fun y => nm_r (nI_1 k) ?_)
      · have e4 : rd_fs (rd_hs HE MK s) (k + 1) = ((rd_fs (rd_hs HE MK s) k).1, nI k) := by
          show (if rd_hs HE MK s k = true then rd_fs (rd_hs HE MK s) k else _) = _
          rw [if_neg (by rw [e]; decide), if_pos y]
        rw [e4] at ih
        exact ih
      · have e4 : rd_fs (rd_hs HE MK s) (k + 1) = (nI k, (rd_fs (rd_hs HE MK s) k).2) := by
          show (if rd_hs HE MK s k = true then rd_fs (rd_hs HE MK s) k else _) = _
          rw [if_neg (by rw [e]; decide), if_neg y]
        rw [e4] at ih
        exact ih
    · have e4 : rd_fs (rd_hs HE MK s) (k + 1) = rd_fs (rd_hs HE MK s) k := by
        show (if rd_hs HE MK s k = true then rd_fs (rd_hs HE MK s) k else _) = _
        rw [if_pos e]
      rw [e4] at ih
      exact nm_r (nI_1 k) ih
theorem rd_y_w7 {post : SY → Prop} {WO : Nat → Int32} (hH : ∀ d, HE d ≤ 2) (hM : ∀ d, MK d ≤ 16) (hs : s < 16) (HX : ∀ n, wY_weigh_7 post (nI s) (-1) (-1) f_delay f_crash f_cursor f_bad f_down f_waiting f_noteBlock f_noteFor (n + 1) (nI 6) (rd_nF B) (rd_nF HE) (rd_nF MK) a_there a_on a_waitsFor a_waits a_note (rd_n (rd_dt HE MK B s) 6 WO)) : ∀ (d k n : Nat) (D : Nat → Int32), k + d = 6 → d < n → D = rd_n (rd_dt HE MK B s) k WO → wY_weigh_7 post (nI s) (-1) (-1) f_delay f_crash f_cursor f_bad f_down f_waiting f_noteBlock f_noteFor n (nI k) (rd_nF B) (rd_nF HE) (rd_nF MK) a_there a_on a_waitsFor a_waits a_note D
  | _, _, 0, _, _, h, _ => by omega
  | 0, k, n + 1, D, h, _, hD => by
    have : k = 6 := by omega
    subst this
    subst hD
    exact HX n
  | d + 1, k, n + 1, D, h, hn, hD => by
    subst hD
    have ih := rd_y_w7 hH hM hs HX d (k + 1) n _ (by omega) (by omega) rfl
    have hk : k < 6 := by omega
    have hi : vp_in (nI k) 6 := vp_in_nI hk (by omega)
    unfold wY_weigh_7
    refine pk_le 6 k (fun z => by omega) (fun z => ?_)
    refine rd_y_has hH hM hs hk ?_
    refine rd_brb _ rfl (fun e => ⟨hi, ?_⟩) (fun e => ?_)
    · rw [nI_clamp (by omega)]
      have e3 : upd (rd_n (rd_dt HE MK B s) k WO) k 0 = rd_n (rd_dt HE MK B s) (k + 1) WO := rd_n_s (rd_dt_f e)
      rw [e3]
      exact nm_e (nm_r (nI_1 k) ih)
    · refine rd_y_cell hs hk ?_
      have hc := rd_cel_lt (k := k) hs
      refine ⟨vp_in_nI hc (by omega), hi, ?_⟩
      rw [nI_clamp (by omega), nI_clamp (by omega)]
      have e3 : upd (rd_n (rd_dt HE MK B s) k WO) k (rd_nF B (rd_cel s k)) = rd_n (rd_dt HE MK B s) (k + 1) WO := rd_n_s (rd_dt_t e)
      rw [e3]
      exact nm_e (nm_r (nI_1 k) ih)
theorem rd_F6_e {f G : Nat → Nat} (h : ∀ k, k < 4 → G k = f k) (h4 : G 4 = if rd_hs HE MK s 4 = true then B (rd_cel s 4) else rd_sz f 4) (h5 : G 5 = if rd_hs HE MK s 5 = true then B (rd_cel s 5) else rd_wz f 4) (WO : Nat → Int32) : rd_n G 6 WO = rd_n (rd_F6 HE MK B s f) 6 WO := by
  apply rd_n_ext
  intro k hk
  unfold rd_F6
  by_cases e : k < 4
  · rw [if_pos e, h k e]
  · rw [if_neg e]
    by_cases z : k = 4
    · subst z; rw [if_pos rfl, h4]
    · have : k = 5 := by omega
      subst this
      rw [if_neg (by decide), h5]
/-- from any data worths f that the search leaves in place -/
theorem rd_y_wend {post : SY → Prop} {f : Nat → Nat} {WO : Nat → Int32} (hf : ∀ k, f k < 256) (h4 : f 4 = rd_dt HE MK B s 4) (h5 : f 5 = rd_dt HE MK B s 5) (hp : post (f_delay, f_crash, f_cursor, f_bad, f_down, f_waiting, f_noteBlock, f_noteFor, a_bytes, a_health, a_mark, a_there, a_on, a_waitsFor, a_waits, a_note, rd_n (rd_F6 HE MK B s f) 6 WO)) : wY_weigh_247 post (rd_b (rd_hs HE MK s 4)) (rd_b (rd_hs HE MK s 5)) f_delay f_crash f_cursor f_bad f_down f_waiting f_noteBlock f_noteFor a_bytes a_health a_mark a_there a_on a_waitsFor a_waits a_note (rd_n f 6 WO) := by
  refine rd_y_w247 hf (fun G g1 g2 g3 => ?_)
  rw [rd_F6_e (HE := HE) (MK := MK) (B := B) (s := s) g1 (by rw [g2, h4]; split <;> first | exact rd_dt_t ‹_› | rfl) (by rw [g3, h5]; split <;> first | exact rd_dt_t ‹_› | rfl)]
  exact hp
theorem rd_y_weigh {post : SY → Prop} (hB : ∀ j, B j < 256) (hH : ∀ d, HE d ≤ 2) (hM : ∀ d, MK d ≤ 16) (hs : s < 16) (hl : rd_ls HE MK s = false) (hp : post (f_delay, f_crash, f_cursor, f_bad, f_down, f_waiting, f_noteBlock, f_noteFor, rd_nF B, rd_nF HE, rd_nF MK, a_there, a_on, a_waitsFor, a_waits, a_note, rd_n (rd_F6 HE MK B s (rd_wv HE MK B s)) 6 a_worth)) : wpY_weigh post (f_delay, f_crash, f_cursor, f_bad, f_down, f_waiting, f_noteBlock, f_noteFor, rd_nF B, rd_nF HE, rd_nF MK, a_there, a_on, a_waitsFor, a_waits, a_note, a_worth) (nI s) := by
  unfold wpY_weigh
  dsimp only
  refine ⟨7, rd_y_w7 (WO := a_worth) hH hM hs ?_ 6 0 7 a_worth rfl (by decide) (rd_n0 _ _).symm⟩
  intro n
  unfold wY_weigh_7
  refine br_t (by decide) ⟨5, rd_y_w55 hH hM hs ?_ 4 0 5 rfl (by decide)⟩
  intro n
  unfold wY_weigh_55
  refine br_t (by decide) ?_
  refine rd_y_has hH hM hs (by decide) (rd_y_has hH hM hs (by decide) ?_)
  rcases rd_fs_c (rd_hs HE MK s) (rd_ls_le hl) with ⟨e, _⟩ | ⟨i, hi, e, hall, h45⟩ | ⟨i, j, hij, hj, e, hall, h4, h5⟩
  · rw [rd_wv_0 e] at hp
    rw [e]
    refine br_f (by decide) ⟨1, rd_y_wdone ?_⟩
    exact rd_y_wend (rd_dt_lt hB) rfl rfl hp
  · rw [rd_wv_1 hi e] at hp
    rw [e]
    have hn : rd_hs HE MK s i = false := by rw [hall i hi]; simp
    refine br_t (nI_pos' (by omega)) ⟨rd_w1 HE MK B s i + 2, rd_y_w1 hB hi hn h45 rfl ?_ (rd_w1 HE MK B s i) 0 _ _ (by omega) (by omega) (fun k _ => rfl)⟩
    exact rd_y_wend (rd_u_lt (rd_dt_lt hB) (rd_w1_lt hB)) (rd_un (by omega)) (rd_un (by omega)) hp
  · rw [rd_wv_2 (by omega) hj e] at hp
    rw [e]
    have hn : rd_hs HE MK s i = false := by rw [hall i (by omega)]; simp
    have hn' : rd_hs HE MK s j = false := by rw [hall j hj]; simp
    refine br_t (nI_pos' (by omega)) ⟨rd_w2 HE MK B s i j + 2, rd_y_w2 hB hij hj hn hn' h4 h5 rfl ?_ (rd_w2 HE MK B s i j) 0 _ _ (by omega) (by omega) (fun k _ _ => rfl)⟩
    exact rd_y_wend (rd_u_lt (rd_u_lt (rd_dt_lt hB) rd_q_lt) (rd_xl (rd_pp_lt hB) rd_q_lt)) (by rw [rd_un (by omega), rd_un (by omega)]) (by rw [rd_un (by omega), rd_un (by omega)]) hp
end
end
section
/-! X: use, leastFree, store, settle; Y: putNoted and its loops -/
def rd_lff (p : Nat → Bool) : Nat → Nat → Nat
  | 0, i => i
  | d + 1, i => if p i = true then i else rd_lff p d (i + 1)
theorem rd_lff_le (p : Nat → Bool) : ∀ d i, rd_lff p d i ≤ i + d
  | 0, i => Nat.le_refl _
  | d + 1, i => by
    unfold rd_lff
    split
    · omega
    · have := rd_lff_le p d (i + 1); omega
theorem rd_lff_p (p : Nat → Bool) : ∀ d i, rd_lff p d i < i + d → p (rd_lff p d i) = true
  | 0, i, h => by unfold rd_lff at h; omega
  | d + 1, i, h => by
    unfold rd_lff at h ⊢
    by_cases e : p i = true
    · rw [if_pos e]; exact e
    · rw [if_neg e] at h ⊢
      exact rd_lff_p p d (i + 1) (by omega)
theorem rd_lff_n {p : Nat → Bool} : ∀ {d i : Nat}, (∀ j, i ≤ j → j < i + d → p j = false) → rd_lff p d i = i + d
  | 0, _, _ => rfl
  | d + 1, i, h => by
    unfold rd_lff
    rw [if_neg (by rw [h i (by omega) (by omega)]; decide), rd_lff_n (d := d) (i := i + 1) (fun j h1 h2 => h j (by omega) (by omega))]
    omega
def rd_lI (b : Nat) : Int32 := if b = 64 then -1 else nI b
def rd_lf (MP : Nat → Nat) : Nat := rd_lff (rd_fz MP) 64 0
def rd_kk (nb i : Nat) : Nat := if i = 0 then nb % 4 else if i = 1 then 4 else 5
def rd_nn (n0 n1 n2 i : Nat) : Nat := if i = 0 then n0 else if i = 1 then n1 else n2
def rd_st (HE MK B : Nat → Nat) (nb n0 n1 n2 : Nat) : Nat → Nat → Nat
  | 0 => B
  | t + 1 => rd_pB HE MK (rd_st HE MK B nb n0 n1 n2 t) (nb / 4) (rd_kk nb t) (rd_nn n0 n1 n2 t)
theorem rd_pB_lt {HE MK B : Nat → Nat} {s k v : Nat} (hB : ∀ j, B j < 256) (hv : v < 256) (j : Nat) : rd_pB HE MK B s k v j < 256 := by
  unfold rd_pB
  split
  · exact rd_u_lt hB hv j
  · exact hB j
theorem rd_nn_lt {n0 n1 n2 : Nat} (h0 : n0 < 256) (h1 : n1 < 256) (h2 : n2 < 256) (i : Nat) : rd_nn n0 n1 n2 i < 256 := by
  unfold rd_nn
  split
  · exact h0
  · split
    · exact h1
    · exact h2
theorem rd_st_lt {HE MK B : Nat → Nat} {nb n0 n1 n2 : Nat} (hB : ∀ j, B j < 256) (h0 : n0 < 256) (h1 : n1 < 256) (h2 : n2 < 256) : ∀ t j, rd_st HE MK B nb n0 n1 n2 t j < 256
  | 0, j => hB j
  | t + 1, j => rd_pB_lt (rd_st_lt hB h0 h1 h2 t) (rd_nn_lt h0 h1 h2 t) j
/-! the three pictures of the map under one change -/
section
variable {MP : Nat → Nat} {m b : Nat}
theorem rd_uF_inc (hm : m < 120) (h : MP m = 0) (hb : b < 64) : upd (rd_uF MP) b (nI (rd_ct MP b + 1)) = rd_uF (rd_u MP m (b + 1)) := by
  funext c
  show (if c = b then nI (rd_ct MP b + 1) else if c < 64 then nI (rd_ct MP c) else 0) = if c < 64 then nI (rd_ct (rd_u MP m (b + 1)) c) else 0
  rw [rd_ct_inc hm h c]
  by_cases e : c = b
  · subst e; rw [if_pos rfl, if_pos hb, if_pos rfl]
  · rw [if_neg e, if_neg e]
theorem rd_fz_inc (hm : m < 120) (h : MP m = 0) : rd_u (rd_fz MP) b false = rd_fz (rd_u MP m (b + 1)) := by
  funext c
  show (if c = b then false else decide (rd_ct MP c = 0)) = decide (rd_ct (rd_u MP m (b + 1)) c = 0)
  rw [rd_ct_inc hm h c]
  by_cases e : c = b
  · subst e; rw [if_pos rfl, if_pos rfl, decide_eq_false (by omega)]
  · rw [if_neg e, if_neg e]
theorem rd_shf_inc (hm : m < 120) (h : MP m = 0) : rd_sh (rd_u MP m (b + 1)) = rd_u (rd_sh MP) b (decide (1 < rd_ct MP b + 1)) := by
  funext c
  show decide (1 < rd_ct (rd_u MP m (b + 1)) c) = if c = b then decide (1 < rd_ct MP b + 1) else decide (1 < rd_ct MP c)
  rw [rd_ct_inc hm h c]
  by_cases e : c = b
  · subst e; rw [if_pos rfl, if_pos rfl]
  · rw [if_neg e, if_neg e]
theorem rd_sh_inc (hm : m < 120) (h : MP m = 0) (hb : b < 64) : rd_c (rd_sh (rd_u MP m (b + 1))) 64 = if rd_ct MP b = 1 then rd_c (rd_sh MP) 64 + 1 else rd_c (rd_sh MP) 64 := by
  rw [rd_shf_inc hm h]
  by_cases e : rd_ct MP b = 1
  · rw [if_pos e, decide_eq_true (by omega)]
    exact rd_c_set (decide_eq_false (by omega)) hb
  · rw [if_neg e, show decide (1 < rd_ct MP b + 1) = rd_sh MP b from by
      show _ = decide (1 < rd_ct MP b)
      congr 1; apply propext; omega, rd_ui]
end
section
variable {f_volumes : Int32} {f_free : Int64} {f_shared : Int32} {f_crashAfter : Int32} {f_next : Int32} {f_bad : Int32} {f_down : Int32} {f_noteMap : Int32} {f_noteBlock : Int32} {f_noteData : Int32} {f_noteP : Int32} {f_noteQ : Int32} {f_waiting : Int32} {f_delay : Int32} {a_disk : Nat → Int32} {a_health : Nat → Int32} {a_mark : Nat → Int32} {a_there : Nat → Int32} {a_power : Nat → Int32} {a_place : Nat → Int32} {a_map : Nat → Int32} {a_uses : Nat → Int32} {a_data : Nat → Int32} {a_waitMap : Nat → Int32} {a_waitValue : Nat → Int32}
variable {HE MK B MP : Nat → Nat} {nb nm n0 n1 n2 : Nat}
theorem rd_x_use63 {post : Int32 → SX → Prop} {b n' : Nat} {p : Nat → Bool} (hb : b < 64) (hn : n' ≤ 120) (hp : post (rd_b (decide (n' = 0))) (f_volumes, lN (rd_k (rd_u p b (decide (n' = 0))) 64), f_shared, f_crashAfter, f_next, f_bad, f_down, f_noteMap, f_noteBlock, f_noteData, f_noteP, f_noteQ, f_waiting, f_delay, a_disk, a_health, a_mark, a_there, a_power, a_place, a_map, a_uses, a_data, a_waitMap, a_waitValue)) : wX_use_63 post (nI b) (nI n') f_volumes (lN (rd_k p 64)) f_shared f_crashAfter f_next f_bad f_down f_noteMap f_noteBlock f_noteData f_noteP f_noteQ f_waiting f_delay a_disk a_health a_mark a_there a_power a_place a_map a_uses a_data a_waitMap a_waitValue := by
  unfold wX_use_63
  refine pk_eq n' 0 (fun e => nm_r (rd_setL p hb) ?_) (fun e => nm_r (rd_clrL p hb) ?_)
  · rw [decide_eq_true e] at hp
    unfold wX_use_99
    subst e
    exact br_t rfl hp
  · rw [decide_eq_false e] at hp
    unfold wX_use_99
    exact br_f (fun z => e ((rd_e0 (by omega)).mp z)) hp
theorem rd_x_use {post : Int32 → SX → Prop} {b n n' : Nat} {p1 : Int32} {p : Nat → Bool} (hb : b < 64) (hu : a_uses b = nI n) (hn : n ≤ 120) (hn' : n' ≤ 120) (hx : nI n + p1 = nI n') (hp : ∀ S : Int32, (n = 1 → n' = 2 → S = f_shared + 1) → (n = 2 → n' = 1 → S = f_shared - 1) → (¬ (n = 1 ∧ n' = 2) → ¬ (n = 2 ∧ n' = 1) → S = f_shared) → post (rd_b (decide (n' = 0))) (f_volumes, lN (rd_k (rd_u p b (decide (n' = 0))) 64), S, f_crashAfter, f_next, f_bad, f_down, f_noteMap, f_noteBlock, f_noteData, f_noteP, f_noteQ, f_waiting, f_delay, a_disk, a_health, a_mark, a_there, a_power, a_place, a_map, upd a_uses b (nI n'), a_data, a_waitMap, a_waitValue)) : wpX_use post (f_volumes, lN (rd_k p 64), f_shared, f_crashAfter, f_next, f_bad, f_down, f_noteMap, f_noteBlock, f_noteData, f_noteP, f_noteQ, f_waiting, f_delay, a_disk, a_health, a_mark, a_there, a_power, a_place, a_map, a_uses, a_data, a_waitMap, a_waitValue) (nI b) p1 := by
  unfold wpX_use
  dsimp only
  have hi : vp_in (nI b) 64 := vp_in_nI hb (by omega)
  rw [nI_clamp (by omega)]
  refine ⟨hi, nm_r hu (nm_r hx ⟨hi, nm_r (by rw [rd_nb (by omega)]) ?_⟩)⟩
  have k42 : ∀ S : Int32, (¬ (n = 2 ∧ n' = 1) → post (rd_b (decide (n' = 0))) (f_volumes, lN (rd_k (rd_u p b (decide (n' = 0))) 64), S, f_crashAfter, f_next, f_bad, f_down, f_noteMap, f_noteBlock, f_noteData, f_noteP, f_noteQ, f_waiting, f_delay, a_disk, a_health, a_mark, a_there, a_power, a_place, a_map, upd a_uses b (nI n'), a_data, a_waitMap, a_waitValue)) → (n = 2 → n' = 1 → post (rd_b (decide (n' = 0))) (f_volumes, lN (rd_k (rd_u p b (decide (n' = 0))) 64), S - 1, f_crashAfter, f_next, f_bad, f_down, f_noteMap, f_noteBlock, f_noteData, f_noteP, f_noteQ, f_waiting, f_delay, a_disk, a_health, a_mark, a_there, a_power, a_place, a_map, upd a_uses b (nI n'), a_data, a_waitMap, a_waitValue)) → wX_use_42 post (nI b) (nI n) (nI n') f_volumes (lN (rd_k p 64)) S f_crashAfter f_next f_bad f_down f_noteMap f_noteBlock f_noteData f_noteP f_noteQ f_waiting f_delay a_disk a_health a_mark a_there a_power a_place a_map (upd a_uses b (nI n')) a_data a_waitMap a_waitValue := by
    intro S h1 h2
    unfold wX_use_42
    refine pk_eq n 2 (fun e => pk_eq n' 1 (fun e' => nm_e (rd_x_use63 hb hn' (h2 e e'))) (fun e' => rd_x_use63 hb hn' (h1 (fun z => e' z.2)))) (fun e => rd_x_use63 hb hn' (h1 (fun z => e z.1)))
  refine pk_eq n 1 (fun e => pk_eq n' 2 (fun e' => nm_e (k42 _ ?_ ?_)) (fun e' => k42 _ ?_ ?_)) (fun e => k42 _ ?_ ?_)
  · intro _; exact hp _ (fun _ _ => rfl) (fun z _ => by omega) (fun z _ => absurd ⟨e, e'⟩ z)
  · intro z _; omega
  · intro z; exact hp _ (fun _ y => absurd y e') (fun y _ => by omega) (fun _ _ => rfl)
  · intro z _; omega
  · intro z; exact hp _ (fun y _ => absurd y e) (fun y y' => absurd ⟨y, y'⟩ z) (fun _ _ => rfl)
  · intro z z'; exact hp _ (fun y _ => absurd y e) (fun _ _ => rfl) (fun _ y => absurd ⟨z, z'⟩ y)
theorem rd_x_inc {post : Int32 → SX → Prop} {m b : Nat} (hm : m < 120) (h0 : MP m = 0) (hb : b < 64) (hc : rd_ct MP b < 120) (hp : post 0 (f_volumes, lN (rd_k (rd_fz (rd_u MP m (b + 1))) 64), nI (rd_c (rd_sh (rd_u MP m (b + 1))) 64), f_crashAfter, f_next, f_bad, f_down, f_noteMap, f_noteBlock, f_noteData, f_noteP, f_noteQ, f_waiting, f_delay, a_disk, a_health, a_mark, a_there, a_power, a_place, a_map, rd_uF (rd_u MP m (b + 1)), a_data, a_waitMap, a_waitValue)) : wpX_use post (f_volumes, lN (rd_k (rd_fz MP) 64), nI (rd_c (rd_sh MP) 64), f_crashAfter, f_next, f_bad, f_down, f_noteMap, f_noteBlock, f_noteData, f_noteP, f_noteQ, f_waiting, f_delay, a_disk, a_health, a_mark, a_there, a_power, a_place, a_map, rd_uF MP, a_data, a_waitMap, a_waitValue) (nI b) 1 := by
  refine rd_x_use (n := rd_ct MP b) (n' := rd_ct MP b + 1) hb (if_pos hb) (by omega) (by omega) (nI_1 _) (fun S s1 s2 s3 => ?_)
  rw [decide_eq_false (by omega), rd_fz_inc hm h0, rd_uF_inc hm h0 hb]
  have e : S = nI (rd_c (rd_sh (rd_u MP m (b + 1))) 64) := by
    rw [rd_sh_inc hm h0 hb]
    by_cases z : rd_ct MP b = 1
    · rw [if_pos z, s1 z (by omega), nI_1]
    · rw [if_neg z, s3 (fun y => z y.1) (fun y => by omega)]
  rw [e]
  exact hp
theorem rd_x_dec {post : Int32 → SX → Prop} {m b : Nat} (hm : m < 120) (h : MP m = b + 1) (hb : b < 64) (hp : post (rd_b (rd_fz (rd_u MP m 0) b)) (f_volumes, lN (rd_k (rd_fz (rd_u MP m 0)) 64), nI (rd_c (rd_sh (rd_u MP m 0)) 64), f_crashAfter, f_next, f_bad, f_down, f_noteMap, f_noteBlock, f_noteData, f_noteP, f_noteQ, f_waiting, f_delay, a_disk, a_health, a_mark, a_there, a_power, a_place, a_map, rd_uF (rd_u MP m 0), a_data, a_waitMap, a_waitValue)) : wpX_use post (f_volumes, lN (rd_k (rd_fz MP) 64), nI (rd_c (rd_sh MP) 64), f_crashAfter, f_next, f_bad, f_down, f_noteMap, f_noteBlock, f_noteData, f_noteP, f_noteQ, f_waiting, f_delay, a_disk, a_health, a_mark, a_there, a_power, a_place, a_map, rd_uF MP, a_data, a_waitMap, a_waitValue) (nI b) (-1) := by
  have ec := rd_ct_dec hm h b
  rw [if_pos rfl] at ec
  have hl := rd_ct_le MP b
  have back : rd_u (rd_u MP m 0) m (b + 1) = MP := by rw [rd_uu, ← h, rd_ui]
  refine rd_x_use (n := rd_ct MP b) (n' := rd_ct (rd_u MP m 0) b) hb (if_pos hb) (by omega) (by omega) (by rw [ec]; exact pk_m1 _) (fun S s1 s2 s3 => ?_)
  have e1 : rd_u (rd_fz MP) b (decide (rd_ct (rd_u MP m 0) b = 0)) = rd_fz (rd_u MP m 0) := by
    funext c
    by_cases z : c = b
    · subst z; rw [rd_us]; rfl
    · rw [rd_un z]
      have := rd_ct_dec hm h c
      rw [if_neg z] at this
      show decide (rd_ct MP c = 0) = decide (rd_ct (rd_u MP m 0) c = 0)
      rw [this]
  have e2 : upd (rd_uF MP) b (nI (rd_ct (rd_u MP m 0) b)) = rd_uF (rd_u MP m 0) := by
    funext c
    by_cases z : c = b
    · subst z; rw [pk_us]; exact (if_pos hb).symm
    · rw [pk_un z]
      have := rd_ct_dec hm h c
      rw [if_neg z] at this
      show (if c < 64 then nI (rd_ct MP c) else 0) = if c < 64 then nI (rd_ct (rd_u MP m 0) c) else 0
      rw [this]
  have e3 := rd_sh_inc (MP := rd_u MP m 0) (b := b) hm rd_us hb
  rw [back] at e3
  have e : S = nI (rd_c (rd_sh (rd_u MP m 0)) 64) := by
    by_cases z : rd_ct (rd_u MP m 0) b = 1
    · rw [if_pos z] at e3
      rw [s2 (by omega) z, e3, rd_m1]
    · rw [if_neg z] at e3
      rw [s3 (fun y => by omega) (fun y => z y.2), e3]
  rw [e, e1, e2]
  exact hp
theorem rd_x_lf13 {post : Int32 → Prop} {p : Nat → Bool} : ∀ (d i n : Nat), i + d = 64 → d ≤ n → (∃ j, i ≤ j ∧ j < 64 ∧ p j = true) → post (nI (rd_lff p d i)) → wX_leastFree_13 post f_volumes (lN (rd_k p 64)) f_shared f_crashAfter f_next f_bad f_down f_noteMap f_noteBlock f_noteData f_noteP f_noteQ f_waiting f_delay a_disk a_health a_mark a_there a_power a_place a_map a_uses a_data a_waitMap a_waitValue n (nI i)
  | 0, i, n, h, _, ⟨j, h1, h2, _⟩, _ => by omega
  | d + 1, i, 0, h, hn, _, _ => by omega
  | d + 1, i, n + 1, h, hn, ⟨j, h1, h2, h3⟩, hp => by
    unfold wX_leastFree_13
    have hb := rd_bitL (n := rd_k p 64) (b := i) (rd_k_lt p 64) (by omega)
    rw [rd_k_bit, decide_eq_true (show i < 64 by omega), Bool.true_and] at hb
    unfold rd_lff at hp
    refine ek_if hb (fun e => nm_r (nI_1 i) ?_) (fun e => ?_)
    · rw [if_neg (by rw [e]; decide)] at hp
      refine rd_x_lf13 d (i + 1) n (by omega) (by omega) ⟨j, ?_, h2, h3⟩ hp
      rcases Nat.lt_or_ge i j with z | z
      · exact z
      · have : i = j := by omega
        subst this
        rw [e] at h3; cases h3
    · rw [if_pos (ts_nf e)] at hp; exact hp
theorem rd_x_lf {post : Int32 → Prop} (hp : post (rd_lI (rd_lf MP))) : wpX_leastFree post (f_volumes, lN (rd_k (rd_fz MP) 64), f_shared, f_crashAfter, f_next, f_bad, f_down, f_noteMap, f_noteBlock, f_noteData, f_noteP, f_noteQ, f_waiting, f_delay, a_disk, a_health, a_mark, a_there, a_power, a_place, a_map, a_uses, a_data, a_waitMap, a_waitValue) := by
  unfold wpX_leastFree
  dsimp only
  refine ek_if (rd_lN0 (rd_k_lt _ 64)) (fun e => ?_) (fun e => ?_)
  · have z := rd_k_z.mp e
    have : rd_lf MP = 64 := rd_lff_n (p := rd_fz MP) (d := 64) (i := 0) (fun j _ h => z j (by omega))
    rw [this] at hp; exact hp
  · have ex : ∃ j, 0 ≤ j ∧ j < 64 ∧ rd_fz MP j = true := Classical.byContradiction (fun z => e (rd_k_z.mpr (fun i hi => by
      cases q : rd_fz MP i with
      | false => rfl
      | true => exact absurd ⟨i, Nat.zero_le _, hi, q⟩ z)))
    have hne : rd_lf MP ≠ 64 := fun q => by
      obtain ⟨j, _, hj, hjt⟩ := ex
      have : ∀ (d i : Nat), i + d = 64 → i ≤ j → rd_lff (rd_fz MP) d i ≤ j := by
        intro d
        induction d with
        | zero => intro i h1 h2; omega
        | succ d ih =>
          intro i h1 h2
          unfold rd_lff
          split
          · exact h2
          · refine ih (i + 1) (by omega) ?_
            rcases Nat.lt_or_ge i j with z | z
            · exact z
            · have : i = j := by omega
              subst this
              exact absurd hjt ‹_›
      have := this 64 0 rfl (Nat.zero_le _)
      unfold rd_lf at q
      omega
    have hp' : post (nI (rd_lf MP)) := by
      unfold rd_lI at hp; rw [if_neg hne] at hp; exact hp
    exact ⟨64, rd_x_lf13 64 0 64 rfl (by decide) ex hp'⟩
theorem rd_b4 {nb : Nat} (h : nb < 64) : nI nb >>> ((2 : Int32) &&& 31) = nI (nb / 4) := pk_shrN (by omega) _ 2 (by decide)
theorem rd_a3 {nb : Nat} (h : nb < 64) : nI nb &&& 3 = nI (nb % 4) := pk_andN (by omega) 2 (by decide)
theorem rd_x_store {post : SX → Prop} {t : Nat} (ht : t ≤ 3) (hnb : nb < 64) (hp : post (f_volumes, f_free, f_shared, f_crashAfter, f_next, f_bad, f_down, f_noteMap, nI nb, nI n0, nI n1, nI n2, f_waiting, f_delay, rd_bF (rd_st HE MK B nb n0 n1 n2 t), a_health, a_mark, rd_th HE MK, a_power, a_place, a_map, a_uses, a_data, a_waitMap, a_waitValue)) : wpX_store post (f_volumes, f_free, f_shared, f_crashAfter, f_next, f_bad, f_down, f_noteMap, nI nb, nI n0, nI n1, nI n2, f_waiting, f_delay, rd_bF B, a_health, a_mark, rd_th HE MK, a_power, a_place, a_map, a_uses, a_data, a_waitMap, a_waitValue) (nI t) := by
  have k41 : ∀ (C : Nat → Nat) (t : Nat), t ≤ 3 → post (f_volumes, f_free, f_shared, f_crashAfter, f_next, f_bad, f_down, f_noteMap, nI nb, nI n0, nI n1, nI n2, f_waiting, f_delay, rd_bF (if t ≤ 2 then C else rd_pB HE MK C (nb / 4) 5 n2), a_health, a_mark, rd_th HE MK, a_power, a_place, a_map, a_uses, a_data, a_waitMap, a_waitValue) → wX_store_41 post (nI t) (nI (nb / 4)) f_volumes f_free f_shared f_crashAfter f_next f_bad f_down f_noteMap (nI nb) (nI n0) (nI n1) (nI n2) f_waiting f_delay (rd_bF C) a_health a_mark (rd_th HE MK) a_power a_place a_map a_uses a_data a_waitMap a_waitValue := by
    intro C t ht h
    unfold wX_store_41
    refine pk_le t 2 (fun e => ?_) (fun e => ?_)
    · rw [if_pos e] at h; exact h
    · rw [if_neg (by omega)] at h
      exact rd_x_put (s := nb / 4) (k := 5) (by omega) (by decide) h
  have k26 : ∀ (C : Nat → Nat) (t : Nat), t ≤ 3 → post (f_volumes, f_free, f_shared, f_crashAfter, f_next, f_bad, f_down, f_noteMap, nI nb, nI n0, nI n1, nI n2, f_waiting, f_delay, rd_bF (if t ≤ 2 then (if t ≤ 1 then C else rd_pB HE MK C (nb / 4) 4 n1) else rd_pB HE MK (rd_pB HE MK C (nb / 4) 4 n1) (nb / 4) 5 n2), a_health, a_mark, rd_th HE MK, a_power, a_place, a_map, a_uses, a_data, a_waitMap, a_waitValue) → wX_store_26 post (nI t) (nI (nb / 4)) f_volumes f_free f_shared f_crashAfter f_next f_bad f_down f_noteMap (nI nb) (nI n0) (nI n1) (nI n2) f_waiting f_delay (rd_bF C) a_health a_mark (rd_th HE MK) a_power a_place a_map a_uses a_data a_waitMap a_waitValue := by
    intro C t ht h
    unfold wX_store_26
    refine pk_le t 1 (fun e => ?_) (fun e => ?_)
    · rw [if_pos (by omega), if_pos e] at h
      refine k41 C t ht ?_
      rw [if_pos (by omega)]; exact h
    · rw [if_neg (show ¬ t ≤ 1 by omega)] at h
      exact rd_x_put (s := nb / 4) (k := 4) (by omega) (by decide) (k41 _ t ht h)
  unfold wpX_store
  dsimp only
  rw [rd_b4 hnb, rd_a3 hnb]
  refine nm_e (pk_le t 0 (fun e => ?_) (fun e => ?_))
  · have : t = 0 := by omega
    subst this
    exact k26 B 0 (by decide) hp
  · refine rd_x_put (s := nb / 4) (k := nb % 4) (by omega) (by omega) (k26 _ t ht ?_)
    rcases (by omega : t = 1 ∨ t = 2 ∨ t = 3) with z | z | z <;> subst z <;> exact hp
theorem rd_x_set32 {post : SX → Prop} (hM : ∀ m, MP m ≤ 64) (hnm : nm < 120) (hnb : nb < 64) (h0 : MP nm = 0) {MP' : Nat → Nat} (hp : post (f_volumes, lN (rd_k (rd_fz (rd_u MP nm (nb + 1))) 64), nI (rd_c (rd_sh (rd_u MP nm (nb + 1))) 64), f_crashAfter, f_next, f_bad, f_down, nI nm, nI nb, f_noteData, f_noteP, f_noteQ, f_waiting, f_delay, a_disk, a_health, a_mark, a_there, a_power, a_place, rd_nF (rd_u MP' nm (nb + 1)), rd_uF (rd_u MP nm (nb + 1)), a_data, a_waitMap, a_waitValue)) : wX_settle_32 post f_volumes (lN (rd_k (rd_fz MP) 64)) (nI (rd_c (rd_sh MP) 64)) f_crashAfter f_next f_bad f_down (nI nm) (nI nb) f_noteData f_noteP f_noteQ f_waiting f_delay a_disk a_health a_mark a_there a_power a_place (rd_nF MP') (rd_uF MP) a_data a_waitMap a_waitValue := by
  unfold wX_settle_32
  refine ⟨vp_in_nI hnm (by omega), ?_⟩
  rw [nI_clamp (by omega), nI_1, rd_nb (by omega), rd_upN]
  have hc : rd_ct MP nb < 120 := by
    have e := rd_ct_inc (b := nb) hnm h0 nb
    rw [if_pos rfl] at e
    have := rd_ct_le (rd_u MP nm (nb + 1)) nb
    omega
  exact nm_e (rd_x_inc hnm h0 hnb hc hp)
theorem rd_x_settle {post : SX → Prop} (hM : ∀ m, MP m ≤ 64) (hnm : nm < 120) (hnb : nb < 64) (hp : post (f_volumes, lN (rd_k (rd_fz (rd_u MP nm (nb + 1))) 64), nI (rd_c (rd_sh (rd_u MP nm (nb + 1))) 64), f_crashAfter, f_next, f_bad, f_down, nI nm, nI nb, f_noteData, f_noteP, f_noteQ, f_waiting, f_delay, a_disk, a_health, a_mark, a_there, a_power, a_place, rd_nF (rd_u MP nm (nb + 1)), rd_uF (rd_u MP nm (nb + 1)), a_data, a_waitMap, a_waitValue)) : wpX_settle post (f_volumes, lN (rd_k (rd_fz MP) 64), nI (rd_c (rd_sh MP) 64), f_crashAfter, f_next, f_bad, f_down, nI nm, nI nb, f_noteData, f_noteP, f_noteQ, f_waiting, f_delay, a_disk, a_health, a_mark, a_there, a_power, a_place, rd_nF MP, rd_uF MP, a_data, a_waitMap, a_waitValue) := by
  unfold wpX_settle
  dsimp only
  refine ⟨vp_in_nI hnm (by omega), ?_⟩
  rw [nI_clamp (by omega)]
  have hm := hM nm
  cases h : MP nm with
  | zero =>
    refine nm_r (e' := -1) (by show nI (MP nm) - 1 = -1; rw [h]; exact rd_m10) ?_
    refine br_f ?_ (br_t (by decide) (rd_x_set32 hM hnm hnb h hp))
    intro e
    exact absurd (show nI nb < 0 by rw [← e]; decide) (nI_pos (by omega))
  | succ c =>
    refine nm_r (e' := nI c) (by show nI (MP nm) - 1 = nI c; rw [h]; exact rd_m1 c) ?_
    refine pk_eq c nb (fun e => ?_) (fun e => br_f (nI_pos (by omega)) ?_)
    · subst e
      rw [← h, rd_ui] at hp; exact hp
    · refine rd_x_dec hnm h (by omega) ?_
      have e2 : rd_u (rd_u MP nm 0) nm (nb + 1) = rd_u MP nm (nb + 1) := rd_uu _ _ _ _
      rw [← e2] at hp
      refine rd_x_set32 (MP := rd_u MP nm 0) (MP' := MP) (fun m => ?_) hnm hnb rd_us ?_
      · by_cases z : m = nm
        · subst z; rw [rd_us]; omega
        · rw [rd_un z]; exact hM m
      · rw [e2] at hp ⊢
        exact hp
end
section
variable {f_delay : Int32} {f_crash : Int32} {f_cursor : Int32} {f_bad : Int32} {f_down : Int32} {f_waiting : Int32} {f_noteBlock : Int32} {f_noteFor : Int32} {a_bytes : Nat → Int32} {a_health : Nat → Int32} {a_mark : Nat → Int32} {a_there : Nat → Int32} {a_on : Nat → Int32} {a_waitsFor : Nat → Int32} {a_waits : Nat → Int32} {a_note : Nat → Int32} {a_worth : Nat → Int32}
variable {HE MK B MP : Nat → Nat} {nb nm n0 n1 n2 : Nat}
theorem rd_nt_v {i : Nat} (hi : i < 3) : rd_nt n0 n1 n2 i = nI (rd_nn n0 n1 n2 i) := by
  unfold rd_nt rd_nn
  rcases (by omega : i = 0 ∨ i = 1 ∨ i = 2) with e | e | e <;> subst e <;> rfl
theorem rd_y_pn {post : SY → Prop} {i : Nat} (hH : ∀ d, HE d ≤ 2) (hM : ∀ d, MK d ≤ 16) (hi : i < 3) (hnb : nb < 64) (hp : post (f_delay, f_crash, f_cursor, f_bad, f_down, f_waiting, nI nb, f_noteFor, rd_nF (rd_pB HE MK B (nb / 4) (rd_kk nb i) (rd_nn n0 n1 n2 i)), rd_nF HE, rd_nF MK, a_there, a_on, a_waitsFor, a_waits, rd_nt n0 n1 n2, a_worth)) : wpY_putNoted post (f_delay, f_crash, f_cursor, f_bad, f_down, f_waiting, nI nb, f_noteFor, rd_nF B, rd_nF HE, rd_nF MK, a_there, a_on, a_waitsFor, a_waits, rd_nt n0 n1 n2, a_worth) (nI i) := by
  have k30 : ∀ z0 z1 : Int32, z0 = nI (rd_kk nb i) → z1 = nI (nb / 4) → wY_putNoted_30 post (nI i) z0 z1 f_delay f_crash f_cursor f_bad f_down f_waiting (nI nb) f_noteFor (rd_nF B) (rd_nF HE) (rd_nF MK) a_there a_on a_waitsFor a_waits (rd_nt n0 n1 n2) a_worth := by
    intro z0 z1 h0 h1
    subst h0 h1
    unfold wY_putNoted_30
    refine ⟨vp_in_nI hi (by omega), ?_⟩
    rw [nI_clamp (by omega), rd_nt_v hi]
    refine rd_y_put hH hM (by omega) ?_ hp
    unfold rd_kk
    split
    · omega
    · split <;> decide
  unfold wpY_putNoted
  dsimp only
  have e1 : nI nb / 4 = nI (nb / 4) := pk_div (d := 4) (by omega) (by decide) (by decide)
  have e2 : nI nb - nI nb / 4 * 4 = nI (nb % 4) := pk_rem (d := 4) (by omega) (by decide) (by decide)
  rcases (by omega : i = 0 ∨ i = 1 ∨ i = 2) with e | e | e <;> subst e
  · exact ⟨by decide, br_t rfl ⟨by decide, k30 _ _ e2 e1⟩⟩
  · exact ⟨by decide, br_f (by decide) (br_t rfl (k30 _ _ rfl e1))⟩
  · exact ⟨by decide, br_f (by decide) (br_f (by decide) (k30 _ _ rfl e1))⟩
theorem rd_y_w176 {post : Int32 → SY → Prop} {m b : Nat} (hH : ∀ d, HE d ≤ 2) (hM : ∀ d, MK d ≤ 16) (hnb : nb < 64) (hm : m < 120) (hp : post 0 (f_delay, f_crash, f_cursor, f_bad, f_down, f_waiting, nI nb, f_noteFor, rd_nF (rd_st HE MK B nb n0 n1 n2 3), rd_nF HE, rd_nF MK, a_there, rd_on (rd_u MP m (b + 1)), a_waitsFor, a_waits, rd_nt n0 n1 n2, a_worth)) : ∀ (d i n : Nat), i + d = 3 → d < n → wY_writeNow_176 post (nI m) (nI b) n (nI i) f_delay f_crash f_cursor f_bad f_down f_waiting (nI nb) f_noteFor (rd_nF (rd_st HE MK B nb n0 n1 n2 i)) (rd_nF HE) (rd_nF MK) a_there (rd_on MP) a_waitsFor a_waits (rd_nt n0 n1 n2) a_worth
  | _, _, 0, _, h => by omega
  | 0, i, n + 1, h, _ => by
    have : i = 3 := by omega
    subst this
    unfold wY_writeNow_176
    refine br_t (by decide) ⟨vp_in_nI hm (by omega), ?_⟩
    rw [nI_clamp (by omega), ← rd_m1 b, rd_upO _ _ hm]
    exact nm_e hp
  | d + 1, i, n + 1, h, hn => by
    unfold wY_writeNow_176
    refine br_f (nI_ge (b := 3) (by omega) (by decide)) (rd_y_pn hH hM (by omega) hnb (nm_r (nI_1 i) ?_))
    exact rd_y_w176 hH hM hnb hm hp d (i + 1) n (by omega) (by omega)
theorem rd_y_w134 {post : Int32 → SY → Prop} {t : Nat} (hH : ∀ d, HE d ≤ 2) (hM : ∀ d, MK d ≤ 16) (hnb : nb < 64) (ht : t ≤ 2) (hp : post (-4) (f_delay, (-1), f_cursor, f_bad, 1, 0, nI nb, f_noteFor, rd_nF (rd_st HE MK B nb n0 n1 n2 t), rd_nF HE, rd_nF MK, a_there, a_on, a_waitsFor, a_waits, rd_nt n0 n1 n2, a_worth)) : ∀ (d i n : Nat), i + d = t → d < n → wY_writeNow_134 post n (nI i) f_delay (nI t) f_cursor f_bad f_down f_waiting (nI nb) f_noteFor (rd_nF (rd_st HE MK B nb n0 n1 n2 i)) (rd_nF HE) (rd_nF MK) a_there a_on a_waitsFor a_waits (rd_nt n0 n1 n2) a_worth
  | _, _, 0, _, h => by omega
  | 0, i, n + 1, h, _ => by
    have : i = t := by omega
    subst this
    unfold wY_writeNow_134
    exact br_t (Int32.le_refl _) hp
  | d + 1, i, n + 1, h, hn => by
    unfold wY_writeNow_134
    refine br_f (nI_ge (by omega) (by omega)) (rd_y_pn hH hM (by omega) hnb (nm_r (nI_1 i) ?_))
    exact rd_y_w134 hH hM hnb ht hp d (i + 1) n (by omega) (by omega)
theorem rd_y_r16 {post : Int32 → SY → Prop} (hH : ∀ d, HE d ≤ 2) (hM : ∀ d, MK d ≤ 16) (hnb : nb < 64) (hm : nm < 120) (hp : post 1 (f_delay, f_crash, f_cursor, f_bad, f_down, f_waiting, nI nb, nI nm, rd_nF (rd_st HE MK B nb n0 n1 n2 3), rd_nF HE, rd_nF MK, a_there, rd_on (rd_u MP nm (nb + 1)), a_waitsFor, a_waits, rd_nt n0 n1 n2, a_worth)) : ∀ (d i n : Nat), i + d = 3 → d < n → wY_recover_16 post n (nI i) f_delay f_crash f_cursor f_bad f_down f_waiting (nI nb) (nI nm) (rd_nF (rd_st HE MK B nb n0 n1 n2 i)) (rd_nF HE) (rd_nF MK) a_there (rd_on MP) a_waitsFor a_waits (rd_nt n0 n1 n2) a_worth
  | _, _, 0, _, h => by omega
  | 0, i, n + 1, h, _ => by
    have : i = 3 := by omega
    subst this
    unfold wY_recover_16
    refine br_t (by decide) ⟨vp_in_nI hm (by omega), ?_⟩
    rw [nI_clamp (by omega), show upd (rd_on MP) nm (nI nb) = rd_on (rd_u MP nm (nb + 1)) by rw [← rd_m1 nb, rd_upO _ _ hm]]
    exact nm_e hp
  | d + 1, i, n + 1, h, hn => by
    unfold wY_recover_16
    refine br_f (nI_ge (b := 3) (by omega) (by decide)) (rd_y_pn hH hM (by omega) hnb (nm_r (nI_1 i) ?_))
    exact rd_y_r16 hH hM hnb hm hp d (i + 1) n (by omega) (by omega)
end
end
section
/-! through and writeNow: one outcome -/
def rd_I (dl w nx nb nm n0 n1 n2 : Nat) (cr dn : Int32) (B HE MK : Nat → Nat) (VT : Nat → Bool) (MP WM WV : Nat → Nat) : Prop :=
  (dl ≤ 6 ∧ w ≤ dl ∧ nx < 16) ∧ (nb < 64 ∧ nm < 120 ∧ n0 < 256 ∧ n1 < 256 ∧ n2 < 256) ∧ (cr = -1 ∨ ∃ t, t ≤ 2 ∧ cr = nI t) ∧ (¬ dn = 0 → VT (nm / 20) = true) ∧ (∀ j, B j < 256) ∧ (∀ d, HE d ≤ 2) ∧ (∀ d, MK d ≤ 16) ∧ (∀ d, HE d = 2 → MK d ≤ 15) ∧ (∀ m, MP m ≤ 64) ∧ (∀ v, v < 6 → VT v = false → ∀ l, l < 20 → MP (20 * v + l) = 0) ∧ (∀ i, WM i < 120) ∧ (∀ i, WV i < 256) ∧ (∀ i, i < w → VT (WM i / 20) = true)
/-- the block that a write for m goes to; 64 if there is none -/
def rd_tb (MP : Nat → Nat) (m : Nat) : Nat := if MP m = 0 then rd_lf MP else if 1 < rd_ct MP (MP m - 1) then rd_lf MP else MP m - 1
theorem rd_lf_le (MP : Nat → Nat) : rd_lf MP ≤ 64 := by have := rd_lff_le (rd_fz MP) 64 0; unfold rd_lf; omega
theorem rd_tb_le {MP : Nat → Nat} (hM : ∀ m, MP m ≤ 64) (m : Nat) : rd_tb MP m ≤ 64 := by
  have := rd_lf_le MP
  have := hM m
  unfold rd_tb
  split
  · omega
  · split <;> omega
theorem rd_lI_v {b : Nat} (h : b < 64) : rd_lI b = nI b := if_neg (by omega)
def rd_f1 (HE MK B : Nat → Nat) (b v : Nat) : Nat → Nat := rd_u (rd_wv HE MK B (b / 4)) (b % 4) v
def rd_p1 (HE MK B : Nat → Nat) (b v : Nat) : Nat := rd_sz (rd_f1 HE MK B b v) 4
def rd_q1 (HE MK B : Nat → Nat) (b v : Nat) : Nat := rd_wz (rd_f1 HE MK B b v) 4
def rd_o1 (HE MK B : Nat → Nat) (b v : Nat) (WO : Nat → Int32) : Nat → Int32 := rd_n (rd_u (rd_F6 HE MK B (b / 4) (rd_wv HE MK B (b / 4))) (b % 4) v) 6 WO
theorem rd_f1_lt {HE MK B : Nat → Nat} {b v : Nat} (hB : ∀ j, B j < 256) (hv : v < 256) (k : Nat) : rd_f1 HE MK B b v k < 256 := rd_u_lt (rd_wv_lt hB) hv k
theorem rd_p1_lt {HE MK B : Nat → Nat} {b v : Nat} (hB : ∀ j, B j < 256) (hv : v < 256) : rd_p1 HE MK B b v < 256 := rd_sz_lt (rd_f1_lt hB hv) 4
theorem rd_q1_lt {HE MK B : Nat → Nat} {b v : Nat} (hB : ∀ j, B j < 256) (hv : v < 256) : rd_q1 HE MK B b v < 256 := rd_wz_lt (rd_f1_lt hB hv) 4
theorem rd_nt_u (n0 n1 n2 a b c : Nat) : upd (upd (upd (rd_nt n0 n1 n2) 0 (nI a)) 1 (nI b)) 2 (nI c) = rd_nt a b c := by
  funext j
  show (if j = 2 then nI c else if j = 1 then nI b else if j = 0 then nI a else rd_nt n0 n1 n2 j) = if j = 0 then nI a else if j = 1 then nI b else if j = 2 then nI c else 0
  by_cases h0 : j = 0
  · subst h0; rfl
  · by_cases h1 : j = 1
    · subst h1; rfl
    · by_cases h2 : j = 2
      · subst h2; rfl
      · unfold rd_nt
        rw [if_neg h2, if_neg h1, if_neg h0, if_neg h0, if_neg h1, if_neg h2, if_neg h0, if_neg h1, if_neg h2]
theorem rd_ne1 {t : Nat} (h : t ≤ 2) : ¬ (-1 : Int32) = nI t := fun e => absurd (show nI t < 0 by rw [← e]; decide) (nI_pos (by omega))
section
variable {dl w nx nb nm n0 n1 n2 : Nat} {cr bd dn : Int32} {B HE MK : Nat → Nat} {VT : Nat → Bool} {MP WM WV : Nat → Nat} {DA WO : Nat → Int32}
theorem rd_x_t28 {post : Int32 → SX → Prop} {m v b : Nat} (hB : ∀ j, B j < 256) (hM : ∀ m, MP m ≤ 64) (hcr : cr = -1 ∨ ∃ t, t ≤ 2 ∧ cr = nI t) (hm : m < 120) (hv : v < 256) (hb : b < 64)
    (h3 : rd_ls HE MK (b / 4) = true → post (-3) (nI (rd_k VT 6), lN (rd_k (rd_fz MP) 64), nI (rd_c (rd_sh MP) 64), cr, nI nx, bd, dn, nI nm, nI nb, nI n0, nI n1, nI n2, nI w, nI dl, rd_bF B, rd_nF HE, rd_nF MK, rd_th HE MK, rd_PW, rd_PL, rd_nF MP, rd_uF MP, DA, rd_nF WM, rd_nF WV))
    (hc : rd_ls HE MK (b / 4) = false → cr = -1 → post 0 (nI (rd_k VT 6), lN (rd_k (rd_fz (rd_u MP m (b + 1))) 64), nI (rd_c (rd_sh (rd_u MP m (b + 1))) 64), (-1), nI nx, bd, dn, nI m, nI b, nI v, nI (rd_p1 HE MK B b v), nI (rd_q1 HE MK B b v), nI w, nI dl, rd_bF (rd_st HE MK B b v (rd_p1 HE MK B b v) (rd_q1 HE MK B b v) 3), rd_nF HE, rd_nF MK, rd_th HE MK, rd_PW, rd_PL, rd_nF (rd_u MP m (b + 1)), rd_uF (rd_u MP m (b + 1)), (rd_4 (rd_f1 HE MK B b v) DA), rd_nF WM, rd_nF WV))
    (hd : rd_ls HE MK (b / 4) = false → ∀ t, t ≤ 2 → cr = nI t → post (-4) (nI (rd_k VT 6), lN (rd_k (rd_fz MP) 64), nI (rd_c (rd_sh MP) 64), (-1), nI nx, bd, 1, nI m, nI b, nI v, nI (rd_p1 HE MK B b v), nI (rd_q1 HE MK B b v), nI 0, nI dl, rd_bF (rd_st HE MK B b v (rd_p1 HE MK B b v) (rd_q1 HE MK B b v) t), rd_nF HE, rd_nF MK, rd_th HE MK, rd_PW, rd_PL, rd_nF MP, rd_uF MP, (rd_4 (rd_f1 HE MK B b v) DA), rd_nF WM, rd_nF WV)) :
    wX_through_28 post (nI m) (nI v) (nI b) (nI (rd_k VT 6)) (lN (rd_k (rd_fz MP) 64)) (nI (rd_c (rd_sh MP) 64)) cr (nI nx) bd dn (nI nm) (nI nb) (nI n0) (nI n1) (nI n2) (nI w) (nI dl) (rd_bF B) (rd_nF HE) (rd_nF MK) (rd_th HE MK) rd_PW rd_PL (rd_nF MP) (rd_uF MP) DA (rd_nF WM) (rd_nF WV) := by
  unfold wX_through_28
  rw [rd_b4 hb]
  refine br_t (nI_pos' (by omega)) (nm_e (rd_x_lost (by omega) (rd_brb _ rfl (fun hl => ?_) (fun hl => h3 hl))))
  refine rd_x_gather hB (by omega) hl ?_
  have e3 := rd_a3 hb
  dsimp only
  rw [e3]
  refine ⟨vp_in_nI (by omega) (by omega), ?_⟩
  rw [nI_clamp (by omega), rd_up4 v (by omega)]
  refine nm_e (rd_x_sum (rd_f1 HE MK B b v) (rd_x_wei (f := rd_f1 HE MK B b v) (fun k _ => rd_f1_lt hB hv k) ?_))
  rcases hcr with e | ⟨t, ht, e⟩
  · have hc' := hc hl e
    subst e
    refine br_f (by decide) ?_
    unfold wX_through_121
    refine rd_x_store (t := 3) (by decide) hb (br_t (by decide) (rd_x_settle hM hm hb ?_))
    exact hc'
  · have hd' := hd hl t ht e
    subst e
    refine br_t (nI_pos' (by omega)) ?_
    unfold wX_through_121
    refine rd_x_store (t := t) (by omega) hb (br_f (nI_pos (by omega)) ?_)
    exact hd'
theorem rd_y_w42 {post : Int32 → SY → Prop} {m v b : Nat} (hB : ∀ j, B j < 256) (hH : ∀ d, HE d ≤ 2) (hK : ∀ d, MK d ≤ 16) (hcr : cr = -1 ∨ ∃ t, t ≤ 2 ∧ cr = nI t) (hm : m < 120) (hv : v < 256) (hb : b < 64)
    (h3 : rd_ls HE MK (b / 4) = true → post (-3) (nI dl, cr, nI nx, bd, dn, nI w, nI nb, nI nm, rd_nF B, rd_nF HE, rd_nF MK, rd_vF VT, rd_on MP, rd_nF WM, rd_nF WV, rd_nt n0 n1 n2, WO))
    (hc : rd_ls HE MK (b / 4) = false → cr = -1 → post 0 (nI dl, (-1), nI nx, bd, dn, nI w, nI b, nI m, rd_nF (rd_st HE MK B b v (rd_p1 HE MK B b v) (rd_q1 HE MK B b v) 3), rd_nF HE, rd_nF MK, rd_vF VT, rd_on (rd_u MP m (b + 1)), rd_nF WM, rd_nF WV, rd_nt v (rd_p1 HE MK B b v) (rd_q1 HE MK B b v), (rd_o1 HE MK B b v WO)))
    (hd : rd_ls HE MK (b / 4) = false → ∀ t, t ≤ 2 → cr = nI t → post (-4) (nI dl, (-1), nI nx, bd, 1, nI 0, nI b, nI m, rd_nF (rd_st HE MK B b v (rd_p1 HE MK B b v) (rd_q1 HE MK B b v) t), rd_nF HE, rd_nF MK, rd_vF VT, rd_on MP, rd_nF WM, rd_nF WV, rd_nt v (rd_p1 HE MK B b v) (rd_q1 HE MK B b v), (rd_o1 HE MK B b v WO))) :
    wY_writeNow_42 post (nI m) (nI v) (nI b) (nI dl) cr (nI nx) bd dn (nI w) (nI nb) (nI nm) (rd_nF B) (rd_nF HE) (rd_nF MK) (rd_vF VT) (rd_on MP) (rd_nF WM) (rd_nF WV) (rd_nt n0 n1 n2) WO := by
  unfold wY_writeNow_42
  have e1 : nI b / 4 = nI (b / 4) := pk_div (d := 4) (by omega) (by decide) (by decide)
  have e2 : nI b - nI b / 4 * 4 = nI (b % 4) := pk_rem (d := 4) (by omega) (by decide) (by decide)
  refine pk_eq b 64 (fun z => by omega) (fun _ => ⟨by decide, nm_r e1 ⟨by decide, nm_r e2 ?_⟩⟩)
  refine rd_y_lost hH hK (by omega) (rd_brb _ rfl (fun hl => ?_) (fun hl => h3 hl))
  refine rd_y_weigh hB hH hK (by omega) hl ?_
  have hf : ∀ k, k < 4 → rd_o1 HE MK B b v WO k = nI (rd_f1 HE MK B b v k) := by
    intro k hk
    unfold rd_o1
    rw [rd_nv (by omega)]
    congr 1
    unfold rd_f1 rd_u
    split
    · rfl
    · exact if_pos hk
  refine ⟨vp_in_nI (by omega) (by omega), ?_⟩
  rw [nI_clamp (by omega), rd_upn v (by omega)]
  refine nm_e (nm_e (rd_y_sum (rd_f1 HE MK B b v) hf (nm_e (rd_y_sop (rd_f1 HE MK B b v) (fun k _ => rd_f1_lt hB hv k) hf ?_))))
  refine nm_r (rd_nt_u n0 n1 n2 v (rd_p1 HE MK B b v) (rd_q1 HE MK B b v)) ?_
  rcases hcr with e | ⟨t, ht, e⟩
  · have hc' := hc hl e
    subst e
    exact br_t (by decide) ⟨4, rd_y_w176 hH hK hb hm hc' 3 0 4 rfl (by decide)⟩
  · have hd' := hd hl t ht e
    subst e
    exact br_f (nI_pos (by omega)) ⟨t + 1, rd_y_w134 hH hK hb ht hd' t 0 (t + 1) (by omega) (by omega)⟩
end
section
variable {f_volumes : Int32} {f_free : Int64} {f_shared : Int32} {f_crashAfter : Int32} {f_next : Int32} {f_bad : Int32} {f_down : Int32} {f_noteMap : Int32} {f_noteBlock : Int32} {f_noteData : Int32} {f_noteP : Int32} {f_noteQ : Int32} {f_waiting : Int32} {f_delay : Int32} {a_disk : Nat → Int32} {a_health : Nat → Int32} {a_mark : Nat → Int32} {a_there : Nat → Int32} {a_power : Nat → Int32} {a_place : Nat → Int32} {a_map : Nat → Int32} {a_uses : Nat → Int32} {a_data : Nat → Int32} {a_waitMap : Nat → Int32} {a_waitValue : Nat → Int32}
variable {MP : Nat → Nat}
theorem rd_x_tgt {post : Int32 → SX → Prop} {m : Nat} {p1 : Int32} (hM : ∀ m, MP m ≤ 64) (hm : m < 120) (h : wX_through_28 post (nI m) p1 (rd_lI (rd_tb MP m)) f_volumes (lN (rd_k (rd_fz MP) 64)) f_shared f_crashAfter f_next f_bad f_down f_noteMap f_noteBlock f_noteData f_noteP f_noteQ f_waiting f_delay a_disk a_health a_mark a_there a_power a_place (rd_nF MP) (rd_uF MP) a_data a_waitMap a_waitValue) : wpX_through post (f_volumes, lN (rd_k (rd_fz MP) 64), f_shared, f_crashAfter, f_next, f_bad, f_down, f_noteMap, f_noteBlock, f_noteData, f_noteP, f_noteQ, f_waiting, f_delay, a_disk, a_health, a_mark, a_there, a_power, a_place, rd_nF MP, rd_uF MP, a_data, a_waitMap, a_waitValue) (nI m) p1 := by
  unfold wpX_through
  dsimp only
  refine ⟨vp_in_nI hm (by omega), ?_⟩
  rw [nI_clamp (by omega)]
  have hm64 := hM m
  cases e : MP m with
  | zero =>
    refine nm_r (e' := -1) (by show nI (MP m) - 1 = -1; rw [e]; exact rd_m10) (br_t (by decide) ?_)
    unfold wX_through_23
    have : rd_tb MP m = rd_lf MP := if_pos e
    rw [this] at h
    exact rd_x_lf h
  | succ c =>
    refine nm_r (e' := nI c) (by show nI (MP m) - 1 = nI c; rw [e]; exact rd_m1 c) (br_f (nI_pos (by omega)) ⟨vp_in_nI (by omega) (by omega), ?_⟩)
    rw [nI_clamp (by omega), show rd_uF MP c = nI (rd_ct MP c) from if_pos (by omega)]
    have ec : MP m - 1 = c := by omega
    have hc := rd_ct_le MP c
    have t0 : rd_tb MP m = if 1 < rd_ct MP c then rd_lf MP else c := by
      unfold rd_tb
      rw [if_neg (by omega), ec]
    refine pk_le (rd_ct MP c) 1 (fun z => ?_) (fun z => ?_)
    · rw [t0, if_neg (by omega), rd_lI_v (by omega)] at h; exact h
    · rw [t0, if_pos z] at h
      unfold wX_through_23
      exact rd_x_lf h
end
section
variable {f_delay : Int32} {f_crash : Int32} {f_cursor : Int32} {f_bad : Int32} {f_down : Int32} {f_waiting : Int32} {f_noteBlock : Int32} {f_noteFor : Int32} {a_bytes : Nat → Int32} {a_health : Nat → Int32} {a_mark : Nat → Int32} {a_there : Nat → Int32} {a_on : Nat → Int32} {a_waitsFor : Nat → Int32} {a_waits : Nat → Int32} {a_note : Nat → Int32} {a_worth : Nat → Int32}
variable {MP : Nat → Nat}
theorem rd_y_w22 {post : Int32 → SY → Prop} {x1 x2 : Int32} (hM : ∀ m, MP m ≤ 64) : ∀ (d i n : Nat), i + d = 64 → d < n → wY_writeNow_42 post x1 x2 (nI (rd_lff (rd_fz MP) d i)) f_delay f_crash f_cursor f_bad f_down f_waiting f_noteBlock f_noteFor a_bytes a_health a_mark a_there (rd_on MP) a_waitsFor a_waits a_note a_worth → wY_writeNow_22 post x1 x2 f_delay f_crash f_cursor f_bad f_down f_waiting f_noteBlock f_noteFor a_bytes a_health a_mark a_there (rd_on MP) a_waitsFor a_waits a_note a_worth n (nI i)
  | _, _, 0, _, h, _ => by omega
  | 0, i, n + 1, h, _, hp => by
    have : i = 64 := by omega
    subst this
    unfold wY_writeNow_22
    exact br_t (by decide) hp
  | d + 1, i, n + 1, h, hn, hp => by
    unfold wY_writeNow_22
    refine br_f (nI_ge (b := 64) (by omega) (by decide)) (rd_y_users hM (by omega) ?_)
    have hc := rd_ct_le MP i
    unfold rd_lff at hp
    refine pk_le (rd_ct MP i) 0 (fun z => ?_) (fun z => nm_r (nI_1 i) ?_)
    · have z' : rd_fz MP i = true := decide_eq_true (by omega)
      rw [if_pos z'] at hp; exact hp
    · have : ¬ rd_fz MP i = true := fun q => by have := of_decide_eq_true q; omega
      rw [if_neg this] at hp
      exact rd_y_w22 hM d (i + 1) n (by omega) (by omega) hp
theorem rd_y_tgt {post : Int32 → SY → Prop} {m : Nat} {p1 : Int32} (hM : ∀ m, MP m ≤ 64) (hm : m < 120) (h : wY_writeNow_42 post (nI m) p1 (nI (rd_tb MP m)) f_delay f_crash f_cursor f_bad f_down f_waiting f_noteBlock f_noteFor a_bytes a_health a_mark a_there (rd_on MP) a_waitsFor a_waits a_note a_worth) : wpY_writeNow post (f_delay, f_crash, f_cursor, f_bad, f_down, f_waiting, f_noteBlock, f_noteFor, a_bytes, a_health, a_mark, a_there, rd_on MP, a_waitsFor, a_waits, a_note, a_worth) (nI m) p1 := by
  unfold wpY_writeNow
  dsimp only
  refine ⟨vp_in_nI hm (by omega), ?_⟩
  rw [nI_clamp (by omega), rd_on_v MP hm]
  have hm64 := hM m
  cases e : MP m with
  | zero =>
    refine nm_r rd_m10 (br_t (by decide) ?_)
    have : rd_tb MP m = rd_lf MP := if_pos e
    rw [this] at h
    exact ⟨65, rd_y_w22 hM 64 0 65 rfl (by decide) h⟩
  | succ c =>
    refine nm_r (rd_m1 c) (br_f (nI_pos (by omega)) (rd_y_users hM (by omega) ?_))
    have ec : MP m - 1 = c := by omega
    have hc := rd_ct_le MP c
    have t0 : rd_tb MP m = if 1 < rd_ct MP c then rd_lf MP else c := by
      unfold rd_tb
      rw [if_neg (by omega), ec]
    refine pk_le (rd_ct MP c) 1 (fun z => ?_) (fun z => ?_)
    · rw [t0, if_neg (by omega)] at h; exact h
    · rw [t0, if_pos z] at h
      exact ⟨65, rd_y_w22 hM 64 0 65 rfl (by decide) h⟩
end
section
variable {dl w nx nb nm n0 n1 n2 : Nat} {cr bd dn : Int32} {B HE MK : Nat → Nat} {VT : Nat → Bool} {MP WM WV : Nat → Nat} {DA WO : Nat → Int32}
theorem rd_jt {m v : Nat} (I : rd_I dl w nx nb nm n0 n1 n2 cr dn B HE MK VT MP WM WV) (hm : m < 120) (hV : VT (m / 20) = true) (hv : v < 256) :
    ∃ (r : Int32) (w' nb' nm' n0' n1' n2' : Nat) (cr' dn' : Int32) (B' MP' : Nat → Nat) (DA' WO' : Nat → Int32), rd_I dl w' nx nb' nm' n0' n1' n2' cr' dn' B' HE MK VT MP' WM WV ∧ (r = 0 → w' = w ∧ dn' = dn) ∧ (r = 0 ∨ r = -2 ∨ r = -3 ∨ r = -4) ∧
    (∀ post : Int32 → SX → Prop, post r (nI (rd_k VT 6), lN (rd_k (rd_fz MP') 64), nI (rd_c (rd_sh MP') 64), cr', nI nx, bd, dn', nI nm', nI nb', nI n0', nI n1', nI n2', nI w', nI dl, rd_bF B', rd_nF HE, rd_nF MK, rd_th HE MK, rd_PW, rd_PL, rd_nF MP', rd_uF MP', DA', rd_nF WM, rd_nF WV) → wpX_through post (nI (rd_k VT 6), lN (rd_k (rd_fz MP) 64), nI (rd_c (rd_sh MP) 64), cr, nI nx, bd, dn, nI nm, nI nb, nI n0, nI n1, nI n2, nI w, nI dl, rd_bF B, rd_nF HE, rd_nF MK, rd_th HE MK, rd_PW, rd_PL, rd_nF MP, rd_uF MP, DA, rd_nF WM, rd_nF WV) (nI m) (nI v)) ∧
    (∀ post : Int32 → SY → Prop, post r (nI dl, cr', nI nx, bd, dn', nI w', nI nb', nI nm', rd_nF B', rd_nF HE, rd_nF MK, rd_vF VT, rd_on MP', rd_nF WM, rd_nF WV, rd_nt n0' n1' n2', WO') → wpY_writeNow post (nI dl, cr, nI nx, bd, dn, nI w, nI nb, nI nm, rd_nF B, rd_nF HE, rd_nF MK, rd_vF VT, rd_on MP, rd_nF WM, rd_nF WV, rd_nt n0 n1 n2, WO) (nI m) (nI v)) := by
  have I0 := I
  obtain ⟨⟨i1, i2, i3⟩, ⟨i4, i5, i6, i7, i8⟩, i9, i10, iB, iH, iK, iK2, iM, iV, iW, iX, iY⟩ := I
  have ht := rd_tb_le iM m
  by_cases e : rd_tb MP m = 64
  · refine ⟨-2, w, nb, nm, n0, n1, n2, cr, dn, B, MP, DA, WO, I0, fun z => absurd z (by decide), by simp, fun post hp => ?_, fun post hp => ?_⟩
    · refine rd_x_tgt iM hm ?_
      rw [e]
      unfold wX_through_28
      exact br_f (by decide) hp
    · refine rd_y_tgt iM hm ?_
      rw [e]
      unfold wY_writeNow_42
      exact br_t rfl hp
  · have hb' : rd_tb MP m < 64 := by omega
    obtain ⟨b, hb, hX, hY⟩ : ∃ b, b < 64 ∧ (∀ post : Int32 → SX → Prop, wX_through_28 post (nI m) (nI v) (nI b) (nI (rd_k VT 6)) (lN (rd_k (rd_fz MP) 64)) (nI (rd_c (rd_sh MP) 64)) cr (nI nx) bd dn (nI nm) (nI nb) (nI n0) (nI n1) (nI n2) (nI w) (nI dl) (rd_bF B) (rd_nF HE) (rd_nF MK) (rd_th HE MK) rd_PW rd_PL (rd_nF MP) (rd_uF MP) DA (rd_nF WM) (rd_nF WV) → wpX_through post (nI (rd_k VT 6), lN (rd_k (rd_fz MP) 64), nI (rd_c (rd_sh MP) 64), cr, nI nx, bd, dn, nI nm, nI nb, nI n0, nI n1, nI n2, nI w, nI dl, rd_bF B, rd_nF HE, rd_nF MK, rd_th HE MK, rd_PW, rd_PL, rd_nF MP, rd_uF MP, DA, rd_nF WM, rd_nF WV) (nI m) (nI v)) ∧ (∀ post : Int32 → SY → Prop, wY_writeNow_42 post (nI m) (nI v) (nI b) (nI dl) cr (nI nx) bd dn (nI w) (nI nb) (nI nm) (rd_nF B) (rd_nF HE) (rd_nF MK) (rd_vF VT) (rd_on MP) (rd_nF WM) (rd_nF WV) (rd_nt n0 n1 n2) WO → wpY_writeNow post (nI dl, cr, nI nx, bd, dn, nI w, nI nb, nI nm, rd_nF B, rd_nF HE, rd_nF MK, rd_vF VT, rd_on MP, rd_nF WM, rd_nF WV, rd_nt n0 n1 n2, WO) (nI m) (nI v)) :=
      ⟨rd_tb MP m, hb', fun post h => rd_x_tgt iM hm (by rw [rd_lI_v hb']; exact h), fun post h => rd_y_tgt iM hm h⟩
    cases hl : rd_ls HE MK (b / 4) with
    | true =>
      refine ⟨-3, w, nb, nm, n0, n1, n2, cr, dn, B, MP, DA, WO, I0, fun z => absurd z (by decide), by simp, fun post hp => hX post ?_, fun post hp => hY post ?_⟩
      · exact rd_x_t28 iB iM i9 hm hv hb (fun _ => hp) (fun z => by rw [hl] at z; cases z) (fun z => by rw [hl] at z; cases z)
      · exact rd_y_w42 iB iH iK i9 hm hv hb (fun _ => hp) (fun z => by rw [hl] at z; cases z) (fun z => by rw [hl] at z; cases z)
    | false =>
      have p1 := rd_p1_lt (HE := HE) (MK := MK) (b := b) iB hv
      have q1 := rd_q1_lt (HE := HE) (MK := MK) (b := b) iB hv
      have hst := fun t => rd_st_lt (HE := HE) (MK := MK) (nb := b) iB hv p1 q1 t
      have n3 : rd_ls HE MK (b / 4) = true → False := fun z => by rw [hl] at z; cases z
      rcases i9 with e | ⟨t, ht, e⟩
      · refine ⟨0, w, b, m, v, rd_p1 HE MK B b v, rd_q1 HE MK B b v, -1, dn, rd_st HE MK B b v (rd_p1 HE MK B b v) (rd_q1 HE MK B b v) 3, rd_u MP m (b + 1), rd_4 (rd_f1 HE MK B b v) DA, rd_o1 HE MK B b v WO, ?_, fun _ => ⟨rfl, rfl⟩, Or.inl rfl, fun post hp => hX post ?_, fun post hp => hY post ?_⟩
        · refine ⟨⟨i1, i2, i3⟩, ⟨hb, hm, hv, p1, q1⟩, Or.inl rfl, fun _ => hV, hst 3, iH, iK, iK2, fun k => ?_, fun x hx hf l hl => ?_, iW, iX, iY⟩
          · by_cases z : k = m
            · subst z; rw [rd_us]; omega
            · rw [rd_un z]; exact iM k
          · by_cases z : 20 * x + l = m
            · subst z
              rw [show (20 * x + l) / 20 = x by omega, hf] at hV; cases hV
            · rw [rd_un z]; exact iV x hx hf l hl
        · exact rd_x_t28 iB iM (Or.inl e) hm hv hb (fun z => (n3 z).elim) (fun _ _ => hp) (fun _ t ht z => absurd (e.symm.trans z) (rd_ne1 ht))
        · exact rd_y_w42 iB iH iK (Or.inl e) hm hv hb (fun z => (n3 z).elim) (fun _ _ => hp) (fun _ t ht z => absurd (e.symm.trans z) (rd_ne1 ht))
      · refine ⟨-4, 0, b, m, v, rd_p1 HE MK B b v, rd_q1 HE MK B b v, -1, 1, rd_st HE MK B b v (rd_p1 HE MK B b v) (rd_q1 HE MK B b v) t, MP, rd_4 (rd_f1 HE MK B b v) DA, rd_o1 HE MK B b v WO, ?_, fun z => absurd z (by decide), by simp, fun post hp => hX post ?_, fun post hp => hY post ?_⟩
        · exact ⟨⟨i1, Nat.zero_le _, i3⟩, ⟨hb, hm, hv, p1, q1⟩, Or.inl rfl, fun _ => hV, hst t, iH, iK, iK2, iM, iV, iW, iX, fun i hi => by omega⟩
        · refine rd_x_t28 iB iM (Or.inr ⟨t, ht, e⟩) hm hv hb (fun z => (n3 z).elim) (fun _ z => absurd (z.symm.trans e) (rd_ne1 ht)) (fun _ t' ht' z => ?_)
          have : t = t' := (nI_eq (by omega) (by omega)).mp (e.symm.trans z)
          subst this; exact hp
        · refine rd_y_w42 iB iH iK (Or.inr ⟨t, ht, e⟩) hm hv hb (fun z => (n3 z).elim) (fun _ z => absurd (z.symm.trans e) (rd_ne1 ht)) (fun _ t' ht' z => ?_)
          have : t = t' := (nI_eq (by omega) (by omega)).mp (e.symm.trans z)
          subst this; exact hp
end
end
section
/-! what waits: waitsFor, leave; writeFirst and turn: one outcome -/
def rd_wff (WM : Nat → Nat) (m : Nat) : Nat → Nat → Int32
  | 0, _ => -1
  | d + 1, i => if WM i = m then nI i else rd_wff WM m d (i + 1)
def rd_wf (WM : Nat → Nat) (w m : Nat) : Int32 := rd_wff WM m w 0
theorem rd_wff_c {WM : Nat → Nat} {m : Nat} : ∀ (d i : Nat), rd_wff WM m d i = -1 ∨ ∃ k, k < i + d ∧ rd_wff WM m d i = nI k ∧ WM k = m
  | 0, _ => Or.inl rfl
  | d + 1, i => by
    unfold rd_wff
    by_cases e : WM i = m
    · rw [if_pos e]; exact Or.inr ⟨i, by omega, rfl, e⟩
    · rw [if_neg e]
      rcases rd_wff_c (WM := WM) (m := m) d (i + 1) with h | ⟨k, h1, h2, h3⟩
      · exact Or.inl h
      · exact Or.inr ⟨k, by omega, h2, h3⟩
theorem rd_wf_c (WM : Nat → Nat) (w m : Nat) : rd_wf WM w m = -1 ∨ ∃ k, k < w ∧ rd_wf WM w m = nI k ∧ WM k = m := by
  rcases rd_wff_c (WM := WM) (m := m) w 0 with h | ⟨k, h1, h2, h3⟩
  · exact Or.inl h
  · exact Or.inr ⟨k, by omega, h2, h3⟩
def rd_lv (f : Nat → Nat) (k w : Nat) : Nat → Nat := fun j => if k ≤ j ∧ j < w then f (j + 1) else f j
theorem rd_lv_0 (f : Nat → Nat) (k : Nat) : rd_lv f k k = f := by
  funext j; exact if_neg (by omega)
theorem rd_lv_s (f : Nat → Nat) {k j : Nat} (h : k ≤ j) : rd_u (rd_lv f k j) j (f (j + 1)) = rd_lv f k (j + 1) := by
  funext i
  show (if i = j then f (j + 1) else if k ≤ i ∧ i < j then f (i + 1) else f i) = if k ≤ i ∧ i < j + 1 then f (i + 1) else f i
  by_cases e : i = j
  · subst e; rw [if_pos rfl, if_pos (by omega)]
  · rw [if_neg e]
    by_cases z : k ≤ i ∧ i < j
    · rw [if_pos z, if_pos (by omega)]
    · rw [if_neg z, if_neg (by omega)]
theorem rd_lv_n (f : Nat → Nat) (k j : Nat) : rd_lv f k j (j + 1) = f (j + 1) := if_neg (by omega)
theorem rd_lv_lt {f : Nat → Nat} {k w N : Nat} (h : ∀ i, f i < N) (i : Nat) : rd_lv f k w i < N := by
  unfold rd_lv; split
  · exact h _
  · exact h _
section
variable {f_volumes : Int32} {f_free : Int64} {f_shared : Int32} {f_crashAfter : Int32} {f_next : Int32} {f_bad : Int32} {f_down : Int32} {f_noteMap : Int32} {f_noteBlock : Int32} {f_noteData : Int32} {f_noteP : Int32} {f_noteQ : Int32} {f_waiting : Int32} {f_delay : Int32} {a_disk : Nat → Int32} {a_health : Nat → Int32} {a_mark : Nat → Int32} {a_there : Nat → Int32} {a_power : Nat → Int32} {a_place : Nat → Int32} {a_map : Nat → Int32} {a_uses : Nat → Int32} {a_data : Nat → Int32} {a_waitMap : Nat → Int32} {a_waitValue : Nat → Int32}
variable {WM WV : Nat → Nat} {w m : Nat}
theorem rd_x_wf2 {post : Int32 → Prop} (hW : ∀ i, WM i < 120) (hm : m < 120) (hw : w ≤ 6) : ∀ (d i n : Nat), i + d = w → d < n → post (rd_wff WM m d i) → wX_waitsFor_2 post (nI m) f_volumes f_free f_shared f_crashAfter f_next f_bad f_down f_noteMap f_noteBlock f_noteData f_noteP f_noteQ (nI w) f_delay a_disk a_health a_mark a_there a_power a_place a_map a_uses a_data (rd_nF WM) a_waitValue n (nI i)
  | _, _, 0, _, h, _ => by omega
  | 0, i, n + 1, h, _, hp => by
    have : i = w := by omega
    subst this
    unfold wX_waitsFor_2
    exact br_t (Int32.le_refl _) hp
  | d + 1, i, n + 1, h, hn, hp => by
    unfold wX_waitsFor_2
    unfold rd_wff at hp
    have hi := hW i
    refine br_f (nI_ge (by omega) (by omega)) ⟨vp_in_nI (by omega) (by omega), ?_⟩
    rw [nI_clamp (by omega)]
    refine pk_eq (WM i) m (fun e => ?_) (fun e => nm_r (nI_1 i) ?_)
    · rw [if_pos e] at hp; exact hp
    · rw [if_neg e] at hp
      exact rd_x_wf2 hW hm hw d (i + 1) n (by omega) (by omega) hp
theorem rd_x_wf {post : Int32 → Prop} (hW : ∀ i, WM i < 120) (hm : m < 120) (hw : w ≤ 6) (hp : post (rd_wf WM w m)) : wpX_waitsFor post (f_volumes, f_free, f_shared, f_crashAfter, f_next, f_bad, f_down, f_noteMap, f_noteBlock, f_noteData, f_noteP, f_noteQ, nI w, f_delay, a_disk, a_health, a_mark, a_there, a_power, a_place, a_map, a_uses, a_data, rd_nF WM, a_waitValue) (nI m) := by
  unfold wpX_waitsFor
  dsimp only
  exact ⟨w + 1, rd_x_wf2 hW hm hw w 0 (w + 1) (by omega) (by omega) hp⟩
theorem rd_x_lv12 {post : SX → Prop} {k : Nat} (hW : ∀ i, WM i < 120) (hV : ∀ i, WV i < 256) (hw : w ≤ 5) (hp : post (f_volumes, f_free, f_shared, f_crashAfter, f_next, f_bad, f_down, f_noteMap, f_noteBlock, f_noteData, f_noteP, f_noteQ, nI w, f_delay, a_disk, a_health, a_mark, a_there, a_power, a_place, a_map, a_uses, a_data, rd_nF (rd_lv WM k w), rd_nF (rd_lv WV k w))) : ∀ (d j n : Nat) (f g : Nat → Int32), k ≤ j → j + d = w → d < n → f = rd_nF (rd_lv WM k j) → g = rd_nF (rd_lv WV k j) → wX_leave_12 post f_volumes f_free f_shared f_crashAfter f_next f_bad f_down f_noteMap f_noteBlock f_noteData f_noteP f_noteQ (nI w) f_delay n (nI j) a_disk a_health a_mark a_there a_power a_place a_map a_uses a_data f g
  | _, _, 0, _, _, _, _, h, _, _ => by omega
  | 0, j, n + 1, f, g, _, h, _, hf, hg => by
    subst hf hg
    have : j = w := by omega
    subst this
    unfold wX_leave_12
    exact br_t (Int32.le_refl _) hp
  | d + 1, j, n + 1, f, g, hk, h, hn, hf, hg => by
    subst hf hg
    unfold wX_leave_12
    have h6 : vp_in (nI j + 1) 6 := by rw [nI_1]; exact vp_in_nI (by omega) (by omega)
    have h5 : vp_in (nI j) 6 := vp_in_nI (by omega) (by omega)
    have hw1 := hW (j + 1)
    have hv1 := hV (j + 1)
    have a1 : upd (rd_nF (rd_lv WM k j)) (nI j).toNatClampNeg (vp_nar .byte (rd_nF (rd_lv WM k j) (nI j + 1).toNatClampNeg)) = rd_nF (rd_lv WM k (j + 1)) := by
      rw [nI_1, nI_clamp (by omega), nI_clamp (by omega)]
      show upd _ j (vp_nar .byte (nI (rd_lv WM k j (j + 1)))) = _
      rw [rd_lv_n, rd_nb' (by omega), rd_upN, rd_lv_s WM hk]
    have a2 : upd (rd_nF (rd_lv WV k j)) (nI j).toNatClampNeg (vp_nar .short (rd_nF (rd_lv WV k j) (nI j + 1).toNatClampNeg)) = rd_nF (rd_lv WV k (j + 1)) := by
      rw [nI_1, nI_clamp (by omega), nI_clamp (by omega)]
      show upd _ j (vp_nar .short (nI (rd_lv WV k j (j + 1)))) = _
      rw [rd_lv_n, rd_ns' (by omega), rd_upN, rd_lv_s WV hk]
    refine br_f (nI_ge (by omega) (by omega)) ⟨h6, h5, nm_r a1 ⟨h6, h5, nm_r a2 (nm_r (nI_1 j) ?_)⟩⟩
    exact rd_x_lv12 hW hV hw hp d (j + 1) n _ _ (by omega) (by omega) (by omega) rfl rfl
theorem rd_x_lv {post : SX → Prop} {k : Nat} (hW : ∀ i, WM i < 120) (hV : ∀ i, WV i < 256) (hw : w ≤ 5) (hk : k ≤ w) (hp : post (f_volumes, f_free, f_shared, f_crashAfter, f_next, f_bad, f_down, f_noteMap, f_noteBlock, f_noteData, f_noteP, f_noteQ, nI w, f_delay, a_disk, a_health, a_mark, a_there, a_power, a_place, a_map, a_uses, a_data, rd_nF (rd_lv WM k w), rd_nF (rd_lv WV k w))) : wpX_leave post (f_volumes, f_free, f_shared, f_crashAfter, f_next, f_bad, f_down, f_noteMap, f_noteBlock, f_noteData, f_noteP, f_noteQ, nI (w + 1), f_delay, a_disk, a_health, a_mark, a_there, a_power, a_place, a_map, a_uses, a_data, rd_nF WM, rd_nF WV) (nI k) := by
  unfold wpX_leave
  dsimp only
  refine nm_r (rd_m1 w) ⟨w - k + 1, ?_⟩
  exact rd_x_lv12 hW hV hw hp (w - k) k _ _ _ (Nat.le_refl _) (by omega) (by omega) (by rw [rd_lv_0]) (by rw [rd_lv_0])
end
section
variable {f_delay : Int32} {f_crash : Int32} {f_cursor : Int32} {f_bad : Int32} {f_down : Int32} {f_waiting : Int32} {f_noteBlock : Int32} {f_noteFor : Int32} {a_bytes : Nat → Int32} {a_health : Nat → Int32} {a_mark : Nat → Int32} {a_there : Nat → Int32} {a_on : Nat → Int32} {a_waitsFor : Nat → Int32} {a_waits : Nat → Int32} {a_note : Nat → Int32} {a_worth : Nat → Int32}
variable {WM WV : Nat → Nat} {w m : Nat}
theorem rd_y_wf2 {post : Int32 → Prop} (hW : ∀ i, WM i < 120) (hm : m < 120) (hw : w ≤ 6) : ∀ (d i n : Nat), i + d = w → d < n → post (rd_wff WM m d i) → wY_findWaiting_2 post (nI m) f_delay f_crash f_cursor f_bad f_down (nI w) f_noteBlock f_noteFor a_bytes a_health a_mark a_there a_on (rd_nF WM) a_waits a_note a_worth n (nI i)
  | _, _, 0, _, h, _ => by omega
  | 0, i, n + 1, h, _, hp => by
    have : i = w := by omega
    subst this
    unfold wY_findWaiting_2
    exact br_t (Int32.le_refl _) hp
  | d + 1, i, n + 1, h, hn, hp => by
    unfold wY_findWaiting_2
    unfold rd_wff at hp
    have hi := hW i
    refine br_f (nI_ge (by omega) (by omega)) ⟨vp_in_nI (by omega) (by omega), ?_⟩
    rw [nI_clamp (by omega)]
    refine pk_eq (WM i) m (fun e => ?_) (fun e => nm_r (nI_1 i) ?_)
    · rw [if_pos e] at hp; exact hp
    · rw [if_neg e] at hp
      exact rd_y_wf2 hW hm hw d (i + 1) n (by omega) (by omega) hp
theorem rd_y_wf {post : Int32 → Prop} (hW : ∀ i, WM i < 120) (hm : m < 120) (hw : w ≤ 6) (hp : post (rd_wf WM w m)) : wpY_findWaiting post (f_delay, f_crash, f_cursor, f_bad, f_down, nI w, f_noteBlock, f_noteFor, a_bytes, a_health, a_mark, a_there, a_on, rd_nF WM, a_waits, a_note, a_worth) (nI m) := by
  unfold wpY_findWaiting
  dsimp only
  exact ⟨w + 1, rd_y_wf2 hW hm hw w 0 (w + 1) (by omega) (by omega) hp⟩
theorem rd_y_lv12 {post : SY → Prop} {k : Nat} (hw : w ≤ 5) (hp : post (f_delay, f_crash, f_cursor, f_bad, f_down, nI w, f_noteBlock, f_noteFor, a_bytes, a_health, a_mark, a_there, a_on, rd_nF (rd_lv WM k w), rd_nF (rd_lv WV k w), a_note, a_worth)) : ∀ (d j n : Nat) (f g : Nat → Int32), k ≤ j → j + d = w → d < n → f = rd_nF (rd_lv WM k j) → g = rd_nF (rd_lv WV k j) → wY_forget_12 post f_delay f_crash f_cursor f_bad f_down (nI w) f_noteBlock f_noteFor n (nI j) a_bytes a_health a_mark a_there a_on f g a_note a_worth
  | _, _, 0, _, _, _, _, h, _, _ => by omega
  | 0, j, n + 1, f, g, _, h, _, hf, hg => by
    subst hf hg
    have : j = w := by omega
    subst this
    unfold wY_forget_12
    exact br_t (Int32.le_refl _) hp
  | d + 1, j, n + 1, f, g, hk, h, hn, hf, hg => by
    subst hf hg
    unfold wY_forget_12
    have h6 : vp_in (nI j + 1) 6 := by rw [nI_1]; exact vp_in_nI (by omega) (by omega)
    have h5 : vp_in (nI j) 6 := vp_in_nI (by omega) (by omega)
    have a1 : upd (rd_nF (rd_lv WM k j)) (nI j).toNatClampNeg (rd_nF (rd_lv WM k j) (nI j + 1).toNatClampNeg) = rd_nF (rd_lv WM k (j + 1)) := by
      rw [nI_1, nI_clamp (by omega), nI_clamp (by omega)]
      show upd _ j (nI (rd_lv WM k j (j + 1))) = _
      rw [rd_lv_n, rd_upN, rd_lv_s WM hk]
    have a2 : upd (rd_nF (rd_lv WV k j)) (nI j).toNatClampNeg (rd_nF (rd_lv WV k j) (nI j + 1).toNatClampNeg) = rd_nF (rd_lv WV k (j + 1)) := by
      rw [nI_1, nI_clamp (by omega), nI_clamp (by omega)]
      show upd _ j (nI (rd_lv WV k j (j + 1))) = _
      rw [rd_lv_n, rd_upN, rd_lv_s WV hk]
    refine br_f (nI_ge (by omega) (by omega)) ⟨h6, h5, nm_r a1 ⟨h6, h5, nm_r a2 (nm_r (nI_1 j) ?_)⟩⟩
    exact rd_y_lv12 hw hp d (j + 1) n _ _ (by omega) (by omega) (by omega) rfl rfl
theorem rd_y_lv {post : SY → Prop} {k : Nat} (hw : w ≤ 5) (hk : k ≤ w) (hp : post (f_delay, f_crash, f_cursor, f_bad, f_down, nI w, f_noteBlock, f_noteFor, a_bytes, a_health, a_mark, a_there, a_on, rd_nF (rd_lv WM k w), rd_nF (rd_lv WV k w), a_note, a_worth)) : wpY_forget post (f_delay, f_crash, f_cursor, f_bad, f_down, nI (w + 1), f_noteBlock, f_noteFor, a_bytes, a_health, a_mark, a_there, a_on, rd_nF WM, rd_nF WV, a_note, a_worth) (nI k) := by
  unfold wpY_forget
  dsimp only
  refine nm_r (rd_m1 w) ⟨w - k + 1, ?_⟩
  exact rd_y_lv12 hw hp (w - k) k _ _ _ (Nat.le_refl _) (by omega) (by omega) (by rw [rd_lv_0]) (by rw [rd_lv_0])
end
section
variable {dl w nx nb nm n0 n1 n2 : Nat} {cr bd dn : Int32} {B HE MK : Nat → Nat} {VT : Nat → Bool} {MP WM WV : Nat → Nat} {DA WO : Nat → Int32}
/-- one that waits less -/
theorem rd_I_lv {k : Nat} (I : rd_I dl (w + 1) nx nb nm n0 n1 n2 cr dn B HE MK VT MP WM WV) (hk : k ≤ w) : rd_I dl w nx nb nm n0 n1 n2 cr dn B HE MK VT MP (rd_lv WM k w) (rd_lv WV k w) := by
  obtain ⟨⟨i1, i2, i3⟩, i4, i9, i10, iB, iH, iK, iK2, iM, iV, iW, iX, iY⟩ := I
  refine ⟨⟨i1, by omega, i3⟩, i4, i9, i10, iB, iH, iK, iK2, iM, iV, rd_lv_lt iW, rd_lv_lt iX, fun i hi => ?_⟩
  unfold rd_lv
  split
  · exact iY _ (by omega)
  · exact iY _ (by omega)
theorem rd_jw {k : Nat} (I : rd_I dl w nx nb nm n0 n1 n2 cr dn B HE MK VT MP WM WV) (hk : k < w) :
    ∃ (r : Int32) (w' nb' nm' n0' n1' n2' : Nat) (cr' dn' : Int32) (B' MP' WM' WV' : Nat → Nat) (DA' WO' : Nat → Int32), rd_I dl w' nx nb' nm' n0' n1' n2' cr' dn' B' HE MK VT MP' WM' WV' ∧ (r = 0 → w' + 1 = w ∧ dn' = dn) ∧ (r = 0 ∨ r = -2 ∨ r = -3 ∨ r = -4) ∧
    (∀ post : Int32 → SX → Prop, post r (nI (rd_k VT 6), lN (rd_k (rd_fz MP') 64), nI (rd_c (rd_sh MP') 64), cr', nI nx, bd, dn', nI nm', nI nb', nI n0', nI n1', nI n2', nI w', nI dl, rd_bF B', rd_nF HE, rd_nF MK, rd_th HE MK, rd_PW, rd_PL, rd_nF MP', rd_uF MP', DA', rd_nF WM', rd_nF WV') → wpX_writeFirst post (nI (rd_k VT 6), lN (rd_k (rd_fz MP) 64), nI (rd_c (rd_sh MP) 64), cr, nI nx, bd, dn, nI nm, nI nb, nI n0, nI n1, nI n2, nI w, nI dl, rd_bF B, rd_nF HE, rd_nF MK, rd_th HE MK, rd_PW, rd_PL, rd_nF MP, rd_uF MP, DA, rd_nF WM, rd_nF WV) (nI k)) ∧
    (∀ post : Int32 → SY → Prop, post r (nI dl, cr', nI nx, bd, dn', nI w', nI nb', nI nm', rd_nF B', rd_nF HE, rd_nF MK, rd_vF VT, rd_on MP', rd_nF WM', rd_nF WV', rd_nt n0' n1' n2', WO') → wpY_turn post (nI dl, cr, nI nx, bd, dn, nI w, nI nb, nI nm, rd_nF B, rd_nF HE, rd_nF MK, rd_vF VT, rd_on MP, rd_nF WM, rd_nF WV, rd_nt n0 n1 n2, WO) (nI k)) := by
  have I0 := I
  obtain ⟨⟨i1, i2, i3⟩, i4, i9, i10, iB, iH, iK, iK2, iM, iV, iW, iX, iY⟩ := I
  have hv6 : vp_in (nI k) 6 := vp_in_nI (by omega) (by omega)
  obtain ⟨r, w', nb', nm', n0', n1', n2', cr', dn', B', MP', DA', WO', I', h0, hr, hX, hY⟩ := rd_jt (DA := DA) (WO := WO) (bd := bd) I0 (iW k) (iY k hk) (iX k)
  by_cases e : r = 0
  · obtain ⟨e1, e2⟩ := h0 e
    subst e1 e2
    obtain ⟨x, rfl⟩ : ∃ x, w' = x + 1 := ⟨w' - 1, by omega⟩
    refine ⟨r, x, nb', nm', n0', n1', n2', cr', dn', B', MP', rd_lv WM k x, rd_lv WV k x, DA', WO', rd_I_lv I' (by omega), fun _ => ⟨rfl, rfl⟩, hr, fun post hp => ?_, fun post hp => ?_⟩
    · unfold wpX_writeFirst
      dsimp only
      rw [nI_clamp (by omega)]
      refine ⟨hv6, hv6, hX _ (br_t e ?_)⟩
      exact rd_x_lv iW iX (by omega) (by omega) hp
    · unfold wpY_turn
      dsimp only
      rw [nI_clamp (by omega)]
      refine ⟨hv6, hv6, hY _ (br_t e ?_)⟩
      exact rd_y_lv (by omega) (by omega) hp
  · refine ⟨r, w', nb', nm', n0', n1', n2', cr', dn', B', MP', WM, WV, DA', WO', I', fun z => absurd z e, hr, fun post hp => ?_, fun post hp => ?_⟩
    · unfold wpX_writeFirst
      dsimp only
      rw [nI_clamp (by omega)]
      exact ⟨hv6, hv6, hX _ (br_f e hp)⟩
    · unfold wpY_turn
      dsimp only
      rw [nI_clamp (by omega)]
      exact ⟨hv6, hv6, hY _ (br_f e hp)⟩
end
end
section
/-! the relation -/
def i_Rel (_ : Nat) (u : SX) (v : SY) : Prop := ∃ (dl w nx nb nm n0 n1 n2 : Nat) (cr bd dn : Int32) (B HE MK : Nat → Nat) (VT : Nat → Bool) (MP WM WV : Nat → Nat) (DA WO : Nat → Int32), rd_I dl w nx nb nm n0 n1 n2 cr dn B HE MK VT MP WM WV ∧ u = (nI (rd_k VT 6), lN (rd_k (rd_fz MP) 64), nI (rd_c (rd_sh MP) 64), cr, nI nx, bd, dn, nI nm, nI nb, nI n0, nI n1, nI n2, nI w, nI dl, rd_bF B, rd_nF HE, rd_nF MK, rd_th HE MK, rd_PW, rd_PL, rd_nF MP, rd_uF MP, DA, rd_nF WM, rd_nF WV) ∧ v = (nI dl, cr, nI nx, bd, dn, nI w, nI nb, nI nm, rd_nF B, rd_nF HE, rd_nF MK, rd_vF VT, rd_on MP, rd_nF WM, rd_nF WV, rd_nt n0 n1 n2, WO)
theorem i_up {k : Nat} {u : SX} {v : SY} (h : i_Rel k u v) : i_Rel (k + 4) u v := h
theorem rd_el {P : SX → SY → Prop} {k : Nat} {u : SX} {v : SY} (h : ∀ (dl w nx nb nm n0 n1 n2 : Nat) (cr bd dn : Int32) (B HE MK : Nat → Nat) (VT : Nat → Bool) (MP WM WV : Nat → Nat) (DA WO : Nat → Int32), rd_I dl w nx nb nm n0 n1 n2 cr dn B HE MK VT MP WM WV → P (nI (rd_k VT 6), lN (rd_k (rd_fz MP) 64), nI (rd_c (rd_sh MP) 64), cr, nI nx, bd, dn, nI nm, nI nb, nI n0, nI n1, nI n2, nI w, nI dl, rd_bF B, rd_nF HE, rd_nF MK, rd_th HE MK, rd_PW, rd_PL, rd_nF MP, rd_uF MP, DA, rd_nF WM, rd_nF WV) (nI dl, cr, nI nx, bd, dn, nI w, nI nb, nI nm, rd_nF B, rd_nF HE, rd_nF MK, rd_vF VT, rd_on MP, rd_nF WM, rd_nF WV, rd_nt n0 n1 n2, WO)) (I : i_Rel k u v) : P u v := by
  obtain ⟨dl, w, nx, nb, nm, n0, n1, n2, cr, bd, dn, B, HE, MK, VT, MP, WM, WV, DA, WO, hI, e1, e2⟩ := I
  rw [e1, e2]
  exact h dl w nx nb nm n0 n1 n2 cr bd dn B HE MK VT MP WM WV DA WO hI
section
variable {dl w nx nb nm n0 n1 n2 : Nat} {cr bd dn : Int32} {B HE MK : Nat → Nat} {VT : Nat → Bool} {MP WM WV : Nat → Nat} {DA WO : Nat → Int32}
theorem rd_mk {k : Nat} (I : rd_I dl w nx nb nm n0 n1 n2 cr dn B HE MK VT MP WM WV) : i_Rel k (nI (rd_k VT 6), lN (rd_k (rd_fz MP) 64), nI (rd_c (rd_sh MP) 64), cr, nI nx, bd, dn, nI nm, nI nb, nI n0, nI n1, nI n2, nI w, nI dl, rd_bF B, rd_nF HE, rd_nF MK, rd_th HE MK, rd_PW, rd_PL, rd_nF MP, rd_uF MP, DA, rd_nF WM, rd_nF WV) (nI dl, cr, nI nx, bd, dn, nI w, nI nb, nI nm, rd_nF B, rd_nF HE, rd_nF MK, rd_vF VT, rd_on MP, rd_nF WM, rd_nF WV, rd_nt n0 n1 n2, WO) := ⟨dl, w, nx, nb, nm, n0, n1, n2, cr, bd, dn, B, HE, MK, VT, MP, WM, WV, DA, WO, I, rfl, rfl⟩
end
theorem rd_fin {k : Nat} {PX : (Int32 → SX → Prop) → Prop} {PY : (Int32 → SY → Prop) → Prop} (h : ∃ (r : Int32) (u' : SX) (v' : SY), i_Rel k u' v' ∧ (∀ post : Int32 → SX → Prop, post r u' → PX post) ∧ (∀ post : Int32 → SY → Prop, post r v' → PY post)) : PX (fun r u' => PY (fun r' v' => r' = r ∧ i_Rel k u' v')) := by
  obtain ⟨r, u', v', hR, hX, hY⟩ := h
  exact hX _ (hY _ ⟨rfl, hR⟩)
theorem rd_in_lo {post : Int32 → Prop} {x a b : Int32} (h : x < a) (hp : post 0) : wpY_in post x a b := br_t h hp
theorem rd_in_hi {post : Int32 → Prop} {x a b : Int32} (h : ¬ x < a) (h' : b < x) (hp : post 0) : wpY_in post x a b := br_f h (br_t h' hp)
theorem rd_in_ok {post : Int32 → Prop} {x a b : Int32} (h : ¬ x < a) (h' : ¬ b < x) (hp : post 1) : wpY_in post x a b := br_f h (br_f h' hp)
theorem i_vc_delay {k : Nat} {u : SX} {v : SY} (I : i_Rel k u v) (hk : k + 4 ≤ 2048) (v1 : Int32) : wpX_delay (fun r u' => wpY_delay (fun r' v' => r' = r ∧ i_Rel (k + 4) u' v') v v1) u v1 := by
  refine rd_el (P := fun u v => wpX_delay (fun r u' => wpY_delay (fun r' v' => r' = r ∧ i_Rel (k + 4) u' v') v v1) u v1) ?_ I
  clear I u v
  intro dl w nx nb nm n0 n1 n2 cr bd dn B HE MK VT MP WM WV DA WO I
  refine rd_fin (PX := fun post => wpX_delay post (nI (rd_k VT 6), lN (rd_k (rd_fz MP) 64), nI (rd_c (rd_sh MP) 64), cr, nI nx, bd, dn, nI nm, nI nb, nI n0, nI n1, nI n2, nI w, nI dl, rd_bF B, rd_nF HE, rd_nF MK, rd_th HE MK, rd_PW, rd_PL, rd_nF MP, rd_uF MP, DA, rd_nF WM, rd_nF WV) v1) (PY := fun post => wpY_delay post (nI dl, cr, nI nx, bd, dn, nI w, nI nb, nI nm, rd_nF B, rd_nF HE, rd_nF MK, rd_vF VT, rd_on MP, rd_nF WM, rd_nF WV, rd_nt n0 n1 n2, WO) v1) ?_
  by_cases h0 : v1 < 0
  · exact ⟨0, (nI (rd_k VT 6), lN (rd_k (rd_fz MP) 64), nI (rd_c (rd_sh MP) 64), cr, nI nx, bd, dn, nI nm, nI nb, nI n0, nI n1, nI n2, nI w, nI dl, rd_bF B, rd_nF HE, rd_nF MK, rd_th HE MK, rd_PW, rd_PL, rd_nF MP, rd_uF MP, DA, rd_nF WM, rd_nF WV), (nI dl, cr, nI nx, bd, dn, nI w, nI nb, nI nm, rd_nF B, rd_nF HE, rd_nF MK, rd_vF VT, rd_on MP, rd_nF WM, rd_nF WV, rd_nt n0 n1 n2, WO), rd_mk I, fun post hp => br_t h0 hp, fun post hp => by unfold wpY_delay; exact rd_in_lo h0 (br_t rfl hp)⟩
  by_cases h6 : 6 < v1
  · exact ⟨0, (nI (rd_k VT 6), lN (rd_k (rd_fz MP) 64), nI (rd_c (rd_sh MP) 64), cr, nI nx, bd, dn, nI nm, nI nb, nI n0, nI n1, nI n2, nI w, nI dl, rd_bF B, rd_nF HE, rd_nF MK, rd_th HE MK, rd_PW, rd_PL, rd_nF MP, rd_uF MP, DA, rd_nF WM, rd_nF WV), (nI dl, cr, nI nx, bd, dn, nI w, nI nb, nI nm, rd_nF B, rd_nF HE, rd_nF MK, rd_vF VT, rd_on MP, rd_nF WM, rd_nF WV, rd_nt n0 n1 n2, WO), rd_mk I, fun post hp => br_f h0 (br_t h6 hp), fun post hp => by unfold wpY_delay; exact rd_in_hi h0 h6 (br_t rfl hp)⟩
  by_cases hw : nI w ≤ v1
  · obtain ⟨j, hj, rfl⟩ := nI_of2 (M := 6) (n := 6) (by decide) h0 (Int32.not_lt.mp h6)
    refine ⟨1, (nI (rd_k VT 6), lN (rd_k (rd_fz MP) 64), nI (rd_c (rd_sh MP) 64), cr, nI nx, bd, dn, nI nm, nI nb, nI n0, nI n1, nI n2, nI w, nI j, rd_bF B, rd_nF HE, rd_nF MK, rd_th HE MK, rd_PW, rd_PL, rd_nF MP, rd_uF MP, DA, rd_nF WM, rd_nF WV), (nI j, cr, nI nx, bd, dn, nI w, nI nb, nI nm, rd_nF B, rd_nF HE, rd_nF MK, rd_vF VT, rd_on MP, rd_nF WM, rd_nF WV, rd_nt n0 n1 n2, WO), rd_mk ?_, fun post hp => br_f h0 (br_f h6 (br_t hw hp)), fun post hp => by unfold wpY_delay; exact rd_in_ok h0 h6 (br_f (by decide) (br_t hw hp))⟩
    obtain ⟨⟨i1, i2, i3⟩, i4, i9⟩ := I
    exact ⟨⟨hj, (nI_leI (by omega) (by omega)).mp hw, i3⟩, i4, i9⟩
  · exact ⟨0, (nI (rd_k VT 6), lN (rd_k (rd_fz MP) 64), nI (rd_c (rd_sh MP) 64), cr, nI nx, bd, dn, nI nm, nI nb, nI n0, nI n1, nI n2, nI w, nI dl, rd_bF B, rd_nF HE, rd_nF MK, rd_th HE MK, rd_PW, rd_PL, rd_nF MP, rd_uF MP, DA, rd_nF WM, rd_nF WV), (nI dl, cr, nI nx, bd, dn, nI w, nI nb, nI nm, rd_nF B, rd_nF HE, rd_nF MK, rd_vF VT, rd_on MP, rd_nF WM, rd_nF WV, rd_nt n0 n1 n2, WO), rd_mk I, fun post hp => br_f h0 (br_f h6 (br_f hw hp)), fun post hp => by unfold wpY_delay; exact rd_in_ok h0 h6 (br_f (by decide) (br_f hw hp))⟩
theorem i_vc_crash {k : Nat} {u : SX} {v : SY} (I : i_Rel k u v) (hk : k + 4 ≤ 2048) (v1 : Int32) : wpX_crash (fun r u' => wpY_crash (fun r' v' => r' = r ∧ i_Rel (k + 4) u' v') v v1) u v1 := by
  refine rd_el (P := fun u v => wpX_crash (fun r u' => wpY_crash (fun r' v' => r' = r ∧ i_Rel (k + 4) u' v') v v1) u v1) ?_ I
  clear I u v
  intro dl w nx nb nm n0 n1 n2 cr bd dn B HE MK VT MP WM WV DA WO I
  refine rd_fin (PX := fun post => wpX_crash post (nI (rd_k VT 6), lN (rd_k (rd_fz MP) 64), nI (rd_c (rd_sh MP) 64), cr, nI nx, bd, dn, nI nm, nI nb, nI n0, nI n1, nI n2, nI w, nI dl, rd_bF B, rd_nF HE, rd_nF MK, rd_th HE MK, rd_PW, rd_PL, rd_nF MP, rd_uF MP, DA, rd_nF WM, rd_nF WV) v1) (PY := fun post => wpY_crash post (nI dl, cr, nI nx, bd, dn, nI w, nI nb, nI nm, rd_nF B, rd_nF HE, rd_nF MK, rd_vF VT, rd_on MP, rd_nF WM, rd_nF WV, rd_nt n0 n1 n2, WO) v1) ?_
  by_cases h0 : v1 < -1
  · exact ⟨0, (nI (rd_k VT 6), lN (rd_k (rd_fz MP) 64), nI (rd_c (rd_sh MP) 64), cr, nI nx, bd, dn, nI nm, nI nb, nI n0, nI n1, nI n2, nI w, nI dl, rd_bF B, rd_nF HE, rd_nF MK, rd_th HE MK, rd_PW, rd_PL, rd_nF MP, rd_uF MP, DA, rd_nF WM, rd_nF WV), (nI dl, cr, nI nx, bd, dn, nI w, nI nb, nI nm, rd_nF B, rd_nF HE, rd_nF MK, rd_vF VT, rd_on MP, rd_nF WM, rd_nF WV, rd_nt n0 n1 n2, WO), rd_mk I, fun post hp => br_t h0 hp, fun post hp => by unfold wpY_crash; exact rd_in_lo h0 (br_t rfl hp)⟩
  by_cases h6 : v1 ≤ 2
  · refine ⟨1, (nI (rd_k VT 6), lN (rd_k (rd_fz MP) 64), nI (rd_c (rd_sh MP) 64), v1, nI nx, bd, dn, nI nm, nI nb, nI n0, nI n1, nI n2, nI w, nI dl, rd_bF B, rd_nF HE, rd_nF MK, rd_th HE MK, rd_PW, rd_PL, rd_nF MP, rd_uF MP, DA, rd_nF WM, rd_nF WV), (nI dl, v1, nI nx, bd, dn, nI w, nI nb, nI nm, rd_nF B, rd_nF HE, rd_nF MK, rd_vF VT, rd_on MP, rd_nF WM, rd_nF WV, rd_nt n0 n1 n2, WO), rd_mk ?_, fun post hp => br_f h0 (br_t h6 hp), fun post hp => by unfold wpY_crash; exact rd_in_ok h0 (Int32.not_lt.mpr h6) (br_f (by decide) hp)⟩
    obtain ⟨i1, i4, _, i10⟩ := I
    refine ⟨i1, i4, ?_, i10⟩
    by_cases hn : v1 < 0
    · left
      apply Int32.toInt_inj.mp
      rw [Int32.lt_iff_toInt_lt] at h0 hn
      rw [show (0 : Int32).toInt = 0 by decide] at hn
      rw [show (-1 : Int32).toInt = -1 by decide] at h0 ⊢
      omega
    · right
      exact nI_of2 (M := 2) (n := 2) (by decide) hn h6
  · exact ⟨0, (nI (rd_k VT 6), lN (rd_k (rd_fz MP) 64), nI (rd_c (rd_sh MP) 64), cr, nI nx, bd, dn, nI nm, nI nb, nI n0, nI n1, nI n2, nI w, nI dl, rd_bF B, rd_nF HE, rd_nF MK, rd_th HE MK, rd_PW, rd_PL, rd_nF MP, rd_uF MP, DA, rd_nF WM, rd_nF WV), (nI dl, cr, nI nx, bd, dn, nI w, nI nb, nI nm, rd_nF B, rd_nF HE, rd_nF MK, rd_vF VT, rd_on MP, rd_nF WM, rd_nF WV, rd_nt n0 n1 n2, WO), rd_mk I, fun post hp => br_f h0 (br_f h6 hp), fun post hp => by unfold wpY_crash; exact rd_in_hi h0 (Int32.not_le.mp h6) (br_t rfl hp)⟩
section
variable {f_volumes : Int32} {f_free : Int64} {f_shared : Int32} {f_crashAfter : Int32} {f_next : Int32} {f_bad : Int32} {f_down : Int32} {f_noteMap : Int32} {f_noteBlock : Int32} {f_noteData : Int32} {f_noteP : Int32} {f_noteQ : Int32} {f_waiting : Int32} {f_delay : Int32} {a_disk : Nat → Int32} {a_health : Nat → Int32} {a_mark : Nat → Int32} {a_there : Nat → Int32} {a_power : Nat → Int32} {a_place : Nat → Int32} {a_map : Nat → Int32} {a_uses : Nat → Int32} {a_data : Nat → Int32} {a_waitMap : Nat → Int32} {a_waitValue : Nat → Int32}
variable {WM WV : Nat → Nat} {w m x : Nat}
theorem rd_x_push {post : Int32 → SX → Prop} {p2 : Int32} (hw : w < 6) (hm : m < 120) (hx : x < 256) (e : p2 &&& 255 = nI x) (hp : post 0 (f_volumes, f_free, f_shared, f_crashAfter, f_next, f_bad, f_down, f_noteMap, f_noteBlock, f_noteData, f_noteP, f_noteQ, nI (w + 1), f_delay, a_disk, a_health, a_mark, a_there, a_power, a_place, a_map, a_uses, a_data, rd_nF (rd_u WM w m), rd_nF (rd_u WV w x))) : wX_write_96 post p2 (nI m) f_volumes f_free f_shared f_crashAfter f_next f_bad f_down f_noteMap f_noteBlock f_noteData f_noteP f_noteQ (nI w) f_delay a_disk a_health a_mark a_there a_power a_place a_map a_uses a_data (rd_nF WM) (rd_nF WV) := by
  unfold wX_write_96
  have hi : vp_in (nI w) 6 := vp_in_nI hw (by omega)
  rw [e, nI_clamp (by omega), rd_nb (by omega), rd_ns hx, rd_upN, rd_upN]
  exact ⟨hi, nm_e (nm_r (nI_1 w) ⟨hi, nm_e hp⟩)⟩
end
section
variable {f_delay : Int32} {f_crash : Int32} {f_cursor : Int32} {f_bad : Int32} {f_down : Int32} {f_waiting : Int32} {f_noteBlock : Int32} {f_noteFor : Int32} {a_bytes : Nat → Int32} {a_health : Nat → Int32} {a_mark : Nat → Int32} {a_there : Nat → Int32} {a_on : Nat → Int32} {a_waitsFor : Nat → Int32} {a_waits : Nat → Int32} {a_note : Nat → Int32} {a_worth : Nat → Int32}
variable {WM WV : Nat → Nat} {w m x : Nat}
theorem rd_y_push {post : Int32 → SY → Prop} (hw : w < 6) (hp : post 0 (f_delay, f_crash, f_cursor, f_bad, f_down, nI (w + 1), f_noteBlock, f_noteFor, a_bytes, a_health, a_mark, a_there, a_on, rd_nF (rd_u WM w m), rd_nF (rd_u WV w x), a_note, a_worth)) : wY_write_100 post (nI m) (nI x) f_delay f_crash f_cursor f_bad f_down (nI w) f_noteBlock f_noteFor a_bytes a_health a_mark a_there a_on (rd_nF WM) (rd_nF WV) a_note a_worth := by
  unfold wY_write_100
  have hi : vp_in (nI w) 6 := vp_in_nI hw (by omega)
  rw [nI_clamp (by omega), rd_upN, rd_upN]
  exact ⟨hi, nm_e ⟨hi, nm_e (nm_r (nI_1 w) hp)⟩⟩
end
section
variable {dl w nx nb nm n0 n1 n2 : Nat} {cr bd dn : Int32} {B HE MK : Nat → Nat} {VT : Nat → Bool} {MP WM WV : Nat → Nat} {DA WO : Nat → Int32}
theorem rd_I_push {m x : Nat} (I : rd_I dl w nx nb nm n0 n1 n2 cr dn B HE MK VT MP WM WV) (hw : w < dl) (hm : m < 120) (hV : VT (m / 20) = true) (hx : x < 256) : rd_I dl (w + 1) nx nb nm n0 n1 n2 cr dn B HE MK VT MP (rd_u WM w m) (rd_u WV w x) := by
  obtain ⟨⟨i1, i2, i3⟩, i4, i9, i10, iB, iH, iK, iK2, iM, iV, iW, iX, iY⟩ := I
  refine ⟨⟨i1, by omega, i3⟩, i4, i9, i10, iB, iH, iK, iK2, iM, iV, fun i => ?_, fun i => ?_, fun i hi => ?_⟩
  · by_cases e : i = w
    · subst e; rw [rd_us]; exact hm
    · rw [rd_un e]; exact iW i
  · by_cases e : i = w
    · subst e; rw [rd_us]; exact hx
    · rw [rd_un e]; exact iX i
  · by_cases e : i = w
    · subst e; rw [rd_us]; exact hV
    · rw [rd_un e]; exact iY i (by omega)
end
theorem i_vc_write {k : Nat} {u : SX} {v : SY} (I : i_Rel k u v) (hk : k + 4 ≤ 2048) (v1 : Int32) (v2 : Int32) (v3 : Int32) : wpX_write (fun r u' => wpY_write (fun r' v' => r' = r ∧ i_Rel (k + 4) u' v') v v1 v2 v3) u v1 v2 v3 := by
  refine rd_el (P := fun u v => wpX_write (fun r u' => wpY_write (fun r' v' => r' = r ∧ i_Rel (k + 4) u' v') v v1 v2 v3) u v1 v2 v3) ?_ I
  clear I u v
  intro dl w nx nb nm n0 n1 n2 cr bd dn B HE MK VT MP WM WV DA WO I
  refine rd_fin (PX := fun post => wpX_write post (nI (rd_k VT 6), lN (rd_k (rd_fz MP) 64), nI (rd_c (rd_sh MP) 64), cr, nI nx, bd, dn, nI nm, nI nb, nI n0, nI n1, nI n2, nI w, nI dl, rd_bF B, rd_nF HE, rd_nF MK, rd_th HE MK, rd_PW, rd_PL, rd_nF MP, rd_uF MP, DA, rd_nF WM, rd_nF WV) v1 v2 v3) (PY := fun post => wpY_write post (nI dl, cr, nI nx, bd, dn, nI w, nI nb, nI nm, rd_nF B, rd_nF HE, rd_nF MK, rd_vF VT, rd_on MP, rd_nF WM, rd_nF WV, rd_nt n0 n1 n2, WO) v1 v2 v3) ?_
  by_cases hd : dn = 0
  case neg => exact ⟨-4, (nI (rd_k VT 6), lN (rd_k (rd_fz MP) 64), nI (rd_c (rd_sh MP) 64), cr, nI nx, bd, dn, nI nm, nI nb, nI n0, nI n1, nI n2, nI w, nI dl, rd_bF B, rd_nF HE, rd_nF MK, rd_th HE MK, rd_PW, rd_PL, rd_nF MP, rd_uF MP, DA, rd_nF WM, rd_nF WV), (nI dl, cr, nI nx, bd, dn, nI w, nI nb, nI nm, rd_nF B, rd_nF HE, rd_nF MK, rd_vF VT, rd_on MP, rd_nF WM, rd_nF WV, rd_nt n0 n1 n2, WO), rd_mk I, fun post hp => br_f hd hp, fun post hp => br_f hd hp⟩
  cases hl : rd_lb VT v1 v2 with
  | false =>
    exact ⟨-1, (nI (rd_k VT 6), lN (rd_k (rd_fz MP) 64), nI (rd_c (rd_sh MP) 64), cr, nI nx, bd, dn, nI nm, nI nb, nI n0, nI n1, nI n2, nI w, nI dl, rd_bF B, rd_nF HE, rd_nF MK, rd_th HE MK, rd_PW, rd_PL, rd_nF MP, rd_uF MP, DA, rd_nF WM, rd_nF WV), (nI dl, cr, nI nx, bd, dn, nI w, nI nb, nI nm, rd_nF B, rd_nF HE, rd_nF MK, rd_vF VT, rd_on MP, rd_nF WM, rd_nF WV, rd_nt n0 n1 n2, WO), rd_mk I, fun post hp => br_t hd (rd_x_isL (by rw [hl]; exact br_t rfl hp)), fun post hp => br_t hd (rd_y_isL (by rw [hl]; exact br_t rfl hp))⟩
  | true =>
    obtain ⟨j, i, hj, hi, _, _, hV, em⟩ := rd_lb_t hl
    obtain ⟨x, hx, ex⟩ := pk_andE v3 (m := 255) 8 (by decide)
    have hx : x < 256 := hx
    have hm : 20 * j + i < 120 := by omega
    have hV' : VT ((20 * j + i) / 20) = true := by rw [show (20 * j + i) / 20 = j by omega]; exact hV
    have I0 := I
    obtain ⟨⟨i1, i2, i3⟩, i4, i9, i10, iB, iH, iK, iK2, iM, iV, iW, iX, iY⟩ := I
    by_cases h0 : dl = 0
    · obtain ⟨r, w', nb', nm', n0', n1', n2', cr', dn', B', MP', DA', WO', I', _, hr, hX, hY⟩ := rd_jt (DA := DA) (WO := WO) (bd := bd) I0 hm hV' hx
      have hz : nI dl = 0 := by rw [h0]; rfl
      refine ⟨r, _, _, rd_mk (bd := bd) (DA := DA') (WO := WO') I', fun post hp => br_t hd (rd_x_isL ?_), fun post hp => br_t hd (rd_y_isL ?_)⟩
      · rw [hl, em, ex]
        exact br_f (by decide) (nm_e (br_t hz (hX _ hp)))
      · rw [hl, em, ex]
        exact br_f (by decide) (nm_e (nm_e (br_t hz (hY _ hp))))
    · have hz : ¬ nI dl = 0 := fun z => h0 ((rd_e0 (by omega)).mp z)
      rcases rd_wf_c WM w (20 * j + i) with hf | ⟨q, hq, hf, hqm⟩
      · by_cases hwd : w = dl
        · obtain ⟨r, w', nb', nm', n0', n1', n2', cr', dn', B', MP', WM', WV', DA', WO', I', h0', hr, hX, hY⟩ := rd_jw (DA := DA) (WO := WO) (bd := bd) (k := 0) I0 (by omega)
          by_cases er : r = 0
          · obtain ⟨e1, e2⟩ := h0' er
            refine ⟨0, _, _, rd_mk (bd := bd) (DA := DA') (WO := WO') (rd_I_push I' (by omega) hm hV' hx), fun post hp => br_t hd (rd_x_isL ?_), fun post hp => br_t hd (rd_y_isL ?_)⟩
            · rw [hl, em]
              refine br_f (by decide) (nm_e (br_f hz (rd_x_wf iW hm (by omega) ?_)))
              rw [hf]
              refine br_t (by decide) (br_t (by rw [hwd]) (hX _ (br_t er ?_)))
              exact rd_x_push (by omega) hm hx ex hp
            · rw [hl, em, ex]
              refine br_f (by decide) (nm_e (nm_e (br_f hz (rd_y_wf iW hm (by omega) ?_))))
              rw [hf]
              refine br_t (by decide) (br_t (by rw [hwd]) (hY _ (br_t er ?_)))
              exact rd_y_push (by omega) hp
          · refine ⟨r, _, _, rd_mk (bd := bd) (DA := DA') (WO := WO') I', fun post hp => br_t hd (rd_x_isL ?_), fun post hp => br_t hd (rd_y_isL ?_)⟩
            · rw [hl, em]
              refine br_f (by decide) (nm_e (br_f hz (rd_x_wf iW hm (by omega) ?_)))
              rw [hf]
              exact br_t (by decide) (br_t (by rw [hwd]) (hX _ (br_f er hp)))
            · rw [hl, em, ex]
              refine br_f (by decide) (nm_e (nm_e (br_f hz (rd_y_wf iW hm (by omega) ?_))))
              rw [hf]
              exact br_t (by decide) (br_t (by rw [hwd]) (hY _ (br_f er hp)))
        · have hne : ¬ nI w = nI dl := fun z => hwd ((nI_eq (by omega) (by omega)).mp z)
          refine ⟨0, _, _, rd_mk (bd := bd) (DA := DA) (WO := WO) (rd_I_push I0 (by omega) hm hV' hx), fun post hp => br_t hd (rd_x_isL ?_), fun post hp => br_t hd (rd_y_isL ?_)⟩
          · rw [hl, em]
            refine br_f (by decide) (nm_e (br_f hz (rd_x_wf iW hm (by omega) ?_)))
            rw [hf]
            exact br_t (by decide) (br_f hne (rd_x_push (by omega) hm hx ex hp))
          · rw [hl, em, ex]
            refine br_f (by decide) (nm_e (nm_e (br_f hz (rd_y_wf iW hm (by omega) ?_))))
            rw [hf]
            exact br_t (by decide) (br_f hne (rd_y_push (by omega) hp))
      · obtain ⟨y, rfl⟩ : ∃ y, w = y + 1 := ⟨w - 1, by omega⟩
        refine ⟨0, _, _, rd_mk (bd := bd) (DA := DA) (WO := WO) (rd_I_push (rd_I_lv (k := q) I0 (by omega)) (by omega) hm hV' hx), fun post hp => br_t hd (rd_x_isL ?_), fun post hp => br_t hd (rd_y_isL ?_)⟩
        · rw [hl, em]
          refine br_f (by decide) (nm_e (br_f hz (rd_x_wf iW hm (by omega) ?_)))
          rw [hf]
          exact br_f (nI_pos (by omega)) (rd_x_lv iW iX (by omega) (by omega) (rd_x_push (by omega) hm hx ex hp))
        · rw [hl, em, ex]
          refine br_f (by decide) (nm_e (nm_e (br_f hz (rd_y_wf iW hm (by omega) ?_))))
          rw [hf]
          exact br_f (nI_pos (by omega)) (rd_y_lv (by omega) (by omega) (rd_y_push (by omega) hp))
end
section
/-! flush, read, trim -/
theorem rd_jf {n : Nat} (hn : n ≤ 6) : ∀ (d i : Nat) (dl w nx nb nm n0 n1 n2 : Nat) (cr bd dn : Int32) (B HE MK : Nat → Nat) (VT : Nat → Bool) (MP WM WV : Nat → Nat) (DA WO : Nat → Int32), rd_I dl w nx nb nm n0 n1 n2 cr dn B HE MK VT MP WM WV → i + d = n → ∃ (r : Int32) (u' : SX) (v' : SY), (∀ k, i_Rel k u' v') ∧ (∀ (post : Int32 → SX → Prop) (fu : Nat), d + 1 < fu → post r u' → wX_flush_27 post (nI n) fu (nI i) 1 (nI (rd_k VT 6)) (lN (rd_k (rd_fz MP) 64)) (nI (rd_c (rd_sh MP) 64)) cr (nI nx) bd dn (nI nm) (nI nb) (nI n0) (nI n1) (nI n2) (nI w) (nI dl) (rd_bF B) (rd_nF HE) (rd_nF MK) (rd_th HE MK) rd_PW rd_PL (rd_nF MP) (rd_uF MP) DA (rd_nF WM) (rd_nF WV)) ∧ (∀ (post : Int32 → SY → Prop) (fu : Nat), d < fu → post r v' → wY_flush_24 post (nI n) fu (nI i) (nI dl) cr (nI nx) bd dn (nI w) (nI nb) (nI nm) (rd_nF B) (rd_nF HE) (rd_nF MK) (rd_vF VT) (rd_on MP) (rd_nF WM) (rd_nF WV) (rd_nt n0 n1 n2) WO) := by
  intro d
  induction d with
  | zero =>
    intro i dl w nx nb nm n0 n1 n2 cr bd dn B HE MK VT MP WM WV DA WO I h
    have : i = n := by omega
    subst this
    refine ⟨nI i, (nI (rd_k VT 6), lN (rd_k (rd_fz MP) 64), nI (rd_c (rd_sh MP) 64), cr, nI nx, bd, dn, nI nm, nI nb, nI n0, nI n1, nI n2, nI w, nI dl, rd_bF B, rd_nF HE, rd_nF MK, rd_th HE MK, rd_PW, rd_PL, rd_nF MP, rd_uF MP, DA, rd_nF WM, rd_nF WV), (nI dl, cr, nI nx, bd, dn, nI w, nI nb, nI nm, rd_nF B, rd_nF HE, rd_nF MK, rd_vF VT, rd_on MP, rd_nF WM, rd_nF WV, rd_nt n0 n1 n2, WO), fun k => rd_mk I, fun post fu hf hp => ?_, fun post fu hf hp => ?_⟩
    · obtain ⟨f, rfl⟩ : ∃ f, fu = f + 1 := ⟨fu - 1, by omega⟩
      unfold wX_flush_27
      exact br_f (by decide) (br_t (Int32.le_refl _) hp)
    · obtain ⟨f, rfl⟩ : ∃ f, fu = f + 1 := ⟨fu - 1, by omega⟩
      unfold wY_flush_24
      exact br_t (Int32.le_refl _) hp
  | succ d ih =>
    intro i dl w nx nb nm n0 n1 n2 cr bd dn B HE MK VT MP WM WV DA WO I h
    have hlt : ¬ nI n ≤ nI i := nI_ge (by omega) (by omega)
    by_cases hw : w = 0
    · have hz : nI w ≤ 0 := by rw [hw]; decide
      refine ⟨nI i, (nI (rd_k VT 6), lN (rd_k (rd_fz MP) 64), nI (rd_c (rd_sh MP) 64), cr, nI nx, bd, dn, nI nm, nI nb, nI n0, nI n1, nI n2, nI w, nI dl, rd_bF B, rd_nF HE, rd_nF MK, rd_th HE MK, rd_PW, rd_PL, rd_nF MP, rd_uF MP, DA, rd_nF WM, rd_nF WV), (nI dl, cr, nI nx, bd, dn, nI w, nI nb, nI nm, rd_nF B, rd_nF HE, rd_nF MK, rd_vF VT, rd_on MP, rd_nF WM, rd_nF WV, rd_nt n0 n1 n2, WO), fun k => rd_mk I, fun post fu hf hp => ?_, fun post fu hf hp => ?_⟩
      · obtain ⟨f, rfl⟩ : ∃ f, fu = f + 1 := ⟨fu - 1, by omega⟩
        unfold wX_flush_27
        exact br_f (by decide) (br_f hlt (br_t hz hp))
      · obtain ⟨f, rfl⟩ : ∃ f, fu = f + 1 := ⟨fu - 1, by omega⟩
        unfold wY_flush_24
        exact br_f hlt (br_t hz hp)
    · have hw6 : w ≤ 6 := by
        obtain ⟨⟨i1, i2, i3⟩, _⟩ := I
        omega
      have hz : ¬ nI w ≤ 0 := nI_nle (by omega) (by omega)
      obtain ⟨r, w', nb', nm', n0', n1', n2', cr', dn', B', MP', WM', WV', DA', WO', I', h0', hr, hX, hY⟩ := rd_jw (DA := DA) (WO := WO) (bd := bd) (k := 0) I (by omega)
      by_cases er : r = 0
      · obtain ⟨r2, u2, v2, hR, hX2, hY2⟩ := ih (i + 1) dl w' nx nb' nm' n0' n1' n2' cr' bd dn' B' HE MK VT MP' WM' WV' DA' WO' I' (by omega)
        refine ⟨r2, u2, v2, hR, fun post fu hf hp => ?_, fun post fu hf hp => ?_⟩
        · obtain ⟨f, rfl⟩ : ∃ f, fu = f + 1 := ⟨fu - 1, by omega⟩
          unfold wX_flush_27
          refine br_f (by decide) (br_f hlt (br_f hz (hX _ (br_t er ?_))))
          unfold wX_flush_56
          exact br_f (by decide) (nm_r (nI_1 i) (hX2 post f (by omega) hp))
        · obtain ⟨f, rfl⟩ : ∃ f, fu = f + 1 := ⟨fu - 1, by omega⟩
          unfold wY_flush_24
          exact br_f hlt (br_f hz (hY _ (br_t er (nm_r (nI_1 i) (hY2 post f (by omega) hp)))))
      · refine ⟨nI i, _, _, fun k => rd_mk (bd := bd) (DA := DA') (WO := WO') I', fun post fu hf hp => ?_, fun post fu hf hp => ?_⟩
        · obtain ⟨f, rfl⟩ : ∃ f, fu = f + 2 := ⟨fu - 2, by omega⟩
          unfold wX_flush_27
          refine br_f (by decide) (br_f hlt (br_f hz (hX _ (br_f er ?_))))
          unfold wX_flush_56
          refine br_t rfl ?_
          unfold wX_flush_27
          exact br_t rfl hp
        · obtain ⟨f, rfl⟩ : ∃ f, fu = f + 1 := ⟨fu - 1, by omega⟩
          unfold wY_flush_24
          exact br_f hlt (br_f hz (hY _ (br_f er hp)))
theorem i_vc_flush {k : Nat} {u : SX} {v : SY} (I : i_Rel k u v) (hk : k + 4 ≤ 2048) (v1 : Int32) : wpX_flush (fun r u' => wpY_flush (fun r' v' => r' = r ∧ i_Rel (k + 4) u' v') v v1) u v1 := by
  refine rd_el (P := fun u v => wpX_flush (fun r u' => wpY_flush (fun r' v' => r' = r ∧ i_Rel (k + 4) u' v') v v1) u v1) ?_ I
  clear I u v
  intro dl w nx nb nm n0 n1 n2 cr bd dn B HE MK VT MP WM WV DA WO I
  refine rd_fin (PX := fun post => wpX_flush post (nI (rd_k VT 6), lN (rd_k (rd_fz MP) 64), nI (rd_c (rd_sh MP) 64), cr, nI nx, bd, dn, nI nm, nI nb, nI n0, nI n1, nI n2, nI w, nI dl, rd_bF B, rd_nF HE, rd_nF MK, rd_th HE MK, rd_PW, rd_PL, rd_nF MP, rd_uF MP, DA, rd_nF WM, rd_nF WV) v1) (PY := fun post => wpY_flush post (nI dl, cr, nI nx, bd, dn, nI w, nI nb, nI nm, rd_nF B, rd_nF HE, rd_nF MK, rd_vF VT, rd_on MP, rd_nF WM, rd_nF WV, rd_nt n0 n1 n2, WO) v1) ?_
  by_cases hd : dn = 0
  case neg => exact ⟨-4, (nI (rd_k VT 6), lN (rd_k (rd_fz MP) 64), nI (rd_c (rd_sh MP) 64), cr, nI nx, bd, dn, nI nm, nI nb, nI n0, nI n1, nI n2, nI w, nI dl, rd_bF B, rd_nF HE, rd_nF MK, rd_th HE MK, rd_PW, rd_PL, rd_nF MP, rd_uF MP, DA, rd_nF WM, rd_nF WV), (nI dl, cr, nI nx, bd, dn, nI w, nI nb, nI nm, rd_nF B, rd_nF HE, rd_nF MK, rd_vF VT, rd_on MP, rd_nF WM, rd_nF WV, rd_nt n0 n1 n2, WO), rd_mk I, fun post hp => br_f hd hp, fun post hp => br_f hd hp⟩
  by_cases h0 : v1 < 1
  · exact ⟨-1, (nI (rd_k VT 6), lN (rd_k (rd_fz MP) 64), nI (rd_c (rd_sh MP) 64), cr, nI nx, bd, dn, nI nm, nI nb, nI n0, nI n1, nI n2, nI w, nI dl, rd_bF B, rd_nF HE, rd_nF MK, rd_th HE MK, rd_PW, rd_PL, rd_nF MP, rd_uF MP, DA, rd_nF WM, rd_nF WV), (nI dl, cr, nI nx, bd, dn, nI w, nI nb, nI nm, rd_nF B, rd_nF HE, rd_nF MK, rd_vF VT, rd_on MP, rd_nF WM, rd_nF WV, rd_nt n0 n1 n2, WO), rd_mk I, fun post hp => br_t hd (br_t h0 hp), fun post hp => br_t hd (rd_in_lo h0 (br_t rfl hp))⟩
  by_cases h6 : v1 ≤ 6
  · have hn0 : ¬ v1 < 0 := fun z => h0 (Int32.lt_trans z (by decide))
    obtain ⟨j, hj, rfl⟩ := nI_of2 (M := 6) (n := 6) (by decide) hn0 h6
    obtain ⟨r, u', v', hR, hX, hY⟩ := rd_jf hj j 0 dl w nx nb nm n0 n1 n2 cr bd dn B HE MK VT MP WM WV DA WO I (by omega)
    exact ⟨r, u', v', hR _, fun post hp => br_t hd (br_f h0 (br_t h6 ⟨j + 2, hX post (j + 2) (by omega) hp⟩)), fun post hp => br_t hd (rd_in_ok h0 (Int32.not_lt.mpr h6) (br_f (by decide) ⟨j + 1, hY post (j + 1) (by omega) hp⟩))⟩
  · exact ⟨-1, (nI (rd_k VT 6), lN (rd_k (rd_fz MP) 64), nI (rd_c (rd_sh MP) 64), cr, nI nx, bd, dn, nI nm, nI nb, nI n0, nI n1, nI n2, nI w, nI dl, rd_bF B, rd_nF HE, rd_nF MK, rd_th HE MK, rd_PW, rd_PL, rd_nF MP, rd_uF MP, DA, rd_nF WM, rd_nF WV), (nI dl, cr, nI nx, bd, dn, nI w, nI nb, nI nm, rd_nF B, rd_nF HE, rd_nF MK, rd_vF VT, rd_on MP, rd_nF WM, rd_nF WV, rd_nt n0 n1 n2, WO), rd_mk I, fun post hp => br_t hd (br_f h0 (br_f h6 hp)), fun post hp => br_t hd (rd_in_hi h0 (Int32.not_le.mp h6) (br_t rfl hp))⟩
section
variable {dl w nx nb nm n0 n1 n2 : Nat} {cr bd dn : Int32} {B HE MK : Nat → Nat} {VT : Nat → Bool} {MP WM WV : Nat → Nat} {DA WO : Nat → Int32}
theorem rd_x_t46 {post : Int32 → SX → Prop} {m : Nat} (hM : ∀ m, MP m ≤ 64) (hm : m < 120) (hp : post 0 (nI (rd_k VT 6), lN (rd_k (rd_fz (rd_u MP m 0)) 64), nI (rd_c (rd_sh (rd_u MP m 0)) 64), cr, nI nx, bd, dn, nI nm, nI nb, nI n0, nI n1, nI n2, nI w, nI dl, rd_bF B, rd_nF HE, rd_nF MK, rd_th HE MK, rd_PW, rd_PL, rd_nF (rd_u MP m 0), rd_uF (rd_u MP m 0), DA, rd_nF WM, rd_nF WV)) : wX_trim_46 post (nI m) (nI (rd_k VT 6)) (lN (rd_k (rd_fz MP) 64)) (nI (rd_c (rd_sh MP) 64)) cr (nI nx) bd dn (nI nm) (nI nb) (nI n0) (nI n1) (nI n2) (nI w) (nI dl) (rd_bF B) (rd_nF HE) (rd_nF MK) (rd_th HE MK) rd_PW rd_PL (rd_nF MP) (rd_uF MP) DA (rd_nF WM) (rd_nF WV) := by
  unfold wX_trim_46
  have hi : vp_in (nI m) 120 := vp_in_nI hm (by omega)
  have h64 := hM m
  refine ⟨hi, ?_⟩
  rw [nI_clamp (by omega)]
  have ez : vp_nar .byte 0 = nI 0 := rd_nb' (by decide)
  cases e : MP m with
  | zero =>
    refine br_t (show nI (MP m) ≤ 0 by rw [e]; decide) ⟨hi, ?_⟩
    rw [ez, rd_upN]
    have e2 : rd_u MP m 0 = MP := by rw [← e, rd_ui]
    rw [e2] at hp ⊢
    exact nm_e hp
  | succ c =>
    refine br_f (show ¬ nI (MP m) ≤ 0 from nI_nle (by omega) (by omega)) ⟨hi, ?_⟩
    have e1 : rd_nF MP m - 1 = nI c := by show nI (MP m) - 1 = nI c; rw [e]; exact rd_m1 c
    rw [e1]
    refine rd_x_dec hm e (by omega) ⟨hi, ?_⟩
    rw [ez, rd_upN]
    exact nm_e hp
theorem rd_I_clr {m : Nat} (I : rd_I dl w nx nb nm n0 n1 n2 cr dn B HE MK VT MP WM WV) : rd_I dl w nx nb nm n0 n1 n2 cr dn B HE MK VT (rd_u MP m 0) WM WV := by
  obtain ⟨i1, i4, i9, i10, iB, iH, iK, iK2, iM, iV, iW, iX, iY⟩ := I
  refine ⟨i1, i4, i9, i10, iB, iH, iK, iK2, fun k => ?_, fun x hx hf l hl => ?_, iW, iX, iY⟩
  · by_cases z : k = m
    · subst z; rw [rd_us]; omega
    · rw [rd_un z]; exact iM k
  · by_cases z : 20 * x + l = m
    · rw [z, rd_us]
    · rw [rd_un z]; exact iV x hx hf l hl
end
theorem i_vc_trim {k : Nat} {u : SX} {v : SY} (I : i_Rel k u v) (hk : k + 4 ≤ 2048) (v1 : Int32) (v2 : Int32) : wpX_trim (fun r u' => wpY_trim (fun r' v' => r' = r ∧ i_Rel (k + 4) u' v') v v1 v2) u v1 v2 := by
  refine rd_el (P := fun u v => wpX_trim (fun r u' => wpY_trim (fun r' v' => r' = r ∧ i_Rel (k + 4) u' v') v v1 v2) u v1 v2) ?_ I
  clear I u v
  intro dl w nx nb nm n0 n1 n2 cr bd dn B HE MK VT MP WM WV DA WO I
  refine rd_fin (PX := fun post => wpX_trim post (nI (rd_k VT 6), lN (rd_k (rd_fz MP) 64), nI (rd_c (rd_sh MP) 64), cr, nI nx, bd, dn, nI nm, nI nb, nI n0, nI n1, nI n2, nI w, nI dl, rd_bF B, rd_nF HE, rd_nF MK, rd_th HE MK, rd_PW, rd_PL, rd_nF MP, rd_uF MP, DA, rd_nF WM, rd_nF WV) v1 v2) (PY := fun post => wpY_trim post (nI dl, cr, nI nx, bd, dn, nI w, nI nb, nI nm, rd_nF B, rd_nF HE, rd_nF MK, rd_vF VT, rd_on MP, rd_nF WM, rd_nF WV, rd_nt n0 n1 n2, WO) v1 v2) ?_
  by_cases hd : dn = 0
  case neg => exact ⟨-4, (nI (rd_k VT 6), lN (rd_k (rd_fz MP) 64), nI (rd_c (rd_sh MP) 64), cr, nI nx, bd, dn, nI nm, nI nb, nI n0, nI n1, nI n2, nI w, nI dl, rd_bF B, rd_nF HE, rd_nF MK, rd_th HE MK, rd_PW, rd_PL, rd_nF MP, rd_uF MP, DA, rd_nF WM, rd_nF WV), (nI dl, cr, nI nx, bd, dn, nI w, nI nb, nI nm, rd_nF B, rd_nF HE, rd_nF MK, rd_vF VT, rd_on MP, rd_nF WM, rd_nF WV, rd_nt n0 n1 n2, WO), rd_mk I, fun post hp => br_f hd hp, fun post hp => br_f hd hp⟩
  cases hl : rd_lb VT v1 v2 with
  | false =>
    exact ⟨-1, (nI (rd_k VT 6), lN (rd_k (rd_fz MP) 64), nI (rd_c (rd_sh MP) 64), cr, nI nx, bd, dn, nI nm, nI nb, nI n0, nI n1, nI n2, nI w, nI dl, rd_bF B, rd_nF HE, rd_nF MK, rd_th HE MK, rd_PW, rd_PL, rd_nF MP, rd_uF MP, DA, rd_nF WM, rd_nF WV), (nI dl, cr, nI nx, bd, dn, nI w, nI nb, nI nm, rd_nF B, rd_nF HE, rd_nF MK, rd_vF VT, rd_on MP, rd_nF WM, rd_nF WV, rd_nt n0 n1 n2, WO), rd_mk I, fun post hp => br_t hd (rd_x_isL (by rw [hl]; exact br_t rfl hp)), fun post hp => br_t hd (rd_y_isL (by rw [hl]; exact br_t rfl hp))⟩
  | true =>
    obtain ⟨j, i, hj, hi, _, _, hV, em⟩ := rd_lb_t hl
    have hm : 20 * j + i < 120 := by omega
    generalize 20 * j + i = m at em hm
    have hv : vp_in (nI m) 120 := vp_in_nI hm (by omega)
    have I0 := I
    obtain ⟨⟨i1, i2, i3⟩, i4, i9, i10, iB, iH, iK, iK2, iM, iV, iW, iX, iY⟩ := I
    rcases rd_wf_c WM w m with hf | ⟨q, hq, hf, hqm⟩
    · refine ⟨0, _, _, rd_mk (bd := bd) (DA := DA) (WO := WO) (rd_I_clr (m := m) I0), fun post hp => br_t hd (rd_x_isL ?_), fun post hp => br_t hd (rd_y_isL ?_)⟩
      · rw [hl, em]
        refine br_f (by decide) (nm_e (rd_x_wf iW hm (by omega) ?_))
        rw [hf]
        exact br_t (by decide) (rd_x_t46 iM hm hp)
      · rw [hl, em]
        refine br_f (by decide) (nm_e (rd_y_wf iW hm (by omega) ?_))
        rw [hf]
        refine br_t (by decide) ⟨hv, ?_⟩
        rw [nI_clamp (by omega), ← rd_m10, rd_upO _ _ hm]
        exact nm_e hp
    · obtain ⟨y, rfl⟩ : ∃ y, w = y + 1 := ⟨w - 1, by omega⟩
      refine ⟨0, _, _, rd_mk (bd := bd) (DA := DA) (WO := WO) (rd_I_clr (m := m) (rd_I_lv (k := q) I0 (by omega))), fun post hp => br_t hd (rd_x_isL ?_), fun post hp => br_t hd (rd_y_isL ?_)⟩
      · rw [hl, em]
        refine br_f (by decide) (nm_e (rd_x_wf iW hm (by omega) ?_))
        rw [hf]
        exact br_f (nI_pos (by omega)) (rd_x_lv iW iX (by omega) (by omega) (rd_x_t46 iM hm hp))
      · rw [hl, em]
        refine br_f (by decide) (nm_e (rd_y_wf iW hm (by omega) ?_))
        rw [hf]
        refine br_f (nI_pos (by omega)) (rd_y_lv (by omega) (by omega) ⟨hv, ?_⟩)
        rw [nI_clamp (by omega), ← rd_m10, rd_upO _ _ hm]
        exact nm_e hp
theorem i_vc_read {k : Nat} {u : SX} {v : SY} (I : i_Rel k u v) (hk : k + 4 ≤ 2048) (v1 : Int32) (v2 : Int32) : wpX_read (fun r u' => wpY_read (fun r' v' => r' = r ∧ i_Rel (k + 4) u' v') v v1 v2) u v1 v2 := by
  refine rd_el (P := fun u v => wpX_read (fun r u' => wpY_read (fun r' v' => r' = r ∧ i_Rel (k + 4) u' v') v v1 v2) u v1 v2) ?_ I
  clear I u v
  intro dl w nx nb nm n0 n1 n2 cr bd dn B HE MK VT MP WM WV DA WO I
  refine rd_fin (PX := fun post => wpX_read post (nI (rd_k VT 6), lN (rd_k (rd_fz MP) 64), nI (rd_c (rd_sh MP) 64), cr, nI nx, bd, dn, nI nm, nI nb, nI n0, nI n1, nI n2, nI w, nI dl, rd_bF B, rd_nF HE, rd_nF MK, rd_th HE MK, rd_PW, rd_PL, rd_nF MP, rd_uF MP, DA, rd_nF WM, rd_nF WV) v1 v2) (PY := fun post => wpY_read post (nI dl, cr, nI nx, bd, dn, nI w, nI nb, nI nm, rd_nF B, rd_nF HE, rd_nF MK, rd_vF VT, rd_on MP, rd_nF WM, rd_nF WV, rd_nt n0 n1 n2, WO) v1 v2) ?_
  by_cases hd : dn = 0
  case neg => exact ⟨-4, (nI (rd_k VT 6), lN (rd_k (rd_fz MP) 64), nI (rd_c (rd_sh MP) 64), cr, nI nx, bd, dn, nI nm, nI nb, nI n0, nI n1, nI n2, nI w, nI dl, rd_bF B, rd_nF HE, rd_nF MK, rd_th HE MK, rd_PW, rd_PL, rd_nF MP, rd_uF MP, DA, rd_nF WM, rd_nF WV), (nI dl, cr, nI nx, bd, dn, nI w, nI nb, nI nm, rd_nF B, rd_nF HE, rd_nF MK, rd_vF VT, rd_on MP, rd_nF WM, rd_nF WV, rd_nt n0 n1 n2, WO), rd_mk I, fun post hp => br_f hd hp, fun post hp => br_f hd hp⟩
  cases hl : rd_lb VT v1 v2 with
  | false =>
    exact ⟨-1, (nI (rd_k VT 6), lN (rd_k (rd_fz MP) 64), nI (rd_c (rd_sh MP) 64), cr, nI nx, bd, dn, nI nm, nI nb, nI n0, nI n1, nI n2, nI w, nI dl, rd_bF B, rd_nF HE, rd_nF MK, rd_th HE MK, rd_PW, rd_PL, rd_nF MP, rd_uF MP, DA, rd_nF WM, rd_nF WV), (nI dl, cr, nI nx, bd, dn, nI w, nI nb, nI nm, rd_nF B, rd_nF HE, rd_nF MK, rd_vF VT, rd_on MP, rd_nF WM, rd_nF WV, rd_nt n0 n1 n2, WO), rd_mk I, fun post hp => br_t hd (rd_x_isL (by rw [hl]; exact br_t rfl hp)), fun post hp => br_t hd (rd_y_isL (by rw [hl]; exact br_t rfl hp))⟩
  | true =>
    obtain ⟨j, i, hj, hi, _, _, hV, em⟩ := rd_lb_t hl
    have hm : 20 * j + i < 120 := by omega
    generalize 20 * j + i = m at em hm
    have hv : vp_in (nI m) 120 := vp_in_nI hm (by omega)
    have I0 := I
    obtain ⟨⟨i1, i2, i3⟩, i4, i9, i10, iB, iH, iK, iK2, iM, iV, iW, iX, iY⟩ := I
    rcases rd_wf_c WM w m with hf | ⟨q, hq, hf, hqm⟩
    · have kx : ∀ post : Int32 → SX → Prop, (∀ y : Int32, y = nI (MP m) - 1 → (0 ≤ y → ∀ x5 : Int32, x5 = y >>> ((2 : Int32) &&& 31) → wpX_has (fun r_60 => (r_60 = 0 → wpX_lost (fun r_87 => (r_87 = 0 → wpX_gather (fun u => match u with | (f_volumes, f_free, f_shared, f_crashAfter, f_next, f_bad, f_down, f_noteMap, f_noteBlock, f_noteData, f_noteP, f_noteQ, f_waiting, f_delay, a_disk, a_health, a_mark, a_there, a_power, a_place, a_map, a_uses, a_data, a_waitMap, a_waitValue) => (vp_in (y &&& 3) 4 ∧ (post (a_data (y &&& 3).toNatClampNeg) (f_volumes, f_free, f_shared, f_crashAfter, f_next, f_bad, f_down, f_noteMap, f_noteBlock, f_noteData, f_noteP, f_noteQ, f_waiting, f_delay, a_disk, a_health, a_mark, a_there, a_power, a_place, a_map, a_uses, a_data, a_waitMap, a_waitValue)))) (nI (rd_k VT 6), lN (rd_k (rd_fz MP) 64), nI (rd_c (rd_sh MP) 64), cr, nI nx, bd, dn, nI nm, nI nb, nI n0, nI n1, nI n2, nI w, nI dl, rd_bF B, rd_nF HE, rd_nF MK, rd_th HE MK, rd_PW, rd_PL, rd_nF MP, rd_uF MP, DA, rd_nF WM, rd_nF WV) x5) ∧ (¬ r_87 = 0 → post (-3) (nI (rd_k VT 6), lN (rd_k (rd_fz MP) 64), nI (rd_c (rd_sh MP) 64), cr, nI nx, bd, dn, nI nm, nI nb, nI n0, nI n1, nI n2, nI w, nI dl, rd_bF B, rd_nF HE, rd_nF MK, rd_th HE MK, rd_PW, rd_PL, rd_nF MP, rd_uF MP, DA, rd_nF WM, rd_nF WV))) (nI (rd_k VT 6), lN (rd_k (rd_fz MP) 64), nI (rd_c (rd_sh MP) 64), cr, nI nx, bd, dn, nI nm, nI nb, nI n0, nI n1, nI n2, nI w, nI dl, rd_bF B, rd_nF HE, rd_nF MK, rd_th HE MK, rd_PW, rd_PL, rd_nF MP, rd_uF MP, DA, rd_nF WM, rd_nF WV) x5) ∧ (¬ r_60 = 0 → wpX_at (fun r_141 => post r_141 (nI (rd_k VT 6), lN (rd_k (rd_fz MP) 64), nI (rd_c (rd_sh MP) 64), cr, nI nx, bd, dn, nI nm, nI nb, nI n0, nI n1, nI n2, nI w, nI dl, rd_bF B, rd_nF HE, rd_nF MK, rd_th HE MK, rd_PW, rd_PL, rd_nF MP, rd_uF MP, DA, rd_nF WM, rd_nF WV)) (nI (rd_k VT 6), lN (rd_k (rd_fz MP) 64), nI (rd_c (rd_sh MP) 64), cr, nI nx, bd, dn, nI nm, nI nb, nI n0, nI n1, nI n2, nI w, nI dl, rd_bF B, rd_nF HE, rd_nF MK, rd_th HE MK, rd_PW, rd_PL, rd_nF MP, rd_uF MP, DA, rd_nF WM, rd_nF WV) x5 (y &&& 3))) (nI (rd_k VT 6), lN (rd_k (rd_fz MP) 64), nI (rd_c (rd_sh MP) 64), cr, nI nx, bd, dn, nI nm, nI nb, nI n0, nI n1, nI n2, nI w, nI dl, rd_bF B, rd_nF HE, rd_nF MK, rd_th HE MK, rd_PW, rd_PL, rd_nF MP, rd_uF MP, DA, rd_nF WM, rd_nF WV) x5 (y &&& 3)) ∧ (¬ 0 ≤ y → post 0 (nI (rd_k VT 6), lN (rd_k (rd_fz MP) 64), nI (rd_c (rd_sh MP) 64), cr, nI nx, bd, dn, nI nm, nI nb, nI n0, nI n1, nI n2, nI w, nI dl, rd_bF B, rd_nF HE, rd_nF MK, rd_th HE MK, rd_PW, rd_PL, rd_nF MP, rd_uF MP, DA, rd_nF WM, rd_nF WV))) → wpX_read post (nI (rd_k VT 6), lN (rd_k (rd_fz MP) 64), nI (rd_c (rd_sh MP) 64), cr, nI nx, bd, dn, nI nm, nI nb, nI n0, nI n1, nI n2, nI w, nI dl, rd_bF B, rd_nF HE, rd_nF MK, rd_th HE MK, rd_PW, rd_PL, rd_nF MP, rd_uF MP, DA, rd_nF WM, rd_nF WV) v1 v2 := by
        intro post h
        refine br_t hd (rd_x_isL ?_)
        rw [hl, em]
        refine br_f (by decide) (rd_x_wf iW hm (by omega) ?_)
        rw [hf]
        refine br_t (by decide) ⟨hv, ?_⟩
        rw [nI_clamp (by omega)]
        exact h
      have ky : ∀ post : Int32 → SY → Prop, (∀ y : Int32, y = nI (MP m) - 1 → (0 ≤ y → ¬ (4 : Int32) = 0 ∧ ∀ x6 : Int32, x6 = y / 4 → ¬ (4 : Int32) = 0 ∧ ∀ x7 : Int32, x7 = y - y / 4 * 4 → wpY_has (fun r_48 => (r_48 = 0 → wpY_lost (fun r_67 => (r_67 = 0 → wpY_weigh (fun u => match u with | (f_delay, f_crash, f_cursor, f_bad, f_down, f_waiting, f_noteBlock, f_noteFor, a_bytes, a_health, a_mark, a_there, a_on, a_waitsFor, a_waits, a_note, a_worth) => (vp_in x7 6 ∧ (post (a_worth x7.toNatClampNeg) (f_delay, f_crash, f_cursor, f_bad, f_down, f_waiting, f_noteBlock, f_noteFor, a_bytes, a_health, a_mark, a_there, a_on, a_waitsFor, a_waits, a_note, a_worth)))) (nI dl, cr, nI nx, bd, dn, nI w, nI nb, nI nm, rd_nF B, rd_nF HE, rd_nF MK, rd_vF VT, rd_on MP, rd_nF WM, rd_nF WV, rd_nt n0 n1 n2, WO) x6) ∧ (¬ r_67 = 0 → post (-3) (nI dl, cr, nI nx, bd, dn, nI w, nI nb, nI nm, rd_nF B, rd_nF HE, rd_nF MK, rd_vF VT, rd_on MP, rd_nF WM, rd_nF WV, rd_nt n0 n1 n2, WO))) (nI dl, cr, nI nx, bd, dn, nI w, nI nb, nI nm, rd_nF B, rd_nF HE, rd_nF MK, rd_vF VT, rd_on MP, rd_nF WM, rd_nF WV, rd_nt n0 n1 n2, WO) x6) ∧ (¬ r_48 = 0 → wpY_cell (fun r_105 => vp_in r_105 96 ∧ post (rd_nF B r_105.toNatClampNeg) (nI dl, cr, nI nx, bd, dn, nI w, nI nb, nI nm, rd_nF B, rd_nF HE, rd_nF MK, rd_vF VT, rd_on MP, rd_nF WM, rd_nF WV, rd_nt n0 n1 n2, WO)) x6 x7)) (nI dl, cr, nI nx, bd, dn, nI w, nI nb, nI nm, rd_nF B, rd_nF HE, rd_nF MK, rd_vF VT, rd_on MP, rd_nF WM, rd_nF WV, rd_nt n0 n1 n2, WO) x6 x7) ∧ (¬ 0 ≤ y → post 0 (nI dl, cr, nI nx, bd, dn, nI w, nI nb, nI nm, rd_nF B, rd_nF HE, rd_nF MK, rd_vF VT, rd_on MP, rd_nF WM, rd_nF WV, rd_nt n0 n1 n2, WO))) → wpY_read post (nI dl, cr, nI nx, bd, dn, nI w, nI nb, nI nm, rd_nF B, rd_nF HE, rd_nF MK, rd_vF VT, rd_on MP, rd_nF WM, rd_nF WV, rd_nt n0 n1 n2, WO) v1 v2 := by
        intro post h
        refine br_t hd (rd_y_isL ?_)
        rw [hl, em]
        refine br_f (by decide) (nm_e (rd_y_wf iW hm (by omega) ⟨hv, ?_⟩))
        rw [nI_clamp (by omega), rd_on_v MP hm]
        intro y hy
        rw [hf]
        exact br_t (by decide) (h y hy)
      have h64 := iM m
      cases e : MP m with
      | zero =>
        refine ⟨0, _, _, rd_mk (bd := bd) (DA := DA) (WO := WO) I0, fun post hp => kx post ?_, fun post hp => ky post ?_⟩
        · rw [e]; exact nm_r rd_m10 (br_f (by decide) hp)
        · rw [e]; exact nm_r rd_m10 (br_f (by decide) hp)
      | succ b =>
        have hb : b < 64 := by omega
        have e1 : nI b / 4 = nI (b / 4) := pk_div (d := 4) (by omega) (by decide) (by decide)
        have e2 : nI b - nI b / 4 * 4 = nI (b % 4) := pk_rem (d := 4) (by omega) (by decide) (by decide)
        have e3 := rd_a3 hb
        have hp0 : (0 : Int32) ≤ nI b := nI_pos' (by omega)
        cases hh : rd_hs HE MK (b / 4) (b % 4) with
        | true =>
          refine ⟨nI (B (rd_cel (b / 4) (b % 4))), _, _, rd_mk (bd := bd) (DA := DA) (WO := WO) I0, fun post hp => kx post ?_, fun post hp => ky post ?_⟩
          · rw [e]
            refine nm_r (rd_m1 b) (br_t hp0 (nm_r (rd_b4 hb) ?_))
            rw [e3]
            refine rd_x_has (by omega) (by omega) ?_
            rw [hh]
            exact br_f (by decide) (rd_x_at iB (by omega) (by omega) hp)
          · rw [e]
            refine nm_r (rd_m1 b) (br_t hp0 ⟨by decide, nm_r e1 ⟨by decide, nm_r e2 ?_⟩⟩)
            refine rd_y_has iH iK (by omega) (by omega) ?_
            rw [hh]
            have hc := rd_cel_lt (s := b / 4) (k := b % 4) (by omega)
            refine br_f (by decide) (rd_y_cell (by omega) (by omega) ⟨vp_in_nI hc (by omega), ?_⟩)
            rw [nI_clamp (by omega)]
            exact hp
        | false =>
          cases hls : rd_ls HE MK (b / 4) with
          | true =>
            refine ⟨-3, _, _, rd_mk (bd := bd) (DA := DA) (WO := WO) I0, fun post hp => kx post ?_, fun post hp => ky post ?_⟩
            · rw [e]
              refine nm_r (rd_m1 b) (br_t hp0 (nm_r (rd_b4 hb) ?_))
              rw [e3]
              refine rd_x_has (by omega) (by omega) ?_
              rw [hh]
              refine br_t rfl (rd_x_lost (by omega) ?_)
              rw [hls]
              exact br_f (by decide) hp
            · rw [e]
              refine nm_r (rd_m1 b) (br_t hp0 ⟨by decide, nm_r e1 ⟨by decide, nm_r e2 ?_⟩⟩)
              refine rd_y_has iH iK (by omega) (by omega) ?_
              rw [hh]
              refine br_t rfl (rd_y_lost iH iK (by omega) ?_)
              rw [hls]
              exact br_f (by decide) hp
          | false =>
            refine ⟨nI (rd_wv HE MK B (b / 4) (b % 4)), _, _, rd_mk (bd := bd) (DA := rd_4 (rd_wv HE MK B (b / 4)) DA) (WO := rd_n (rd_F6 HE MK B (b / 4) (rd_wv HE MK B (b / 4))) 6 WO) I0, fun post hp => kx post ?_, fun post hp => ky post ?_⟩
            · rw [e]
              refine nm_r (rd_m1 b) (br_t hp0 (nm_r (rd_b4 hb) ?_))
              rw [e3]
              refine rd_x_has (by omega) (by omega) ?_
              rw [hh]
              refine br_t rfl (rd_x_lost (by omega) ?_)
              rw [hls]
              refine br_t rfl (rd_x_gather iB (by omega) hls ⟨vp_in_nI (by omega) (by omega), ?_⟩)
              rw [nI_clamp (by omega), rd_4v (by omega)]
              exact hp
            · rw [e]
              refine nm_r (rd_m1 b) (br_t hp0 ⟨by decide, nm_r e1 ⟨by decide, nm_r e2 ?_⟩⟩)
              refine rd_y_has iH iK (by omega) (by omega) ?_
              rw [hh]
              refine br_t rfl (rd_y_lost iH iK (by omega) ?_)
              rw [hls]
              refine br_t rfl (rd_y_weigh iB iH iK (by omega) hls ⟨vp_in_nI (by omega) (by omega), ?_⟩)
              rw [nI_clamp (by omega), rd_nv (by omega), show rd_F6 HE MK B (b / 4) (rd_wv HE MK B (b / 4)) (b % 4) = rd_wv HE MK B (b / 4) (b % 4) from if_pos (by omega)]
              exact hp
    · have h6 : vp_in (nI q) 6 := vp_in_nI (by omega) (by omega)
      refine ⟨nI (WV q), _, _, rd_mk (bd := bd) (DA := DA) (WO := WO) I0, fun post hp => br_t hd (rd_x_isL ?_), fun post hp => br_t hd (rd_y_isL ?_)⟩
      · rw [hl, em]
        refine br_f (by decide) (rd_x_wf iW hm (by omega) ?_)
        rw [hf]
        refine br_f (nI_pos (by omega)) ⟨h6, ?_⟩
        rw [nI_clamp (by omega)]
        exact hp
      · rw [hl, em]
        refine br_f (by decide) (nm_e (rd_y_wf iW hm (by omega) ⟨hv, nm_e ?_⟩))
        rw [hf]
        refine br_f (nI_pos (by omega)) ⟨h6, ?_⟩
        rw [nI_clamp (by omega)]
        exact hp
end
section
/-! snapshot -/
def rd_cp (MP : Nat → Nat) (j v i : Nat) : Nat → Nat := fun m => if 20 * v ≤ m ∧ m < 20 * v + i then MP (m - 20 * v + 20 * j) else MP m
def rd_fv (VT : Nat → Bool) : Nat := rd_lff (fun v => !VT v) 6 0
theorem rd_cp_0 (MP : Nat → Nat) (j v : Nat) : rd_cp MP j v 0 = MP := by
  funext m; exact if_neg (by omega)
theorem rd_cp_s (MP : Nat → Nat) (j v i : Nat) : rd_u (rd_cp MP j v i) (20 * v + i) (MP (20 * j + i)) = rd_cp MP j v (i + 1) := by
  funext m
  show (if m = 20 * v + i then MP (20 * j + i) else if 20 * v ≤ m ∧ m < 20 * v + i then MP (m - 20 * v + 20 * j) else MP m) = if 20 * v ≤ m ∧ m < 20 * v + (i + 1) then MP (m - 20 * v + 20 * j) else MP m
  by_cases e : m = 20 * v + i
  · subst e
    rw [if_pos rfl, if_pos (by omega), show 20 * v + i - 20 * v + 20 * j = 20 * j + i by omega]
  · rw [if_neg e]
    by_cases z : 20 * v ≤ m ∧ m < 20 * v + i
    · rw [if_pos z, if_pos (by omega)]
    · rw [if_neg z, if_neg (by omega)]
theorem rd_cp_o {MP : Nat → Nat} {j v i m : Nat} (h : ¬ (20 * v ≤ m ∧ m < 20 * v + i)) : rd_cp MP j v i m = MP m := if_neg h
theorem rd_cp_le {MP : Nat → Nat} {j v i : Nat} (h : ∀ m, MP m ≤ 64) (m : Nat) : rd_cp MP j v i m ≤ 64 := by
  unfold rd_cp; split
  · exact h _
  · exact h _
theorem rd_ct_lt {MP : Nat → Nat} {m : Nat} (hm : m < 120) (h : MP m = 0) (b : Nat) : rd_ct MP b < 120 := by
  have e := rd_ct_inc (b := b) hm h b
  rw [if_pos rfl] at e
  have := rd_ct_le (rd_u MP m (b + 1)) b
  omega
theorem rd_20 (v i : Nat) : 20 * nI v + nI i = nI (20 * v + i) := by
  have : (20 : Int32) * nI v = nI (20 * v) := pk_mul 20 v
  rw [this, nI_add]
theorem rd_fv_le (VT : Nat → Bool) : rd_fv VT ≤ 6 := by have := rd_lff_le (fun v => !VT v) 6 0; unfold rd_fv; omega
theorem rd_fv_f {VT : Nat → Bool} (h : rd_fv VT < 6) : VT (rd_fv VT) = false := by
  have e : (!VT (rd_fv VT)) = true := rd_lff_p (fun v => !VT v) 6 0 (by unfold rd_fv at h; omega)
  cases q : VT (rd_fv VT) with
  | false => rfl
  | true => rw [q] at e; cases e
section
variable {dl w nx nb nm n0 n1 n2 : Nat} {cr bd dn : Int32} {B HE MK : Nat → Nat} {VT : Nat → Bool} {MP WM WV : Nat → Nat} {DA WO : Nat → Int32}
theorem rd_x_s45 {post : Int32 → SX → Prop} {j v : Nat} {V : Int32} (hj : j < 6) (hv : v < 6) (hjv : j ≠ v) (hM : ∀ m, MP m ≤ 64) (h0 : ∀ l, l < 20 → MP (20 * v + l) = 0) (hp : post (nI v) (V, lN (rd_k (rd_fz (rd_cp MP j v 20)) 64), nI (rd_c (rd_sh (rd_cp MP j v 20)) 64), cr, nI nx, bd, dn, nI nm, nI nb, nI n0, nI n1, nI n2, nI w, nI dl, rd_bF B, rd_nF HE, rd_nF MK, rd_th HE MK, rd_PW, rd_PL, rd_nF (rd_cp MP j v 20), rd_uF (rd_cp MP j v 20), DA, rd_nF WM, rd_nF WV)) : ∀ (d i n : Nat), i + d = 20 → d < n → wX_split_45 post (nI j) (nI v) n (nI i) V (lN (rd_k (rd_fz (rd_cp MP j v i)) 64)) (nI (rd_c (rd_sh (rd_cp MP j v i)) 64)) cr (nI nx) bd dn (nI nm) (nI nb) (nI n0) (nI n1) (nI n2) (nI w) (nI dl) (rd_bF B) (rd_nF HE) (rd_nF MK) (rd_th HE MK) rd_PW rd_PL (rd_nF (rd_cp MP j v i)) (rd_uF (rd_cp MP j v i)) DA (rd_nF WM) (rd_nF WV)
  | _, _, 0, _, h => by omega
  | 0, i, n + 1, h, _ => by
    have : i = 20 := by omega
    subst this
    unfold wX_split_45
    exact br_t (by decide) hp
  | d + 1, i, n + 1, h, hn => by
    have ih := rd_x_s45 hj hv hjv hM h0 hp d (i + 1) n (by omega) (by omega)
    unfold wX_split_45
    rw [rd_20, rd_20]
    have e1 : rd_cp MP j v i (20 * j + i) = MP (20 * j + i) := rd_cp_o (by omega)
    have e2 : rd_cp MP j v i (20 * v + i) = 0 := by rw [rd_cp_o (by omega)]; exact h0 i (by omega)
    have h64 := hM (20 * j + i)
    refine br_f (nI_ge (b := 20) (by omega) (by decide)) ⟨vp_in_nI (by omega) (by omega), nm_r (e' := nI (MP (20 * j + i))) ?_ ⟨vp_in_nI (by omega) (by omega), ?_⟩⟩
    · rw [nI_clamp (by omega)]
      show nI (rd_cp MP j v i (20 * j + i)) = _
      rw [e1]
    · rw [nI_clamp (by omega), rd_nb (by omega), rd_upN, rd_cp_s]
      cases e : MP (20 * j + i) with
      | zero =>
        have e3 : rd_cp MP j v (i + 1) = rd_cp MP j v i := by
          rw [← rd_cp_s, e, ← e2, rd_ui]
        rw [e3] at ih
        rw [e3]
        exact nm_e (br_t (by decide) (nm_r (nI_1 i) ih))
      | succ b =>
        refine nm_e (br_f (nI_nle (by omega) (by omega)) ?_)
        rw [rd_m1]
        refine rd_x_inc (m := 20 * v + i) (MP := rd_cp MP j v i) (by omega) e2 (by omega) (rd_ct_lt (by omega) e2 b) ?_
        rw [← e, rd_cp_s]
        exact nm_r (nI_1 i) ih
theorem rd_x_s14 {post : Int32 → SX → Prop} {j : Nat} (HX : rd_fv VT < 6 → ∃ n, wX_split_45 post (nI j) (nI (rd_fv VT)) n 0 (nI (rd_k (rd_u VT (rd_fv VT) true) 6)) (lN (rd_k (rd_fz MP) 64)) (nI (rd_c (rd_sh MP) 64)) cr (nI nx) bd dn (nI nm) (nI nb) (nI n0) (nI n1) (nI n2) (nI w) (nI dl) (rd_bF B) (rd_nF HE) (rd_nF MK) (rd_th HE MK) rd_PW rd_PL (rd_nF MP) (rd_uF MP) DA (rd_nF WM) (rd_nF WV)) : ∀ (d i n : Nat), i + d = 6 → d ≤ n → rd_lff (fun v => !VT v) d i = rd_fv VT → rd_fv VT < 6 → wX_split_14 post (nI j) (nI (rd_k VT 6)) (lN (rd_k (rd_fz MP) 64)) (nI (rd_c (rd_sh MP) 64)) cr (nI nx) bd dn (nI nm) (nI nb) (nI n0) (nI n1) (nI n2) (nI w) (nI dl) (rd_bF B) (rd_nF HE) (rd_nF MK) (rd_th HE MK) rd_PW rd_PL (rd_nF MP) (rd_uF MP) DA (rd_nF WM) (rd_nF WV) n (nI i)
  | 0, i, n, h, _, e, hf => by unfold rd_lff at e; omega
  | d + 1, i, 0, h, hn, _, _ => by omega
  | d + 1, i, n + 1, h, hn, e, hf => by
    unfold wX_split_14
    have hl := rd_k_lt VT 6
    have hb := rd_bit1 (t := rd_k VT 6) (d := i) (by omega) (by omega)
    rw [rd_k_bit, decide_eq_true (show i < 6 by omega), Bool.true_and] at hb
    unfold rd_lff at e
    refine ek_if hb (fun z => ?_) (fun z => nm_r (nI_1 i) ?_)
    · rw [if_pos (by rw [z]; rfl)] at e
      have HX' := HX hf
      rw [← e] at HX'
      rw [rd_setI VT (show i < 6 by omega) (by decide)]
      exact nm_e HX'
    · rw [if_neg (by rw [ts_nf z]; decide)] at e
      exact rd_x_s14 HX d (i + 1) n (by omega) (by omega) e hf
theorem rd_x_split {post : Int32 → SX → Prop} {j : Nat} (hj : j < 6) (hVj : VT j = true) (hM : ∀ m, MP m ≤ 64) (iV : ∀ v, v < 6 → VT v = false → ∀ l, l < 20 → MP (20 * v + l) = 0) (h6 : rd_fv VT = 6 → post (-2) (nI (rd_k VT 6), lN (rd_k (rd_fz MP) 64), nI (rd_c (rd_sh MP) 64), cr, nI nx, bd, dn, nI nm, nI nb, nI n0, nI n1, nI n2, nI w, nI dl, rd_bF B, rd_nF HE, rd_nF MK, rd_th HE MK, rd_PW, rd_PL, rd_nF MP, rd_uF MP, DA, rd_nF WM, rd_nF WV)) (hp : rd_fv VT < 6 → post (nI (rd_fv VT)) (nI (rd_k (rd_u VT (rd_fv VT) true) 6), lN (rd_k (rd_fz (rd_cp MP j (rd_fv VT) 20)) 64), nI (rd_c (rd_sh (rd_cp MP j (rd_fv VT) 20)) 64), cr, nI nx, bd, dn, nI nm, nI nb, nI n0, nI n1, nI n2, nI w, nI dl, rd_bF B, rd_nF HE, rd_nF MK, rd_th HE MK, rd_PW, rd_PL, rd_nF (rd_cp MP j (rd_fv VT) 20), rd_uF (rd_cp MP j (rd_fv VT) 20), DA, rd_nF WM, rd_nF WV)) : wpX_split post (nI (rd_k VT 6), lN (rd_k (rd_fz MP) 64), nI (rd_c (rd_sh MP) 64), cr, nI nx, bd, dn, nI nm, nI nb, nI n0, nI n1, nI n2, nI w, nI dl, rd_bF B, rd_nF HE, rd_nF MK, rd_th HE MK, rd_PW, rd_PL, rd_nF MP, rd_uF MP, DA, rd_nF WM, rd_nF WV) (nI j) := by
  unfold wpX_split
  dsimp only
  have hl := rd_k_lt VT 6
  refine pk_eq (rd_k VT 6) 63 (fun e => ?_) (fun e => ?_)
  · have hall := rd_k_f.mp (show rd_k VT 6 = 2 ^ 6 - 1 from e)
    have : rd_fv VT = 6 := rd_lff_n (p := fun v => !VT v) (d := 6) (i := 0) (fun t _ ht => by rw [hall t (by omega)]; rfl)
    exact h6 this
  · have hlt : rd_fv VT < 6 := by
      rcases Nat.lt_or_ge (rd_fv VT) 6 with z | z
      · exact z
      · refine absurd (rd_k_f.mpr (fun i hi => ?_)) (show ¬ rd_k VT 6 = 2 ^ 6 - 1 from e)
        cases q : VT i with
        | true => rfl
        | false =>
          have key : ∀ (d t : Nat), t + d = 6 → t ≤ i → rd_lff (fun v => !VT v) d t ≤ i := by
            intro d
            induction d with
            | zero => intro t h1 h2; omega
            | succ d ih =>
              intro t h1 h2
              unfold rd_lff
              split
              · exact h2
              · rename_i y
                refine ih (t + 1) (by omega) ?_
                rcases Nat.lt_or_ge t i with z | z
                · exact z
                · have : t = i := by omega
                  subst this
                  exact absurd (show (!VT t) = true by rw [q]; rfl) y
          have := key 6 0 rfl (Nat.zero_le _)
          unfold rd_fv at z
          omega
    have hvf := rd_fv_f hlt
    have hne : j ≠ rd_fv VT := fun z => by rw [← z, hVj] at hvf; cases hvf
    refine ⟨6, rd_x_s14 (fun _ => ⟨21, ?_⟩) 6 0 6 rfl (by decide) rfl hlt⟩
    have H := rd_x_s45 (post := post) (V := nI (rd_k (rd_u VT (rd_fv VT) true) 6)) hj hlt hne hM (iV _ hlt hvf) (hp hlt) 20 0 21 rfl (by decide)
    rw [rd_cp_0] at H
    exact H
theorem rd_y_s106 {post : Int32 → SY → Prop} {j v : Nat} (hj : j < 6) (hv : v < 6) (hjv : j ≠ v) (hp : post (nI v) (nI dl, cr, nI nx, bd, dn, nI w, nI nb, nI nm, rd_nF B, rd_nF HE, rd_nF MK, rd_vF VT, rd_on (rd_cp MP j v 20), rd_nF WM, rd_nF WV, rd_nt n0 n1 n2, WO)) : ∀ (d i n : Nat), i + d = 20 → d < n → wY_snapshot_106 post (nI j) (nI v) (nI dl) cr (nI nx) bd dn (nI w) (nI nb) (nI nm) n (nI i) (rd_nF B) (rd_nF HE) (rd_nF MK) (rd_vF VT) (rd_on (rd_cp MP j v i)) (rd_nF WM) (rd_nF WV) (rd_nt n0 n1 n2) WO
  | _, _, 0, _, h => by omega
  | 0, i, n + 1, h, _ => by
    have : i = 20 := by omega
    subst this
    unfold wY_snapshot_106
    exact br_t (by decide) hp
  | d + 1, i, n + 1, h, hn => by
    have ih := rd_y_s106 hj hv hjv hp d (i + 1) n (by omega) (by omega)
    unfold wY_snapshot_106
    rw [rd_20, rd_20]
    have e1 : rd_cp MP j v i (20 * j + i) = MP (20 * j + i) := rd_cp_o (by omega)
    refine br_f (nI_ge (b := 20) (by omega) (by decide)) ⟨vp_in_nI (by omega) (by omega), vp_in_nI (by omega) (by omega), ?_⟩
    rw [nI_clamp (n := 20 * j + i) (by omega), nI_clamp (n := 20 * v + i) (by omega), rd_on_v _ (show 20 * j + i < 120 by omega), e1, rd_upO _ _ (by omega), rd_cp_s]
    exact nm_e (nm_r (nI_1 i) ih)
theorem rd_y_s66 {post : Int32 → SY → Prop} {j : Nat} (HX : wY_snapshot_87 post (nI j) (nI (rd_fv VT)) (nI dl) cr (nI nx) bd dn (nI w) (nI nb) (nI nm) (rd_nF B) (rd_nF HE) (rd_nF MK) (rd_vF VT) (rd_on MP) (rd_nF WM) (rd_nF WV) (rd_nt n0 n1 n2) WO) : ∀ (d i n : Nat), i + d = 6 → d < n → rd_lff (fun v => !VT v) d i = rd_fv VT → wY_snapshot_66 post (nI j) (nI dl) cr (nI nx) bd dn (nI w) (nI nb) (nI nm) (rd_nF B) (rd_nF HE) (rd_nF MK) (rd_vF VT) (rd_on MP) (rd_nF WM) (rd_nF WV) (rd_nt n0 n1 n2) WO n (nI i)
  | _, _, 0, _, h, _ => by omega
  | 0, i, n + 1, h, _, e => by
    unfold wY_snapshot_66
    unfold rd_lff at e
    have : i = 6 := by omega
    subst this
    rw [← e] at HX
    exact br_t (by decide) HX
  | d + 1, i, n + 1, h, hn, e => by
    unfold wY_snapshot_66
    unfold rd_lff at e
    refine br_f (nI_ge (b := 6) (by omega) (by decide)) ⟨vp_in_nI (by omega) (by omega), ?_⟩
    rw [nI_clamp (by omega)]
    refine rd_brb (VT i) rfl (fun z => ?_) (fun z => nm_r (nI_1 i) ?_)
    · rw [if_pos (by rw [z]; rfl)] at e
      rw [← e] at HX
      exact HX
    · rw [if_neg (by rw [z]; decide)] at e
      exact rd_y_s66 HX d (i + 1) n (by omega) (by omega) e
theorem rd_y_split {post : Int32 → SY → Prop} {j : Nat} (hj : j < 6) (hVj : VT j = true) (h6 : rd_fv VT = 6 → post (-2) (nI dl, cr, nI nx, bd, dn, nI w, nI nb, nI nm, rd_nF B, rd_nF HE, rd_nF MK, rd_vF VT, rd_on MP, rd_nF WM, rd_nF WV, rd_nt n0 n1 n2, WO)) (hp : rd_fv VT < 6 → post (nI (rd_fv VT)) (nI dl, cr, nI nx, bd, dn, nI w, nI nb, nI nm, rd_nF B, rd_nF HE, rd_nF MK, rd_vF (rd_u VT (rd_fv VT) true), rd_on (rd_cp MP j (rd_fv VT) 20), rd_nF WM, rd_nF WV, rd_nt n0 n1 n2, WO)) : ∃ n, wY_snapshot_66 post (nI j) (nI dl) cr (nI nx) bd dn (nI w) (nI nb) (nI nm) (rd_nF B) (rd_nF HE) (rd_nF MK) (rd_vF VT) (rd_on MP) (rd_nF WM) (rd_nF WV) (rd_nt n0 n1 n2) WO n 0 := by
  have hle := rd_fv_le VT
  refine ⟨7, rd_y_s66 ?_ 6 0 7 rfl (by decide) rfl⟩
  unfold wY_snapshot_87
  refine pk_eq (rd_fv VT) 6 (fun e => h6 e) (fun e => ⟨vp_in_nI (by omega) (by omega), ?_⟩)
  have hlt : rd_fv VT < 6 := by omega
  have hvf := rd_fv_f hlt
  have hne : j ≠ rd_fv VT := fun z => by rw [← z, hVj] at hvf; cases hvf
  rw [nI_clamp (by omega), rd_no, rd_upV]
  have H := rd_y_s106 (post := post) (VT := rd_u VT (rd_fv VT) true) hj hlt hne (hp hlt) 20 0 21 rfl (by decide)
  rw [rd_cp_0] at H
  exact nm_e ⟨21, H⟩
theorem rd_I_split {j : Nat} (I : rd_I dl w nx nb nm n0 n1 n2 cr dn B HE MK VT MP WM WV) (hlt : rd_fv VT < 6) : rd_I dl w nx nb nm n0 n1 n2 cr dn B HE MK (rd_u VT (rd_fv VT) true) (rd_cp MP j (rd_fv VT) 20) WM WV := by
  obtain ⟨i1, i4, i9, i10, iB, iH, iK, iK2, iM, iV, iW, iX, iY⟩ := I
  have up : ∀ x, VT x = true → rd_u VT (rd_fv VT) true x = true := by
    intro x hx
    by_cases e : x = rd_fv VT
    · rw [e, rd_us]
    · rw [rd_un e]; exact hx
  refine ⟨i1, i4, i9, fun z => up _ (i10 z), iB, iH, iK, iK2, rd_cp_le iM, fun x hx hf l hl => ?_, iW, iX, fun i hi => up _ (iY i hi)⟩
  by_cases e : x = rd_fv VT
  · rw [e, rd_us] at hf; cases hf
  · rw [rd_un e] at hf
    rw [rd_cp_o (by omega)]
    exact iV x hx hf l hl
end
theorem rd_js {j : Nat} (hj : j < 6) : ∀ (d k : Nat) (dl w nx nb nm n0 n1 n2 : Nat) (cr bd dn : Int32) (B HE MK : Nat → Nat) (VT : Nat → Bool) (MP WM WV : Nat → Nat) (DA WO : Nat → Int32), rd_I dl w nx nb nm n0 n1 n2 cr dn B HE MK VT MP WM WV → VT j = true → k + d = w → ∃ (r : Int32) (u' : SX) (v' : SY), (∀ k, i_Rel k u' v') ∧ (∀ (post : Int32 → SX → Prop) (fu : Nat), d < fu → post r u' → wX_snapshot_22 post (nI j) fu (nI k) (nI (rd_k VT 6)) (lN (rd_k (rd_fz MP) 64)) (nI (rd_c (rd_sh MP) 64)) cr (nI nx) bd dn (nI nm) (nI nb) (nI n0) (nI n1) (nI n2) (nI w) (nI dl) (rd_bF B) (rd_nF HE) (rd_nF MK) (rd_th HE MK) rd_PW rd_PL (rd_nF MP) (rd_uF MP) DA (rd_nF WM) (rd_nF WV)) ∧ (∀ (post : Int32 → SY → Prop) (fu : Nat), d < fu → post r v' → wY_snapshot_22 post (nI j) fu (nI k) (nI dl) cr (nI nx) bd dn (nI w) (nI nb) (nI nm) (rd_nF B) (rd_nF HE) (rd_nF MK) (rd_vF VT) (rd_on MP) (rd_nF WM) (rd_nF WV) (rd_nt n0 n1 n2) WO) := by
  intro d
  induction d with
  | zero =>
    intro k dl w nx nb nm n0 n1 n2 cr bd dn B HE MK VT MP WM WV DA WO I hVj h
    have : k = w := by omega
    subst this
    have I0 := I
    obtain ⟨⟨i1, i2, i3⟩, i4, i9, i10, iB, iH, iK, iK2, iM, iV, iW, iX, iY⟩ := I
    by_cases h6 : rd_fv VT = 6
    · refine ⟨-2, (nI (rd_k VT 6), lN (rd_k (rd_fz MP) 64), nI (rd_c (rd_sh MP) 64), cr, nI nx, bd, dn, nI nm, nI nb, nI n0, nI n1, nI n2, nI k, nI dl, rd_bF B, rd_nF HE, rd_nF MK, rd_th HE MK, rd_PW, rd_PL, rd_nF MP, rd_uF MP, DA, rd_nF WM, rd_nF WV), (nI dl, cr, nI nx, bd, dn, nI k, nI nb, nI nm, rd_nF B, rd_nF HE, rd_nF MK, rd_vF VT, rd_on MP, rd_nF WM, rd_nF WV, rd_nt n0 n1 n2, WO), fun _ => rd_mk I0, fun post fu hf hp => ?_, fun post fu hf hp => ?_⟩
      · obtain ⟨f, rfl⟩ : ∃ f, fu = f + 1 := ⟨fu - 1, by omega⟩
        unfold wX_snapshot_22
        exact br_t (Int32.le_refl _) (rd_x_split hj hVj iM iV (fun _ => hp) (fun z => by omega))
      · obtain ⟨f, rfl⟩ : ∃ f, fu = f + 1 := ⟨fu - 1, by omega⟩
        unfold wY_snapshot_22
        exact br_t (Int32.le_refl _) (rd_y_split hj hVj (fun _ => hp) (fun z => by omega))
    · have hlt : rd_fv VT < 6 := by have := rd_fv_le VT; omega
      refine ⟨nI (rd_fv VT), (nI (rd_k (rd_u VT (rd_fv VT) true) 6), lN (rd_k (rd_fz (rd_cp MP j (rd_fv VT) 20)) 64), nI (rd_c (rd_sh (rd_cp MP j (rd_fv VT) 20)) 64), cr, nI nx, bd, dn, nI nm, nI nb, nI n0, nI n1, nI n2, nI k, nI dl, rd_bF B, rd_nF HE, rd_nF MK, rd_th HE MK, rd_PW, rd_PL, rd_nF (rd_cp MP j (rd_fv VT) 20), rd_uF (rd_cp MP j (rd_fv VT) 20), DA, rd_nF WM, rd_nF WV), (nI dl, cr, nI nx, bd, dn, nI k, nI nb, nI nm, rd_nF B, rd_nF HE, rd_nF MK, rd_vF (rd_u VT (rd_fv VT) true), rd_on (rd_cp MP j (rd_fv VT) 20), rd_nF WM, rd_nF WV, rd_nt n0 n1 n2, WO), fun _ => rd_mk (rd_I_split I0 hlt), fun post fu hf hp => ?_, fun post fu hf hp => ?_⟩
      · obtain ⟨f, rfl⟩ : ∃ f, fu = f + 1 := ⟨fu - 1, by omega⟩
        unfold wX_snapshot_22
        exact br_t (Int32.le_refl _) (rd_x_split hj hVj iM iV (fun z => by omega) (fun _ => hp))
      · obtain ⟨f, rfl⟩ : ∃ f, fu = f + 1 := ⟨fu - 1, by omega⟩
        unfold wY_snapshot_22
        exact br_t (Int32.le_refl _) (rd_y_split hj hVj (fun z => by omega) (fun _ => hp))
  | succ d ih =>
    intro k dl w nx nb nm n0 n1 n2 cr bd dn B HE MK VT MP WM WV DA WO I hVj h
    have I0 := I
    obtain ⟨⟨i1, i2, i3⟩, i4, i9, i10, iB, iH, iK, iK2, iM, iV, iW, iX, iY⟩ := I
    have hlt : ¬ nI w ≤ nI k := nI_ge (by omega) (by omega)
    have hv6 : vp_in (nI k) 6 := vp_in_nI (by omega) (by omega)
    have hW := iW k
    have hdiv : rd_nF WM (nI k).toNatClampNeg / 20 = nI (WM k / 20) := by
      rw [nI_clamp (by omega)]
      exact pk_div (d := 20) (by omega) (by decide) (by decide)
    by_cases hm : WM k / 20 = j
    · have hmt : nI (WM k / 20) = nI j := by rw [hm]
      obtain ⟨r, w', nb', nm', n0', n1', n2', cr', dn', B', MP', WM', WV', DA', WO', I', h0', hr, hX, hY⟩ := rd_jw (DA := DA) (WO := WO) (bd := bd) (k := k) I0 (by omega)
      have hr1 : ¬ r = -1 := by
        rcases hr with e | e | e | e <;> rw [e] <;> decide
      by_cases er : r = 0
      · obtain ⟨r2, u2, v2, hR, hX2, hY2⟩ := ih k dl w' nx nb' nm' n0' n1' n2' cr' bd dn' B' HE MK VT MP' WM' WV' DA' WO' I' hVj (by have := h0' er; omega)
        refine ⟨r2, u2, v2, hR, fun post fu hf hp => ?_, fun post fu hf hp => ?_⟩
        · obtain ⟨f, rfl⟩ : ∃ f, fu = f + 1 := ⟨fu - 1, by omega⟩
          unfold wX_snapshot_22
          rw [hdiv]
          refine br_f hlt ⟨hv6, by decide, br_t hmt (hX _ ?_)⟩
          show wX_snapshot_52 _ _ _ _ _ (nI (rd_k VT 6)) (lN (rd_k (rd_fz MP') 64)) (nI (rd_c (rd_sh MP') 64)) cr' (nI nx) bd dn' (nI nm') (nI nb') (nI n0') (nI n1') (nI n2') (nI w') (nI dl) (rd_bF B') (rd_nF HE) (rd_nF MK) (rd_th HE MK) rd_PW rd_PL (rd_nF MP') (rd_uF MP') DA' (rd_nF WM') (rd_nF WV')
          unfold wX_snapshot_52
          exact br_f hr1 (br_t er (hX2 post f (by omega) hp))
        · obtain ⟨f, rfl⟩ : ∃ f, fu = f + 1 := ⟨fu - 1, by omega⟩
          unfold wY_snapshot_22
          rw [hdiv]
          exact br_f hlt ⟨hv6, by decide, br_t hmt (hY _ (br_t er (hY2 post f (by omega) hp)))⟩
      · refine ⟨r, _, _, fun _ => rd_mk (bd := bd) (DA := DA') (WO := WO') I', fun post fu hf hp => ?_, fun post fu hf hp => ?_⟩
        · obtain ⟨f, rfl⟩ : ∃ f, fu = f + 1 := ⟨fu - 1, by omega⟩
          unfold wX_snapshot_22
          rw [hdiv]
          refine br_f hlt ⟨hv6, by decide, br_t hmt (hX _ ?_)⟩
          show wX_snapshot_52 _ _ _ _ _ (nI (rd_k VT 6)) (lN (rd_k (rd_fz MP') 64)) (nI (rd_c (rd_sh MP') 64)) cr' (nI nx) bd dn' (nI nm') (nI nb') (nI n0') (nI n1') (nI n2') (nI w') (nI dl) (rd_bF B') (rd_nF HE) (rd_nF MK) (rd_th HE MK) rd_PW rd_PL (rd_nF MP') (rd_uF MP') DA' (rd_nF WM') (rd_nF WV')
          unfold wX_snapshot_52
          exact br_f hr1 (br_f er hp)
        · obtain ⟨f, rfl⟩ : ∃ f, fu = f + 1 := ⟨fu - 1, by omega⟩
          unfold wY_snapshot_22
          rw [hdiv]
          exact br_f hlt ⟨hv6, by decide, br_t hmt (hY _ (br_f er hp))⟩
    · have hmf : ¬ nI (WM k / 20) = nI j := fun z => hm ((nI_eq (by omega) (by omega)).mp z)
      obtain ⟨r2, u2, v2, hR, hX2, hY2⟩ := ih (k + 1) dl w nx nb nm n0 n1 n2 cr bd dn B HE MK VT MP WM WV DA WO I0 hVj (by omega)
      refine ⟨r2, u2, v2, hR, fun post fu hf hp => ?_, fun post fu hf hp => ?_⟩
      · obtain ⟨f, rfl⟩ : ∃ f, fu = f + 1 := ⟨fu - 1, by omega⟩
        unfold wX_snapshot_22
        rw [hdiv]
        refine br_f hlt ⟨hv6, by decide, br_f hmf ?_⟩
        unfold wX_snapshot_52
        exact br_t rfl (nm_r (nI_1 k) (hX2 post f (by omega) hp))
      · obtain ⟨f, rfl⟩ : ∃ f, fu = f + 1 := ⟨fu - 1, by omega⟩
        unfold wY_snapshot_22
        rw [hdiv]
        exact br_f hlt ⟨hv6, by decide, br_f hmf (nm_r (nI_1 k) (hY2 post f (by omega) hp))⟩
theorem i_vc_snapshot {k : Nat} {u : SX} {v : SY} (I : i_Rel k u v) (hk : k + 4 ≤ 2048) (v1 : Int32) : wpX_snapshot (fun r u' => wpY_snapshot (fun r' v' => r' = r ∧ i_Rel (k + 4) u' v') v v1) u v1 := by
  refine rd_el (P := fun u v => wpX_snapshot (fun r u' => wpY_snapshot (fun r' v' => r' = r ∧ i_Rel (k + 4) u' v') v v1) u v1) ?_ I
  clear I u v
  intro dl w nx nb nm n0 n1 n2 cr bd dn B HE MK VT MP WM WV DA WO I
  refine rd_fin (PX := fun post => wpX_snapshot post (nI (rd_k VT 6), lN (rd_k (rd_fz MP) 64), nI (rd_c (rd_sh MP) 64), cr, nI nx, bd, dn, nI nm, nI nb, nI n0, nI n1, nI n2, nI w, nI dl, rd_bF B, rd_nF HE, rd_nF MK, rd_th HE MK, rd_PW, rd_PL, rd_nF MP, rd_uF MP, DA, rd_nF WM, rd_nF WV) v1) (PY := fun post => wpY_snapshot post (nI dl, cr, nI nx, bd, dn, nI w, nI nb, nI nm, rd_nF B, rd_nF HE, rd_nF MK, rd_vF VT, rd_on MP, rd_nF WM, rd_nF WV, rd_nt n0 n1 n2, WO) v1) ?_
  by_cases hd : dn = 0
  case neg => exact ⟨-4, (nI (rd_k VT 6), lN (rd_k (rd_fz MP) 64), nI (rd_c (rd_sh MP) 64), cr, nI nx, bd, dn, nI nm, nI nb, nI n0, nI n1, nI n2, nI w, nI dl, rd_bF B, rd_nF HE, rd_nF MK, rd_th HE MK, rd_PW, rd_PL, rd_nF MP, rd_uF MP, DA, rd_nF WM, rd_nF WV), (nI dl, cr, nI nx, bd, dn, nI w, nI nb, nI nm, rd_nF B, rd_nF HE, rd_nF MK, rd_vF VT, rd_on MP, rd_nF WM, rd_nF WV, rd_nt n0 n1 n2, WO), rd_mk I, fun post hp => br_f hd hp, fun post hp => br_f hd hp⟩
  cases hl : rd_vol VT v1 with
  | false =>
    exact ⟨-1, (nI (rd_k VT 6), lN (rd_k (rd_fz MP) 64), nI (rd_c (rd_sh MP) 64), cr, nI nx, bd, dn, nI nm, nI nb, nI n0, nI n1, nI n2, nI w, nI dl, rd_bF B, rd_nF HE, rd_nF MK, rd_th HE MK, rd_PW, rd_PL, rd_nF MP, rd_uF MP, DA, rd_nF WM, rd_nF WV), (nI dl, cr, nI nx, bd, dn, nI w, nI nb, nI nm, rd_nF B, rd_nF HE, rd_nF MK, rd_vF VT, rd_on MP, rd_nF WM, rd_nF WV, rd_nt n0 n1 n2, WO), rd_mk I, fun post hp => br_t hd (rd_x_isV (by rw [hl]; exact br_t rfl hp)), fun post hp => br_t hd (rd_y_isV (by rw [hl]; exact br_t rfl hp))⟩
  | true =>
    obtain ⟨j, hj, rfl, hV⟩ := rd_vol_t hl
    obtain ⟨r, u', v', hR, hX, hY⟩ := rd_js hj w 0 dl w nx nb nm n0 n1 n2 cr bd dn B HE MK VT MP WM WV DA WO I hV (by omega)
    refine ⟨r, u', v', hR _, fun post hp => br_t hd (rd_x_isV ?_), fun post hp => br_t hd (rd_y_isV ?_)⟩
    · rw [hl]
      exact br_f (by decide) ⟨w + 1, hX post (w + 1) (by omega) hp⟩
    · rw [hl]
      exact br_f (by decide) ⟨w + 1, hY post (w + 1) (by omega) hp⟩
end
section
/-! drop -/
def rd_rm (j : Nat) : Nat → Nat × (Nat → Nat) × (Nat → Nat) → Nat × (Nat → Nat) × (Nat → Nat)
  | 0, p => p
  | k + 1, p => if p.2.1 k / 20 = j then rd_rm j k (p.1 - 1, rd_lv p.2.1 k (p.1 - 1), rd_lv p.2.2 k (p.1 - 1)) else rd_rm j k p
theorem rd_rm_le (j : Nat) : ∀ (k : Nat) (p : Nat × (Nat → Nat) × (Nat → Nat)), (rd_rm j k p).1 ≤ p.1
  | 0, p => Nat.le_refl _
  | k + 1, p => by
    unfold rd_rm
    split
    · have := rd_rm_le j k (p.1 - 1, rd_lv p.2.1 k (p.1 - 1), rd_lv p.2.2 k (p.1 - 1))
      dsimp only at this
      omega
    · exact rd_rm_le j k p
theorem rd_rm_m {j N : Nat} : ∀ (k : Nat) (p : Nat × (Nat → Nat) × (Nat → Nat)), (∀ i, p.2.1 i < N) → ∀ i, (rd_rm j k p).2.1 i < N
  | 0, p, h => h
  | k + 1, p, h => by
    unfold rd_rm
    split
    · exact rd_rm_m k _ (rd_lv_lt h)
    · exact rd_rm_m k p h
theorem rd_rm_v {j N : Nat} : ∀ (k : Nat) (p : Nat × (Nat → Nat) × (Nat → Nat)), (∀ i, p.2.2 i < N) → ∀ i, (rd_rm j k p).2.2 i < N
  | 0, p, h => h
  | k + 1, p, h => by
    unfold rd_rm
    split
    · exact rd_rm_v k _ (rd_lv_lt h)
    · exact rd_rm_v k p h
/-- what is left is of other volumes, and was there before -/
theorem rd_rm_p {j : Nat} {Q : Nat → Prop} : ∀ (k : Nat) (p : Nat × (Nat → Nat) × (Nat → Nat)), k ≤ p.1 → (∀ i, i < p.1 → Q (p.2.1 i)) → (∀ i, k ≤ i → i < p.1 → p.2.1 i / 20 ≠ j) → ∀ i, i < (rd_rm j k p).1 → Q ((rd_rm j k p).2.1 i) ∧ (rd_rm j k p).2.1 i / 20 ≠ j
  | 0, p, _, h, h2 => fun i hi => ⟨h i hi, h2 i (Nat.zero_le _) hi⟩
  | k + 1, p, hk, h, h2 => by
    unfold rd_rm
    split
    · refine rd_rm_p k _ (show k ≤ p.1 - 1 by omega) (fun i hi => ?_) (fun i h1 hi => ?_)
      · have hi : i < p.1 - 1 := hi
        show Q (if k ≤ i ∧ i < p.1 - 1 then p.2.1 (i + 1) else p.2.1 i)
        split
        · exact h _ (by omega)
        · exact h _ (by omega)
      · have hi : i < p.1 - 1 := hi
        show (if k ≤ i ∧ i < p.1 - 1 then p.2.1 (i + 1) else p.2.1 i) / 20 ≠ j
        rw [if_pos (by omega)]
        exact h2 _ (by omega) (by omega)
    · rename_i z
      refine rd_rm_p k p (by omega) h (fun i h1 hi => ?_)
      by_cases e : i = k
      · subst e; exact z
      · exact h2 i (by omega) hi
def rd_cl (MP : Nat → Nat) (j i : Nat) : Nat → Nat := fun m => if 20 * j ≤ m ∧ m < 20 * j + i then 0 else MP m
theorem rd_cl_0 (MP : Nat → Nat) (j : Nat) : rd_cl MP j 0 = MP := by
  funext m; exact if_neg (by omega)
theorem rd_cl_s (MP : Nat → Nat) (j i : Nat) : rd_u (rd_cl MP j i) (20 * j + i) 0 = rd_cl MP j (i + 1) := by
  funext m
  show (if m = 20 * j + i then 0 else if 20 * j ≤ m ∧ m < 20 * j + i then 0 else MP m) = if 20 * j ≤ m ∧ m < 20 * j + (i + 1) then 0 else MP m
  by_cases e : m = 20 * j + i
  · rw [if_pos e, if_pos (by omega)]
  · rw [if_neg e]
    by_cases z : 20 * j ≤ m ∧ m < 20 * j + i
    · rw [if_pos z, if_pos (by omega)]
    · rw [if_neg z, if_neg (by omega)]
theorem rd_cl_le {MP : Nat → Nat} {j i : Nat} (h : ∀ m, MP m ≤ 64) (m : Nat) : rd_cl MP j i m ≤ 64 := by
  unfold rd_cl; split
  · omega
  · exact h _
theorem rd_fzc {MP : Nat → Nat} {m b : Nat} (hm : m < 120) (h : MP m = b + 1) (hb : b < 64) : rd_c (rd_fz (rd_u MP m 0)) 64 = rd_c (rd_fz MP) 64 + (rd_fz (rd_u MP m 0) b).toNat := by
  have back : rd_u (rd_u MP m 0) m (b + 1) = MP := by rw [rd_uu, ← h, rd_ui]
  have e := rd_fz_inc (MP := rd_u MP m 0) (b := b) hm rd_us
  rw [back] at e
  rw [← e]
  cases q : rd_fz (rd_u MP m 0) b with
  | true => exact rd_c_clr q hb
  | false =>
    have : rd_u (rd_fz (rd_u MP m 0)) b false = rd_fz (rd_u MP m 0) := by rw [← q, rd_ui]
    rw [this]; rfl
section
variable {f_volumes : Int32} {f_free : Int64} {f_shared : Int32} {f_crashAfter : Int32} {f_next : Int32} {f_bad : Int32} {f_down : Int32} {f_noteMap : Int32} {f_noteBlock : Int32} {f_noteData : Int32} {f_noteP : Int32} {f_noteQ : Int32} {f_waiting : Int32} {f_delay : Int32} {a_disk : Nat → Int32} {a_health : Nat → Int32} {a_mark : Nat → Int32} {a_there : Nat → Int32} {a_power : Nat → Int32} {a_place : Nat → Int32} {a_map : Nat → Int32} {a_uses : Nat → Int32} {a_data : Nat → Int32} {a_waitMap : Nat → Int32} {a_waitValue : Nat → Int32}
theorem rd_x_d41 {post : Int32 → SX → Prop} {j : Nat} (hj : j < 6) : ∀ (k n : Nat) (p : Nat × (Nat → Nat) × (Nat → Nat)), k ≤ p.1 → p.1 ≤ 6 → (∀ i, p.2.1 i < 120) → (∀ i, p.2.2 i < 256) → k < n → (∀ n', wX_drop_41 post (nI j) (n' + 1) (-1) f_volumes f_free f_shared f_crashAfter f_next f_bad f_down f_noteMap f_noteBlock f_noteData f_noteP f_noteQ (nI (rd_rm j k p).1) f_delay a_disk a_health a_mark a_there a_power a_place a_map a_uses a_data (rd_nF (rd_rm j k p).2.1) (rd_nF (rd_rm j k p).2.2)) → wX_drop_41 post (nI j) n (nI k - 1) f_volumes f_free f_shared f_crashAfter f_next f_bad f_down f_noteMap f_noteBlock f_noteData f_noteP f_noteQ (nI p.1) f_delay a_disk a_health a_mark a_there a_power a_place a_map a_uses a_data (rd_nF p.2.1) (rd_nF p.2.2)
  | _, 0, _, _, _, _, _, h, _ => by omega
  | 0, n + 1, p, _, _, _, _, _, HX => HX n
  | k + 1, n + 1, (w, WM, WV), hk, hw, hW, hV, hn, HX => by
    dsimp only at hk hw hW hV ⊢
    have hWk := hW k
    have hdiv : rd_nF WM (nI k).toNatClampNeg / 20 = nI (WM k / 20) := by
      rw [nI_clamp (by omega)]
      exact pk_div (d := 20) (by omega) (by decide) (by decide)
    have hm1 : nI k + (-1) = nI k - 1 := by rw [Int32.sub_eq_add_neg]
    rw [rd_m1]
    unfold wX_drop_41
    rw [hdiv, hm1]
    unfold rd_rm at HX
    dsimp only at HX
    refine br_f (nI_pos (by omega)) ⟨vp_in_nI (by omega) (by omega), by decide, pk_eq (WM k / 20) j (fun e => ?_) (fun e => ?_)⟩
    · rw [if_pos e] at HX
      obtain ⟨y, rfl⟩ : ∃ y, w = y + 1 := ⟨w - 1, by omega⟩
      refine rd_x_lv hW hV (by omega) (by omega) (nm_e ?_)
      exact rd_x_d41 hj k n (y, rd_lv WM k y, rd_lv WV k y) (show k ≤ y by omega) (show y ≤ 6 by omega) (rd_lv_lt hW) (rd_lv_lt hV) (by omega) HX
    · rw [if_neg e] at HX
      exact nm_e (rd_x_d41 hj k n (w, WM, WV) (show k ≤ w by omega) hw hW hV (by omega) HX)
end
section
variable {f_delay : Int32} {f_crash : Int32} {f_cursor : Int32} {f_bad : Int32} {f_down : Int32} {f_waiting : Int32} {f_noteBlock : Int32} {f_noteFor : Int32} {a_bytes : Nat → Int32} {a_health : Nat → Int32} {a_mark : Nat → Int32} {a_there : Nat → Int32} {a_on : Nat → Int32} {a_waitsFor : Nat → Int32} {a_waits : Nat → Int32} {a_note : Nat → Int32} {a_worth : Nat → Int32}
theorem rd_y_d65 {post : Int32 → SY → Prop} {j : Nat} {x2 : Int32} (hj : j < 6) : ∀ (k n : Nat) (p : Nat × (Nat → Nat) × (Nat → Nat)), k ≤ p.1 → p.1 ≤ 6 → (∀ i, p.2.1 i < 120) → k < n → (∀ n', wY_drop_65 post (nI j) x2 (n' + 1) (-1) f_delay f_crash f_cursor f_bad f_down (nI (rd_rm j k p).1) f_noteBlock f_noteFor a_bytes a_health a_mark a_there a_on (rd_nF (rd_rm j k p).2.1) (rd_nF (rd_rm j k p).2.2) a_note a_worth) → wY_drop_65 post (nI j) x2 n (nI k - 1) f_delay f_crash f_cursor f_bad f_down (nI p.1) f_noteBlock f_noteFor a_bytes a_health a_mark a_there a_on (rd_nF p.2.1) (rd_nF p.2.2) a_note a_worth
  | _, 0, _, _, _, _, h, _ => by omega
  | 0, n + 1, p, _, _, _, _, HX => HX n
  | k + 1, n + 1, (w, WM, WV), hk, hw, hW, hn, HX => by
    dsimp only at hk hw hW ⊢
    have hWk := hW k
    have hdiv : rd_nF WM (nI k).toNatClampNeg / 20 = nI (WM k / 20) := by
      rw [nI_clamp (by omega)]
      exact pk_div (d := 20) (by omega) (by decide) (by decide)
    have hm1 : nI k + (-1) = nI k - 1 := by rw [Int32.sub_eq_add_neg]
    rw [rd_m1]
    unfold wY_drop_65
    rw [hdiv, hm1]
    unfold rd_rm at HX
    dsimp only at HX
    refine br_f (nI_pos (by omega)) ⟨vp_in_nI (by omega) (by omega), by decide, pk_eq (WM k / 20) j (fun e => ?_) (fun e => ?_)⟩
    · rw [if_pos e] at HX
      obtain ⟨y, rfl⟩ : ∃ y, w = y + 1 := ⟨w - 1, by omega⟩
      refine rd_y_lv (by omega) (by omega) (nm_e ?_)
      exact rd_y_d65 hj k n (y, rd_lv WM k y, rd_lv WV k y) (show k ≤ y by omega) (show y ≤ 6 by omega) (rd_lv_lt hW) (by omega) HX
    · rw [if_neg e] at HX
      exact nm_e (rd_y_d65 hj k n (w, WM, WV) (show k ≤ w by omega) hw hW (by omega) HX)
end
section
variable {dl w nx nb nm n0 n1 n2 : Nat} {cr bd dn : Int32} {B HE MK : Nat → Nat} {VT : Nat → Bool} {MP WM WV : Nat → Nat} {DA WO : Nat → Int32}
theorem rd_x_d76 {post : Int32 → SX → Prop} {j c' : Nat} {F : Nat → Nat} (hj : j < 6) (hM : ∀ m, MP m ≤ 64) (hF : ∀ i, i < 20 → ∀ b, MP (20 * j + i) = b + 1 → F (i + 1) = F i + (rd_fz (rd_cl MP j (i + 1)) b).toNat) (hF0 : ∀ i, i < 20 → MP (20 * j + i) = 0 → F (i + 1) = F i) (hc' : F 20 = F 0 + c') (hp : post (nI c') (nI (rd_k VT 6), lN (rd_k (rd_fz (rd_cl MP j 20)) 64), nI (rd_c (rd_sh (rd_cl MP j 20)) 64), cr, nI nx, bd, dn, nI nm, nI nb, nI n0, nI n1, nI n2, nI w, nI dl, rd_bF B, rd_nF HE, rd_nF MK, rd_th HE MK, rd_PW, rd_PL, rd_nF (rd_cl MP j 20), rd_uF (rd_cl MP j 20), DA, rd_nF WM, rd_nF WV)) : ∀ (d i n c : Nat), i + d = 20 → d < n → F i = F 0 + c → wX_drop_76 post (nI j) n (nI c) (nI (20 * j + i)) (nI (rd_k VT 6)) (lN (rd_k (rd_fz (rd_cl MP j i)) 64)) (nI (rd_c (rd_sh (rd_cl MP j i)) 64)) cr (nI nx) bd dn (nI nm) (nI nb) (nI n0) (nI n1) (nI n2) (nI w) (nI dl) (rd_bF B) (rd_nF HE) (rd_nF MK) (rd_th HE MK) rd_PW rd_PL (rd_nF (rd_cl MP j i)) (rd_uF (rd_cl MP j i)) DA (rd_nF WM) (rd_nF WV)
  | _, _, 0, _, _, h, _ => by omega
  | 0, i, n + 1, c, h, _, hc => by
    have : i = 20 := by omega
    subst this
    have : c = c' := by omega
    subst this
    unfold wX_drop_76
    have e20 : 20 * nI j + 20 = nI (20 * j + 20) := rd_20 j 20
    rw [e20]
    exact br_t (Int32.le_refl _) hp
  | d + 1, i, n + 1, c, h, hn, hc => by
    have ih := rd_x_d76 hj hM hF hF0 hc' hp d (i + 1) n
    unfold wX_drop_76
    have e20 : 20 * nI j + 20 = nI (20 * j + 20) := rd_20 j 20
    have hi : vp_in (nI (20 * j + i)) 120 := vp_in_nI (by omega) (by omega)
    have ez : vp_nar .byte 0 = nI 0 := rd_nb' (by decide)
    have h64 := hM (20 * j + i)
    have e1 : rd_cl MP j i (20 * j + i) = MP (20 * j + i) := if_neg (by omega)
    rw [e20, nI_clamp (by omega), ez]
    refine br_f (nI_ge (by omega) (by omega)) ⟨hi, ?_⟩
    cases e : MP (20 * j + i) with
    | zero =>
      have e2 : rd_cl MP j (i + 1) = rd_cl MP j i := by rw [← rd_cl_s]; rw [e] at e1; rw [← e1, rd_ui]
      have hf := hF0 i (by omega) e
      refine br_t (show nI (rd_cl MP j i (20 * j + i)) ≤ 0 by rw [e1, e]; decide) ⟨hi, ?_⟩
      rw [rd_upN, rd_cl_s, e2]
      rw [e2] at ih
      exact nm_e (nm_r (nI_1 _) (ih c (by omega) (by omega) (by omega)))
    | succ b =>
      have e3 : rd_cl MP j i (20 * j + i) = b + 1 := by rw [e1, e]
      refine br_f (show ¬ nI (rd_cl MP j i (20 * j + i)) ≤ 0 by rw [e3]; exact nI_nle (by omega) (by omega)) ⟨hi, ?_⟩
      have e4 : rd_nF (rd_cl MP j i) (20 * j + i) - 1 = nI b := by
        show nI (rd_cl MP j i (20 * j + i)) - 1 = nI b
        rw [e3]; exact rd_m1 b
      rw [e4]
      have hf := hF i (by omega) b e
      refine rd_x_dec (m := 20 * j + i) (by omega) e3 (by omega) ?_
      rw [rd_cl_s]
      refine rd_brb _ rfl (fun q => ⟨hi, ?_⟩) (fun q => nm_r (nI_1 c) ⟨hi, ?_⟩)
      · rw [q] at hf
        have hf : F (i + 1) = F i := hf
        rw [rd_upN, rd_cl_s]
        exact nm_e (nm_r (nI_1 _) (ih c (by omega) (by omega) (by omega)))
      · rw [q] at hf
        have hf : F (i + 1) = F i + 1 := hf
        rw [rd_upN, rd_cl_s]
        exact nm_e (nm_r (nI_1 _) (ih (c + 1) (by omega) (by omega) (by omega)))
theorem rd_y_d34 {post : Int32 → SY → Prop} {j : Nat} {x2 : Int32} (hj : j < 6) (HX : ∃ n, wY_drop_65 post (nI j) x2 n (nI w - 1) (nI dl) cr (nI nx) bd dn (nI w) (nI nb) (nI nm) (rd_nF B) (rd_nF HE) (rd_nF MK) (rd_vF VT) (rd_on (rd_cl MP j 20)) (rd_nF WM) (rd_nF WV) (rd_nt n0 n1 n2) WO) : ∀ (d i n : Nat), i + d = 20 → d < n → wY_drop_34 post (nI j) x2 (nI dl) cr (nI nx) bd dn (nI w) (nI nb) (nI nm) n (nI i) (rd_nF B) (rd_nF HE) (rd_nF MK) (rd_vF VT) (rd_on (rd_cl MP j i)) (rd_nF WM) (rd_nF WV) (rd_nt n0 n1 n2) WO
  | _, _, 0, _, h => by omega
  | 0, i, n + 1, h, _ => by
    have : i = 20 := by omega
    subst this
    unfold wY_drop_34
    exact br_t (by decide) (nm_e HX)
  | d + 1, i, n + 1, h, hn => by
    unfold wY_drop_34
    rw [rd_20]
    refine br_f (nI_ge (b := 20) (by omega) (by decide)) ⟨vp_in_nI (by omega) (by omega), ?_⟩
    rw [nI_clamp (by omega), ← rd_m10, rd_upO _ _ (by omega), rd_cl_s]
    exact nm_e (nm_r (nI_1 i) (rd_y_d34 hj HX d (i + 1) n (by omega) (by omega)))
theorem rd_cl_F {j : Nat} (hj : j < 6) (hM : ∀ m, MP m ≤ 64) : ∀ i, i < 20 → ∀ b, MP (20 * j + i) = b + 1 → rd_c (rd_fz (rd_cl MP j (i + 1))) 64 = rd_c (rd_fz (rd_cl MP j i)) 64 + (rd_fz (rd_cl MP j (i + 1)) b).toNat := by
  intro i hi b e
  have h64 := hM (20 * j + i)
  have e1 : rd_cl MP j i (20 * j + i) = MP (20 * j + i) := if_neg (by omega)
  have hb : b < 64 := by omega
  have hm : 20 * j + i < 120 := by omega
  have hz := rd_fzc (MP := rd_cl MP j i) (m := 20 * j + i) (b := b) hm (by rw [e1, e]) hb
  rw [rd_cl_s] at hz
  exact hz
theorem rd_cl_F0 {j : Nat} : ∀ i, i < 20 → MP (20 * j + i) = 0 → rd_c (rd_fz (rd_cl MP j (i + 1))) 64 = rd_c (rd_fz (rd_cl MP j i)) 64 := by
  intro i hi e
  have e1 : rd_cl MP j i (20 * j + i) = MP (20 * j + i) := if_neg (by omega)
  have e2 : rd_cl MP j (i + 1) = rd_cl MP j i := by rw [← rd_cl_s]; rw [e] at e1; rw [← e1, rd_ui]
  rw [e2]
theorem rd_cl_ge {j : Nat} {F : Nat → Nat} {g : Nat → Nat → Nat} (hF : ∀ i, i < 20 → ∀ b, MP (20 * j + i) = b + 1 → F (i + 1) = F i + g i b) (hF0 : ∀ i, i < 20 → MP (20 * j + i) = 0 → F (i + 1) = F i) : ∀ i, i ≤ 20 → ∃ c, F i = F 0 + c
  | 0, _ => ⟨0, rfl⟩
  | i + 1, h => by
    obtain ⟨c, hc⟩ := rd_cl_ge hF hF0 i (by omega)
    cases e : MP (20 * j + i) with
    | zero => exact ⟨c, by rw [hF0 i (by omega) e, hc]⟩
    | succ b => exact ⟨c + g i b, by rw [hF i (by omega) b e, hc]; omega⟩
theorem rd_I_drop {j : Nat} (I : rd_I dl w nx nb nm n0 n1 n2 cr dn B HE MK VT MP WM WV) (hj : j < 6) (hd : dn = 0) : rd_I dl ((rd_rm j w (w, WM, WV)).1) nx nb nm n0 n1 n2 cr dn B HE MK (rd_u VT j false) (rd_cl MP j 20) ((rd_rm j w (w, WM, WV)).2.1) ((rd_rm j w (w, WM, WV)).2.2) := by
  obtain ⟨⟨i1, i2, i3⟩, i4, i9, i10, iB, iH, iK, iK2, iM, iV, iW, iX, iY⟩ := I
  have hle := rd_rm_le j w (w, WM, WV)
  dsimp only at hle
  refine ⟨⟨i1, by omega, i3⟩, i4, i9, fun z => absurd hd z, iB, iH, iK, iK2, rd_cl_le iM, fun x hx hf l hl => ?_, rd_rm_m w (w, WM, WV) iW, rd_rm_v w (w, WM, WV) iX, fun i hi => ?_⟩
  · show (if 20 * j ≤ 20 * x + l ∧ 20 * x + l < 20 * j + 20 then 0 else MP (20 * x + l)) = 0
    by_cases e : x = j
    · rw [if_pos (by omega)]
    · rw [if_neg (by omega)]
      rw [rd_un e] at hf
      exact iV x hx hf l hl
  · have h := rd_rm_p (j := j) (Q := fun m => VT (m / 20) = true) w (w, WM, WV) (Nat.le_refl _) iY (fun i h1 h2 => absurd h2 (by dsimp only; omega)) i hi
    rw [rd_un h.2]
    exact h.1
end
theorem i_vc_drop {k : Nat} {u : SX} {v : SY} (I : i_Rel k u v) (hk : k + 4 ≤ 2048) (v1 : Int32) : wpX_drop (fun r u' => wpY_drop (fun r' v' => r' = r ∧ i_Rel (k + 4) u' v') v v1) u v1 := by
  refine rd_el (P := fun u v => wpX_drop (fun r u' => wpY_drop (fun r' v' => r' = r ∧ i_Rel (k + 4) u' v') v v1) u v1) ?_ I
  clear I u v
  intro dl w nx nb nm n0 n1 n2 cr bd dn B HE MK VT MP WM WV DA WO I
  refine rd_fin (PX := fun post => wpX_drop post (nI (rd_k VT 6), lN (rd_k (rd_fz MP) 64), nI (rd_c (rd_sh MP) 64), cr, nI nx, bd, dn, nI nm, nI nb, nI n0, nI n1, nI n2, nI w, nI dl, rd_bF B, rd_nF HE, rd_nF MK, rd_th HE MK, rd_PW, rd_PL, rd_nF MP, rd_uF MP, DA, rd_nF WM, rd_nF WV) v1) (PY := fun post => wpY_drop post (nI dl, cr, nI nx, bd, dn, nI w, nI nb, nI nm, rd_nF B, rd_nF HE, rd_nF MK, rd_vF VT, rd_on MP, rd_nF WM, rd_nF WV, rd_nt n0 n1 n2, WO) v1) ?_
  by_cases hd : dn = 0
  case neg => exact ⟨-4, (nI (rd_k VT 6), lN (rd_k (rd_fz MP) 64), nI (rd_c (rd_sh MP) 64), cr, nI nx, bd, dn, nI nm, nI nb, nI n0, nI n1, nI n2, nI w, nI dl, rd_bF B, rd_nF HE, rd_nF MK, rd_th HE MK, rd_PW, rd_PL, rd_nF MP, rd_uF MP, DA, rd_nF WM, rd_nF WV), (nI dl, cr, nI nx, bd, dn, nI w, nI nb, nI nm, rd_nF B, rd_nF HE, rd_nF MK, rd_vF VT, rd_on MP, rd_nF WM, rd_nF WV, rd_nt n0 n1 n2, WO), rd_mk I, fun post hp => br_f hd hp, fun post hp => br_f hd hp⟩
  cases hl : rd_vol VT v1 with
  | false =>
    exact ⟨-1, (nI (rd_k VT 6), lN (rd_k (rd_fz MP) 64), nI (rd_c (rd_sh MP) 64), cr, nI nx, bd, dn, nI nm, nI nb, nI n0, nI n1, nI n2, nI w, nI dl, rd_bF B, rd_nF HE, rd_nF MK, rd_th HE MK, rd_PW, rd_PL, rd_nF MP, rd_uF MP, DA, rd_nF WM, rd_nF WV), (nI dl, cr, nI nx, bd, dn, nI w, nI nb, nI nm, rd_nF B, rd_nF HE, rd_nF MK, rd_vF VT, rd_on MP, rd_nF WM, rd_nF WV, rd_nt n0 n1 n2, WO), rd_mk I, fun post hp => br_t hd (rd_x_isV (by rw [hl]; exact br_t rfl hp)), fun post hp => br_t hd (rd_y_isV (by rw [hl]; exact br_t rfl hp))⟩
  | true =>
    obtain ⟨j, hj, rfl, hV⟩ := rd_vol_t hl
    have I0 := I
    obtain ⟨⟨i1, i2, i3⟩, i4, i9, i10, iB, iH, iK, iK2, iM, iV, iW, iX, iY⟩ := I
    have hw6 : w ≤ 6 := by omega
    have hj31 : j < 2 ^ 31 := by omega
    obtain ⟨c, hc⟩ := rd_cl_ge (F := fun i => rd_c (rd_fz (rd_cl MP j i)) 64) (rd_cl_F hj iM) rd_cl_F0 20 (Nat.le_refl _)
    refine ⟨nI c, _, _, rd_mk (bd := bd) (DA := DA) (WO := WO) (rd_I_drop I0 hj hd), fun post hp => br_t hd (rd_x_isV ?_), fun post hp => br_t hd (rd_y_isV ?_)⟩
    · rw [hl, rd_clrI VT hj (by decide)]
      refine br_f (by decide) (nm_e (nm_e ⟨w + 1, ?_⟩))
      refine rd_x_d41 hj w (w + 1) (w, WM, WV) (Nat.le_refl _) hw6 iW iX (Nat.lt_succ_self _) (fun n' => ?_)
      unfold wX_drop_41
      have e20 : 20 * nI j = nI (20 * j + 0) := pk_mul 20 j
      refine br_t (by decide) (nm_r e20 ⟨21, ?_⟩)
      have H := rd_x_d76 (post := post) (MP := MP) (F := fun i => rd_c (rd_fz (rd_cl MP j i)) 64) hj iM (rd_cl_F hj iM) rd_cl_F0 hc hp 20 0 21 0 rfl (by decide) rfl
      rw [rd_cl_0] at H
      exact H
    · rw [hl]
      refine br_f (by decide) (rd_y_free iM ⟨vp_in_nI hj (by decide), ?_⟩)
      rw [nI_clamp hj31, rd_nz, rd_upV]
      refine nm_e ⟨21, ?_⟩
      have H := rd_y_d34 (post := post) (MP := MP) (VT := rd_u VT j false) (WO := WO) (B := B) (HE := HE) (MK := MK) (dl := dl) (w := w) (nx := nx) (nb := nb) (nm := nm) (n0 := n0) (n1 := n1) (n2 := n2) (cr := cr) (bd := bd) (dn := dn) (WM := WM) (WV := WV) (x2 := nI (rd_c (rd_fz MP) 64)) hj ⟨w + 1, ?_⟩ 20 0 21 rfl (by decide)
      · rw [rd_cl_0] at H
        exact H
      · refine rd_y_d65 hj w (w + 1) (w, WM, WV) (Nat.le_refl _) hw6 iW (Nat.lt_succ_self _) (fun n' => ?_)
        unfold wY_drop_65
        refine br_t (by decide) (rd_y_free (rd_cl_le iM) ?_)
        have hc2 : rd_c (rd_fz (rd_cl MP j 20)) 64 = rd_c (rd_fz MP) 64 + c := by
          have hc3 : rd_c (rd_fz (rd_cl MP j 20)) 64 = rd_c (rd_fz (rd_cl MP j 0)) 64 + c := hc
          rw [rd_cl_0] at hc3
          exact hc3
        rw [hc2, pk_sub (Nat.le_add_right _ _), Nat.add_sub_cancel_left]
        exact hp
end
section
/-! change, spoil, recover, raw, place -/
theorem rd_fin1 {k : Nat} {u : SX} {v : SY} {PX PY : (Int32 → Prop) → Prop} (hR : i_Rel k u v) (h : ∃ r : Int32, (∀ post : Int32 → Prop, post r → PX post) ∧ (∀ post : Int32 → Prop, post r → PY post)) : PX (fun r => PY (fun r' => r' = r ∧ i_Rel k u v)) := by
  obtain ⟨r, hX, hY⟩ := h
  exact hX _ (hY _ ⟨rfl, hR⟩)
theorem rd_isD_c (p : Int32) : (p < 0) ∨ (¬ p < 0 ∧ 6 ≤ p) ∨ ∃ d, d < 6 ∧ p = nI d := by
  rcases pk_ix p (n := 6) (by decide) with z | z | z
  · exact Or.inl z
  · exact Or.inr (Or.inl ⟨Int32.not_lt.mpr (Int32.le_trans (by decide) z), z⟩)
  · exact Or.inr (Or.inr z)
theorem rd_isS_c (p : Int32) : (p < 0) ∨ (¬ p < 0 ∧ 15 < p) ∨ ∃ s, s < 16 ∧ p = nI s := by
  rcases pk_ix p (n := 16) (by decide) with z | z | z
  · exact Or.inl z
  · have h16 : (16 : Int32) ≤ p := z
    exact Or.inr (Or.inl ⟨Int32.not_lt.mpr (Int32.le_trans (by decide) h16), by
      rw [Int32.le_iff_toInt_le] at h16
      rw [Int32.lt_iff_toInt_lt]
      rw [show (16 : Int32).toInt = 16 by decide] at h16
      rw [show (15 : Int32).toInt = 15 by decide]
      omega⟩)
  · exact Or.inr (Or.inr z)
theorem rd_6_5 {p : Int32} (h : 6 ≤ p) : 5 < p := by
  rw [Int32.le_iff_toInt_le] at h
  rw [Int32.lt_iff_toInt_lt]
  rw [show (6 : Int32).toInt = 6 by decide] at h
  rw [show (5 : Int32).toInt = 5 by decide]
  omega
theorem rd_x_isD_lo {post : Int32 → Prop} {p : Int32} (h : p < 0) (hp : post 0) : wpX_isDisk post p := br_t h hp
theorem rd_x_isD_hi {post : Int32 → Prop} {p : Int32} (h : ¬ p < 0) (h6 : 6 ≤ p) (hp : post 0) : wpX_isDisk post p := br_f h (br_t h6 hp)
theorem rd_x_isD {post : Int32 → Prop} {d : Nat} (h : d < 6) (hp : post 1) : wpX_isDisk post (nI d) := br_f (nI_pos (by omega)) (br_f (nI_ge (b := 6) h (by decide)) hp)
theorem rd_y_isD {post : Int32 → Prop} {d : Nat} (h : d < 6) (hp : post 1) : wpY_in post (nI d) 0 5 := rd_in_ok (nI_pos (by omega)) (Int32.not_lt.mpr (nI_le (b := 5) (by omega) (by decide))) hp
theorem rd_y_isS {post : Int32 → Prop} {s : Nat} (h : s < 16) (hp : post 1) : wpY_in post (nI s) 0 15 := rd_in_ok (nI_pos (by omega)) (Int32.not_lt.mpr (nI_le (b := 15) (by omega) (by decide))) hp
/-- after a change of disk d that leaves it without a byte -/
theorem rd_isT_off {HE MK : Nat → Nat} {d h : Nat} (hh : h = 1 ∨ h = 2) (s : Nat) : (fun e => rd_isT (rd_u HE d h) (rd_u MK d 0) e s) = rd_u (fun e => rd_isT HE MK e s) d false := by
  funext e
  by_cases z : e = d
  · subst z
    rw [rd_us]
    unfold rd_isT
    rw [rd_us, rd_us]
    exact decide_eq_false (by omega)
  · rw [rd_un z]
    unfold rd_isT
    rw [rd_un z, rd_un z]
section
variable {f_volumes : Int32} {f_free : Int64} {f_shared : Int32} {f_crashAfter : Int32} {f_next : Int32} {f_bad : Int32} {f_down : Int32} {f_noteMap : Int32} {f_noteBlock : Int32} {f_noteData : Int32} {f_noteP : Int32} {f_noteQ : Int32} {f_waiting : Int32} {f_delay : Int32} {a_disk : Nat → Int32} {a_health : Nat → Int32} {a_mark : Nat → Int32} {a_there : Nat → Int32} {a_power : Nat → Int32} {a_place : Nat → Int32} {a_map : Nat → Int32} {a_uses : Nat → Int32} {a_data : Nat → Int32} {a_waitMap : Nat → Int32} {a_waitValue : Nat → Int32}
variable {HE MK : Nat → Nat}
theorem rd_x_ch53 {post : Int32 → SX → Prop} {d h : Nat} (hd : d < 6) (hh : h = 1 ∨ h = 2) (hp : post 1 (f_volumes, f_free, f_shared, f_crashAfter, f_next, f_bad, f_down, f_noteMap, f_noteBlock, f_noteData, f_noteP, f_noteQ, f_waiting, f_delay, a_disk, a_health, a_mark, rd_th (rd_u HE d h) (rd_u MK d 0), a_power, a_place, a_map, a_uses, a_data, a_waitMap, a_waitValue)) : ∀ (e i n : Nat) (f : Nat → Int32), i + e = 16 → e < n → f = (fun s => if s < i then rd_th (rd_u HE d h) (rd_u MK d 0) s else rd_th HE MK s) → wX_change_53 post (nI d) f_volumes f_free f_shared f_crashAfter f_next f_bad f_down f_noteMap f_noteBlock f_noteData f_noteP f_noteQ f_waiting f_delay n (nI i) a_disk a_health a_mark f a_power a_place a_map a_uses a_data a_waitMap a_waitValue
  | _, _, 0, _, _, h, _ => by omega
  | 0, i, n + 1, f, h', _, hf => by
    have : i = 16 := by omega
    subst this
    have e : f = rd_th (rd_u HE d h) (rd_u MK d 0) := by
      rw [hf]; funext s
      by_cases z : s < 16
      · exact if_pos z
      · rw [if_neg z]
        unfold rd_th
        rw [if_neg z, if_neg z]
    subst e
    unfold wX_change_53
    exact br_t (by decide) hp
  | e + 1, i, n + 1, f, h', hn, hf => by
    have hi : vp_in (nI i) 16 := vp_in_nI (by omega) (by omega)
    unfold wX_change_53
    have e0 : f i = nI (rd_k (fun e => rd_isT HE MK e i) 6) := by
      rw [hf]
      show (if i < i then _ else rd_th HE MK i) = _
      rw [if_neg (by omega)]
      exact if_pos (by omega)
    have hl := rd_k_lt (rd_u (fun e => rd_isT HE MK e i) d false) 6
    refine br_f (nI_ge (b := 16) (by omega) (by decide)) ⟨hi, hi, ?_⟩
    rw [nI_clamp (by omega), e0, rd_clrI _ hd (by decide), rd_nb (by omega)]
    refine nm_e (nm_r (nI_1 i) (rd_x_ch53 hd hh hp e (i + 1) n _ (by omega) (by omega) ?_))
    funext s
    rw [hf]
    show (if s = i then _ else if s < i then _ else _) = _
    by_cases z : s = i
    · subst z
      rw [if_pos rfl, if_pos (by omega)]
      show _ = if s < 16 then nI (rd_k (fun e => rd_isT (rd_u HE d h) (rd_u MK d 0) e s) 6) else 0
      rw [if_pos (by omega), rd_isT_off hh]
    · rw [if_neg z]
      by_cases y : s < i
      · rw [if_pos y, if_pos (by omega)]
      · rw [if_neg y, if_neg (by omega)]
theorem rd_x_ch42 {post : Int32 → SX → Prop} {d h : Nat} (hd : d < 6) (hh : h = 1 ∨ h = 2) (hp : post 1 (f_volumes, f_free, f_shared, f_crashAfter, f_next, f_bad, f_down, f_noteMap, f_noteBlock, f_noteData, f_noteP, f_noteQ, f_waiting, f_delay, a_disk, rd_nF (rd_u HE d h), rd_nF (rd_u MK d 0), rd_th (rd_u HE d h) (rd_u MK d 0), a_power, a_place, a_map, a_uses, a_data, a_waitMap, a_waitValue)) : wX_change_42 post (nI d) (nI h) (nI d) f_volumes f_free f_shared f_crashAfter f_next f_bad f_down f_noteMap f_noteBlock f_noteData f_noteP f_noteQ f_waiting f_delay a_disk (rd_nF HE) (rd_nF MK) (rd_th HE MK) a_power a_place a_map a_uses a_data a_waitMap a_waitValue := by
  unfold wX_change_42
  have hi : vp_in (nI d) 6 := vp_in_nI hd (by omega)
  have ez : vp_nar .byte 0 = nI 0 := rd_nb' (by decide)
  rw [nI_clamp (by omega), rd_nb (by omega), ez, rd_upN, rd_upN]
  refine ⟨hi, nm_e ⟨hi, nm_e ⟨17, ?_⟩⟩⟩
  refine rd_x_ch53 hd hh hp 16 0 17 _ rfl (by decide) ?_
  funext s
  exact (if_neg (by omega)).symm
end
section
variable {f_delay : Int32} {f_crash : Int32} {f_cursor : Int32} {f_bad : Int32} {f_down : Int32} {f_waiting : Int32} {f_noteBlock : Int32} {f_noteFor : Int32} {a_bytes : Nat → Int32} {a_health : Nat → Int32} {a_mark : Nat → Int32} {a_there : Nat → Int32} {a_on : Nat → Int32} {a_waitsFor : Nat → Int32} {a_waits : Nat → Int32} {a_note : Nat → Int32} {a_worth : Nat → Int32}
variable {HE MK : Nat → Nat}
theorem rd_y_ch44 {post : Int32 → SY → Prop} {d h : Nat} (hd : d < 6) (hp : post 1 (f_delay, f_crash, f_cursor, f_bad, f_down, f_waiting, f_noteBlock, f_noteFor, a_bytes, rd_nF (rd_u HE d h), rd_nF (rd_u MK d 0), a_there, a_on, a_waitsFor, a_waits, a_note, a_worth)) : wY_change_44 post (nI d) (nI h) (nI d) f_delay f_crash f_cursor f_bad f_down f_waiting f_noteBlock f_noteFor a_bytes (rd_nF HE) (rd_nF MK) a_there a_on a_waitsFor a_waits a_note a_worth := by
  unfold wY_change_44
  have hi : vp_in (nI d) 6 := vp_in_nI hd (by omega)
  have ez : (0 : Int32) = nI 0 := rfl
  rw [nI_clamp (by omega), ez, rd_upN, rd_upN]
  exact ⟨hi, nm_e ⟨hi, nm_e hp⟩⟩
end
section
variable {dl w nx nb nm n0 n1 n2 : Nat} {cr bd dn : Int32} {B HE MK : Nat → Nat} {VT : Nat → Bool} {MP WM WV : Nat → Nat} {DA WO : Nat → Int32}
theorem rd_I_ch {d h : Nat} (I : rd_I dl w nx nb nm n0 n1 n2 cr dn B HE MK VT MP WM WV) (hh : h = 1 ∨ h = 2) : rd_I dl w nx nb nm n0 n1 n2 cr dn B (rd_u HE d h) (rd_u MK d 0) VT MP WM WV := by
  obtain ⟨i1, i4, i9, i10, iB, iH, iK, iK2, iR⟩ := I
  refine ⟨i1, i4, i9, i10, iB, fun e => ?_, fun e => ?_, fun e => ?_, iR⟩
  · by_cases z : e = d
    · subst z; rw [rd_us]; omega
    · rw [rd_un z]; exact iH e
  · by_cases z : e = d
    · subst z; rw [rd_us]; omega
    · rw [rd_un z]; exact iK e
  · by_cases z : e = d
    · subst z; rw [rd_us, rd_us]; omega
    · rw [rd_un z, rd_un z]; exact iK2 e
end
theorem i_vc_change {k : Nat} {u : SX} {v : SY} (I : i_Rel k u v) (hk : k + 4 ≤ 2048) (v1 : Int32) (v2 : Int32) : wpX_change (fun r u' => wpY_change (fun r' v' => r' = r ∧ i_Rel (k + 4) u' v') v v1 (lw_bz v2)) u v1 (lw_bz v2) := by
  have hz := lw_bz_01 v2
  generalize lw_bz v2 = z at hz
  refine rd_el (P := fun u v => wpX_change (fun r u' => wpY_change (fun r' v' => r' = r ∧ i_Rel (k + 4) u' v') v v1 z) u v1 z) ?_ I
  clear I u v
  intro dl w nx nb nm n0 n1 n2 cr bd dn B HE MK VT MP WM WV DA WO I
  refine rd_fin (PX := fun post => wpX_change post (nI (rd_k VT 6), lN (rd_k (rd_fz MP) 64), nI (rd_c (rd_sh MP) 64), cr, nI nx, bd, dn, nI nm, nI nb, nI n0, nI n1, nI n2, nI w, nI dl, rd_bF B, rd_nF HE, rd_nF MK, rd_th HE MK, rd_PW, rd_PL, rd_nF MP, rd_uF MP, DA, rd_nF WM, rd_nF WV) v1 z) (PY := fun post => wpY_change post (nI dl, cr, nI nx, bd, dn, nI w, nI nb, nI nm, rd_nF B, rd_nF HE, rd_nF MK, rd_vF VT, rd_on MP, rd_nF WM, rd_nF WV, rd_nt n0 n1 n2, WO) v1 z) ?_
  rcases rd_isD_c v1 with h0 | ⟨h0, h6⟩ | ⟨d, hd, rfl⟩
  · exact ⟨0, (nI (rd_k VT 6), lN (rd_k (rd_fz MP) 64), nI (rd_c (rd_sh MP) 64), cr, nI nx, bd, dn, nI nm, nI nb, nI n0, nI n1, nI n2, nI w, nI dl, rd_bF B, rd_nF HE, rd_nF MK, rd_th HE MK, rd_PW, rd_PL, rd_nF MP, rd_uF MP, DA, rd_nF WM, rd_nF WV), (nI dl, cr, nI nx, bd, dn, nI w, nI nb, nI nm, rd_nF B, rd_nF HE, rd_nF MK, rd_vF VT, rd_on MP, rd_nF WM, rd_nF WV, rd_nt n0 n1 n2, WO), rd_mk I, fun post hp => by unfold wpX_change; exact rd_x_isD_lo h0 (br_t rfl hp), fun post hp => by unfold wpY_change; exact rd_in_lo h0 (br_t rfl hp)⟩
  · exact ⟨0, (nI (rd_k VT 6), lN (rd_k (rd_fz MP) 64), nI (rd_c (rd_sh MP) 64), cr, nI nx, bd, dn, nI nm, nI nb, nI n0, nI n1, nI n2, nI w, nI dl, rd_bF B, rd_nF HE, rd_nF MK, rd_th HE MK, rd_PW, rd_PL, rd_nF MP, rd_uF MP, DA, rd_nF WM, rd_nF WV), (nI dl, cr, nI nx, bd, dn, nI w, nI nb, nI nm, rd_nF B, rd_nF HE, rd_nF MK, rd_vF VT, rd_on MP, rd_nF WM, rd_nF WV, rd_nt n0 n1 n2, WO), rd_mk I, fun post hp => by unfold wpX_change; exact rd_x_isD_hi h0 h6 (br_t rfl hp), fun post hp => by unfold wpY_change; exact rd_in_hi h0 (rd_6_5 h6) (br_t rfl hp)⟩
  · have hi : vp_in (nI d) 6 := vp_in_nI hd (by omega)
    have hH := I.2.2.2.2.2.1 d
    have key : ∀ (b : Bool), (HE d = 1 ↔ b = true) → ∃ (r : Int32) (u' : SX) (v' : SY), i_Rel (k + 4) u' v' ∧ (∀ post : Int32 → SX → Prop, post r u' → wX_change_22 post (nI d) z (rd_b b) (nI (rd_k VT 6)) (lN (rd_k (rd_fz MP) 64)) (nI (rd_c (rd_sh MP) 64)) cr (nI nx) bd dn (nI nm) (nI nb) (nI n0) (nI n1) (nI n2) (nI w) (nI dl) (rd_bF B) (rd_nF HE) (rd_nF MK) (rd_th HE MK) rd_PW rd_PL (rd_nF MP) (rd_uF MP) DA (rd_nF WM) (rd_nF WV)) ∧ (∀ post : Int32 → SY → Prop, post r v' → wY_change_25 post (nI d) z (rd_b b) z (nI dl) cr (nI nx) bd dn (nI w) (nI nb) (nI nm) (rd_nF B) (rd_nF HE) (rd_nF MK) (rd_vF VT) (rd_on MP) (rd_nF WM) (rd_nF WV) (rd_nt n0 n1 n2) WO) := by
      intro b hb
      have h2 : ∃ (r : Int32) (u' : SX) (v' : SY), i_Rel (k + 4) u' v' ∧ (∀ post : Int32 → SX → Prop, post r u' → wX_change_42 post (nI d) 2 (nI d) (nI (rd_k VT 6)) (lN (rd_k (rd_fz MP) 64)) (nI (rd_c (rd_sh MP) 64)) cr (nI nx) bd dn (nI nm) (nI nb) (nI n0) (nI n1) (nI n2) (nI w) (nI dl) (rd_bF B) (rd_nF HE) (rd_nF MK) (rd_th HE MK) rd_PW rd_PL (rd_nF MP) (rd_uF MP) DA (rd_nF WM) (rd_nF WV)) ∧ (∀ post : Int32 → SY → Prop, post r v' → wY_change_44 post (nI d) 2 (nI d) (nI dl) cr (nI nx) bd dn (nI w) (nI nb) (nI nm) (rd_nF B) (rd_nF HE) (rd_nF MK) (rd_vF VT) (rd_on MP) (rd_nF WM) (rd_nF WV) (rd_nt n0 n1 n2) WO) :=
        ⟨1, _, _, rd_mk (bd := bd) (DA := DA) (WO := WO) (rd_I_ch (d := d) (h := 2) I (Or.inr rfl)), fun post hp => rd_x_ch42 (h := 2) hd (Or.inr rfl) hp, fun post hp => rd_y_ch44 (h := 2) hd hp⟩
      have h1 : ∃ (r : Int32) (u' : SX) (v' : SY), i_Rel (k + 4) u' v' ∧ (∀ post : Int32 → SX → Prop, post r u' → wX_change_42 post (nI d) 1 (nI d) (nI (rd_k VT 6)) (lN (rd_k (rd_fz MP) 64)) (nI (rd_c (rd_sh MP) 64)) cr (nI nx) bd dn (nI nm) (nI nb) (nI n0) (nI n1) (nI n2) (nI w) (nI dl) (rd_bF B) (rd_nF HE) (rd_nF MK) (rd_th HE MK) rd_PW rd_PL (rd_nF MP) (rd_uF MP) DA (rd_nF WM) (rd_nF WV)) ∧ (∀ post : Int32 → SY → Prop, post r v' → wY_change_44 post (nI d) 1 (nI d) (nI dl) cr (nI nx) bd dn (nI w) (nI nb) (nI nm) (rd_nF B) (rd_nF HE) (rd_nF MK) (rd_vF VT) (rd_on MP) (rd_nF WM) (rd_nF WV) (rd_nt n0 n1 n2) WO) :=
        ⟨1, _, _, rd_mk (bd := bd) (DA := DA) (WO := WO) (rd_I_ch (d := d) (h := 1) I (Or.inl rfl)), fun post hp => rd_x_ch42 (h := 1) hd (Or.inl rfl) hp, fun post hp => rd_y_ch44 (h := 1) hd hp⟩
      unfold wX_change_22 wY_change_25
      rcases hz with rfl | rfl
      · cases b with
        | false => exact ⟨0, (nI (rd_k VT 6), lN (rd_k (rd_fz MP) 64), nI (rd_c (rd_sh MP) 64), cr, nI nx, bd, dn, nI nm, nI nb, nI n0, nI n1, nI n2, nI w, nI dl, rd_bF B, rd_nF HE, rd_nF MK, rd_th HE MK, rd_PW, rd_PL, rd_nF MP, rd_uF MP, DA, rd_nF WM, rd_nF WV), (nI dl, cr, nI nx, bd, dn, nI w, nI nb, nI nm, rd_nF B, rd_nF HE, rd_nF MK, rd_vF VT, rd_on MP, rd_nF WM, rd_nF WV, rd_nt n0 n1 n2, WO), rd_mk I, fun post hp => br_t rfl hp, fun post hp => br_t rfl hp⟩
        | true =>
          obtain ⟨r, u', v', hR, hX, hY⟩ := h2
          exact ⟨r, u', v', hR, fun post hp => br_f (by decide) (br_t rfl (hX post hp)), fun post hp => br_f (by decide) (br_t rfl (hY post hp))⟩
      · cases b with
        | false =>
          obtain ⟨r, u', v', hR, hX, hY⟩ := h1
          exact ⟨r, u', v', hR, fun post hp => br_f (by decide) (br_f (by decide) (hX post hp)), fun post hp => br_f (by decide) (br_f (by decide) (hY post hp))⟩
        | true => exact ⟨0, (nI (rd_k VT 6), lN (rd_k (rd_fz MP) 64), nI (rd_c (rd_sh MP) 64), cr, nI nx, bd, dn, nI nm, nI nb, nI n0, nI n1, nI n2, nI w, nI dl, rd_bF B, rd_nF HE, rd_nF MK, rd_th HE MK, rd_PW, rd_PL, rd_nF MP, rd_uF MP, DA, rd_nF WM, rd_nF WV), (nI dl, cr, nI nx, bd, dn, nI w, nI nb, nI nm, rd_nF B, rd_nF HE, rd_nF MK, rd_vF VT, rd_on MP, rd_nF WM, rd_nF WV, rd_nt n0 n1 n2, WO), rd_mk I, fun post hp => br_t rfl hp, fun post hp => br_t rfl hp⟩
    obtain ⟨r, u', v', hR, hX, hY⟩ := key (decide (HE d = 1)) (by simp)
    refine ⟨r, u', v', hR, fun post hp => ?_, fun post hp => ?_⟩
    · unfold wpX_change
      refine rd_x_isD hd (br_f (by decide) ⟨hi, ?_⟩)
      rw [nI_clamp (by omega)]
      have H := hX post hp
      refine pk_eq (HE d) 1 (fun e => ?_) (fun e => ?_)
      · rw [decide_eq_true e] at H; exact H
      · rw [decide_eq_false e] at H; exact H
    · unfold wpY_change
      refine rd_y_isD hd (br_f (by decide) ⟨hi, ?_⟩)
      rw [nI_clamp (by omega)]
      have H := hY post hp
      refine pk_eq (HE d) 1 (fun e => ?_) (fun e => ?_)
      · rw [decide_eq_true e] at H; exact H
      · rw [decide_eq_false e] at H; exact H
theorem rd_lo (p : Int32) : ∃ x, x < 256 ∧ p &&& 255 = nI x ∧ p.toInt8 = (nI x).toInt8 := by
  obtain ⟨x, hx, e⟩ := pk_andE p (m := 255) 8 (by decide)
  refine ⟨x, hx, e, ?_⟩
  rw [← e, Int32.toInt8_and, show (255 : Int32).toInt8 = -1 by decide, Int8.and_neg_one]
theorem rd_xb (a x : Nat) {p : Int32} (h : p.toInt8 = (nI x).toInt8) : vp_nar .byte ((sb_b a ^^^ p.toInt8.toInt32).toInt8.toInt32) = sb_b (a ^^^ x) := by
  rw [pk_vb]
  unfold sb_b
  rw [Int32.toInt8_xor, Int8.toInt8_toInt32, Int8.toInt8_toInt32, h, ← Int32.toInt8_xor, nx_xor]
theorem rd_16 (d s : Nat) : 16 * nI d + nI s = nI (16 * d + s) := by
  have : (16 : Int32) * nI d = nI (16 * d) := pk_mul 16 d
  rw [this, nI_add]
section
variable {dl w nx nb nm n0 n1 n2 : Nat} {cr bd dn : Int32} {B HE MK : Nat → Nat} {VT : Nat → Bool} {MP WM WV : Nat → Nat} {DA WO : Nat → Int32}
theorem rd_I_B {B' : Nat → Nat} (I : rd_I dl w nx nb nm n0 n1 n2 cr dn B HE MK VT MP WM WV) (h : ∀ j, B' j < 256) : rd_I dl w nx nb nm n0 n1 n2 cr dn B' HE MK VT MP WM WV := by
  obtain ⟨i1, i4, i9, i10, iB, iR⟩ := I
  exact ⟨i1, i4, i9, i10, h, iR⟩
end
theorem i_vc_spoil {k : Nat} {u : SX} {v : SY} (I : i_Rel k u v) (hk : k + 4 ≤ 2048) (v1 : Int32) (v2 : Int32) (v3 : Int32) : wpX_spoil (fun r u' => wpY_spoil (fun r' v' => r' = r ∧ i_Rel (k + 4) u' v') v v1 v2 v3) u v1 v2 v3 := by
  refine rd_el (P := fun u v => wpX_spoil (fun r u' => wpY_spoil (fun r' v' => r' = r ∧ i_Rel (k + 4) u' v') v v1 v2 v3) u v1 v2 v3) ?_ I
  clear I u v
  intro dl w nx nb nm n0 n1 n2 cr bd dn B HE MK VT MP WM WV DA WO I
  refine rd_fin (PX := fun post => wpX_spoil post (nI (rd_k VT 6), lN (rd_k (rd_fz MP) 64), nI (rd_c (rd_sh MP) 64), cr, nI nx, bd, dn, nI nm, nI nb, nI n0, nI n1, nI n2, nI w, nI dl, rd_bF B, rd_nF HE, rd_nF MK, rd_th HE MK, rd_PW, rd_PL, rd_nF MP, rd_uF MP, DA, rd_nF WM, rd_nF WV) v1 v2 v3) (PY := fun post => wpY_spoil post (nI dl, cr, nI nx, bd, dn, nI w, nI nb, nI nm, rd_nF B, rd_nF HE, rd_nF MK, rd_vF VT, rd_on MP, rd_nF WM, rd_nF WV, rd_nt n0 n1 n2, WO) v1 v2 v3) ?_
  rcases rd_isD_c v1 with h0 | ⟨h0, h6⟩ | ⟨d, hd, rfl⟩
  · exact ⟨0, (nI (rd_k VT 6), lN (rd_k (rd_fz MP) 64), nI (rd_c (rd_sh MP) 64), cr, nI nx, bd, dn, nI nm, nI nb, nI n0, nI n1, nI n2, nI w, nI dl, rd_bF B, rd_nF HE, rd_nF MK, rd_th HE MK, rd_PW, rd_PL, rd_nF MP, rd_uF MP, DA, rd_nF WM, rd_nF WV), (nI dl, cr, nI nx, bd, dn, nI w, nI nb, nI nm, rd_nF B, rd_nF HE, rd_nF MK, rd_vF VT, rd_on MP, rd_nF WM, rd_nF WV, rd_nt n0 n1 n2, WO), rd_mk I, fun post hp => by unfold wpX_spoil; exact rd_x_isD_lo h0 (br_t rfl hp), fun post hp => by unfold wpY_spoil; exact rd_in_lo h0 (br_t rfl hp)⟩
  · exact ⟨0, (nI (rd_k VT 6), lN (rd_k (rd_fz MP) 64), nI (rd_c (rd_sh MP) 64), cr, nI nx, bd, dn, nI nm, nI nb, nI n0, nI n1, nI n2, nI w, nI dl, rd_bF B, rd_nF HE, rd_nF MK, rd_th HE MK, rd_PW, rd_PL, rd_nF MP, rd_uF MP, DA, rd_nF WM, rd_nF WV), (nI dl, cr, nI nx, bd, dn, nI w, nI nb, nI nm, rd_nF B, rd_nF HE, rd_nF MK, rd_vF VT, rd_on MP, rd_nF WM, rd_nF WV, rd_nt n0 n1 n2, WO), rd_mk I, fun post hp => by unfold wpX_spoil; exact rd_x_isD_hi h0 h6 (br_t rfl hp), fun post hp => by unfold wpY_spoil; exact rd_in_hi h0 (rd_6_5 h6) (br_t rfl hp)⟩
  rcases rd_isS_c v2 with h0 | ⟨h0, h6⟩ | ⟨s, hs, rfl⟩
  · refine ⟨0, (nI (rd_k VT 6), lN (rd_k (rd_fz MP) 64), nI (rd_c (rd_sh MP) 64), cr, nI nx, bd, dn, nI nm, nI nb, nI n0, nI n1, nI n2, nI w, nI dl, rd_bF B, rd_nF HE, rd_nF MK, rd_th HE MK, rd_PW, rd_PL, rd_nF MP, rd_uF MP, DA, rd_nF WM, rd_nF WV), (nI dl, cr, nI nx, bd, dn, nI w, nI nb, nI nm, rd_nF B, rd_nF HE, rd_nF MK, rd_vF VT, rd_on MP, rd_nF WM, rd_nF WV, rd_nt n0 n1 n2, WO), rd_mk I, fun post hp => ?_, fun post hp => ?_⟩
    · unfold wpX_spoil; exact rd_x_isD hd (br_f (by decide) (br_t h0 hp))
    · unfold wpY_spoil; exact rd_y_isD hd (br_f (by decide) (rd_in_lo h0 (br_t rfl hp)))
  · refine ⟨0, (nI (rd_k VT 6), lN (rd_k (rd_fz MP) 64), nI (rd_c (rd_sh MP) 64), cr, nI nx, bd, dn, nI nm, nI nb, nI n0, nI n1, nI n2, nI w, nI dl, rd_bF B, rd_nF HE, rd_nF MK, rd_th HE MK, rd_PW, rd_PL, rd_nF MP, rd_uF MP, DA, rd_nF WM, rd_nF WV), (nI dl, cr, nI nx, bd, dn, nI w, nI nb, nI nm, rd_nF B, rd_nF HE, rd_nF MK, rd_vF VT, rd_on MP, rd_nF WM, rd_nF WV, rd_nt n0 n1 n2, WO), rd_mk I, fun post hp => ?_, fun post hp => ?_⟩
    · unfold wpX_spoil; exact rd_x_isD hd (br_f (by decide) (br_f h0 (br_t h6 hp)))
    · unfold wpY_spoil; exact rd_y_isD hd (br_f (by decide) (rd_in_hi h0 h6 (br_t rfl hp)))
  · have I0 := I
    obtain ⟨⟨i1, i2, i3⟩, i4, i9, i10, iB, iH, iK, iK2, iM, iV, iW, iX, iY⟩ := I
    obtain ⟨x, hx, ex, ex8⟩ := rd_lo v3
    have hc : vp_in (nI (16 * d + s)) 96 := vp_in_nI (by omega) (by omega)
    have n15 : ¬ (15 : Int32) < nI s := Int32.not_lt.mpr (nI_le (b := 15) (by omega) (by decide))
    cases hT : rd_isT HE MK d s with
    | false =>
      refine ⟨0, (nI (rd_k VT 6), lN (rd_k (rd_fz MP) 64), nI (rd_c (rd_sh MP) 64), cr, nI nx, bd, dn, nI nm, nI nb, nI n0, nI n1, nI n2, nI w, nI dl, rd_bF B, rd_nF HE, rd_nF MK, rd_th HE MK, rd_PW, rd_PL, rd_nF MP, rd_uF MP, DA, rd_nF WM, rd_nF WV), (nI dl, cr, nI nx, bd, dn, nI w, nI nb, nI nm, rd_nF B, rd_nF HE, rd_nF MK, rd_vF VT, rd_on MP, rd_nF WM, rd_nF WV, rd_nt n0 n1 n2, WO), rd_mk I0, fun post hp => ?_, fun post hp => ?_⟩
      · unfold wpX_spoil
        exact rd_x_isD hd (br_f (by decide) (br_f (nI_pos (by omega)) (br_f n15 ⟨vp_in_nI hs (by omega), rd_x_bit hs hd (fun _ => hp) (fun z => by rw [hT] at z; cases z)⟩)))
      · unfold wpY_spoil
        refine rd_y_isD hd (br_f (by decide) (rd_y_isS hs (br_f (by decide) (rd_y_isT iH iK hd hs ?_))))
        rw [hT]
        exact br_t rfl hp
    | true =>
      refine ⟨1, _, _, rd_mk (bd := bd) (DA := DA) (WO := WO) (rd_I_B (B' := rd_u B (16 * d + s) (B (16 * d + s) ^^^ x)) I0 (rd_u_lt iB (rd_xl (iB _) hx))), fun post hp => ?_, fun post hp => ?_⟩
      · unfold wpX_spoil
        refine rd_x_isD hd (br_f (by decide) (br_f (nI_pos (by omega)) (br_f n15 ⟨vp_in_nI hs (by omega), rd_x_bit hs hd (fun z => by rw [hT] at z; cases z) (fun _ => ?_)⟩)))
        rw [rd_16, nI_clamp (n := 16 * d + s) (by omega)]
        refine ⟨hc, hc, ?_⟩
        rw [show rd_bF B (16 * d + s) = sb_b (B (16 * d + s)) from rfl, rd_xb _ x ex8, rd_upB]
        exact nm_e hp
      · unfold wpY_spoil
        refine rd_y_isD hd (br_f (by decide) (rd_y_isS hs (br_f (by decide) (rd_y_isT iH iK hd hs ?_))))
        rw [hT, rd_16, nI_clamp (n := 16 * d + s) (by omega), ex, show rd_nF B (16 * d + s) = nI (B (16 * d + s)) from rfl, nx_xor, rd_upN]
        exact br_f (by decide) ⟨hc, hc, nm_e hp⟩
theorem i_vc_raw {k : Nat} {u : SX} {v : SY} (I : i_Rel k u v) (hk : k + 4 ≤ 2048) (v1 : Int32) (v2 : Int32) : wpX_raw (fun r => wpY_raw (fun r' => r' = r ∧ i_Rel (k + 4) u v) v v1 v2) u v1 v2 := by
  refine rd_el (P := fun u v => wpX_raw (fun r => wpY_raw (fun r' => r' = r ∧ i_Rel (k + 4) u v) v v1 v2) u v1 v2) ?_ I
  clear I u v
  intro dl w nx nb nm n0 n1 n2 cr bd dn B HE MK VT MP WM WV DA WO I
  refine rd_fin1 (PX := fun post => wpX_raw post (nI (rd_k VT 6), lN (rd_k (rd_fz MP) 64), nI (rd_c (rd_sh MP) 64), cr, nI nx, bd, dn, nI nm, nI nb, nI n0, nI n1, nI n2, nI w, nI dl, rd_bF B, rd_nF HE, rd_nF MK, rd_th HE MK, rd_PW, rd_PL, rd_nF MP, rd_uF MP, DA, rd_nF WM, rd_nF WV) v1 v2) (PY := fun post => wpY_raw post (nI dl, cr, nI nx, bd, dn, nI w, nI nb, nI nm, rd_nF B, rd_nF HE, rd_nF MK, rd_vF VT, rd_on MP, rd_nF WM, rd_nF WV, rd_nt n0 n1 n2, WO) v1 v2) (rd_mk I) ?_
  rcases rd_isD_c v1 with h0 | ⟨h0, h6⟩ | ⟨d, hd, rfl⟩
  · exact ⟨-1, fun post hp => by unfold wpX_raw; exact rd_x_isD_lo h0 (br_t rfl hp), fun post hp => by unfold wpY_raw; exact rd_in_lo h0 (br_t rfl hp)⟩
  · exact ⟨-1, fun post hp => by unfold wpX_raw; exact rd_x_isD_hi h0 h6 (br_t rfl hp), fun post hp => by unfold wpY_raw; exact rd_in_hi h0 (rd_6_5 h6) (br_t rfl hp)⟩
  rcases rd_isS_c v2 with h0 | ⟨h0, h6⟩ | ⟨s, hs, rfl⟩
  · refine ⟨-1, fun post hp => ?_, fun post hp => ?_⟩
    · unfold wpX_raw; exact rd_x_isD hd (br_f (by decide) (br_t h0 hp))
    · unfold wpY_raw; exact rd_y_isD hd (br_f (by decide) (rd_in_lo h0 (br_t rfl hp)))
  · refine ⟨-1, fun post hp => ?_, fun post hp => ?_⟩
    · unfold wpX_raw; exact rd_x_isD hd (br_f (by decide) (br_f h0 (br_t h6 hp)))
    · unfold wpY_raw; exact rd_y_isD hd (br_f (by decide) (rd_in_hi h0 h6 (br_t rfl hp)))
  · obtain ⟨⟨i1, i2, i3⟩, i4, i9, i10, iB, iH, iK, iK2, iM, iV, iW, iX, iY⟩ := I
    have hc : vp_in (nI (16 * d + s)) 96 := vp_in_nI (by omega) (by omega)
    have n15 : ¬ (15 : Int32) < nI s := Int32.not_lt.mpr (nI_le (b := 15) (by omega) (by decide))
    cases hT : rd_isT HE MK d s with
    | false =>
      refine ⟨-1, fun post hp => ?_, fun post hp => ?_⟩
      · unfold wpX_raw
        exact rd_x_isD hd (br_f (by decide) (br_f (nI_pos (by omega)) (br_f n15 ⟨vp_in_nI hs (by omega), rd_x_bit hs hd (fun _ => hp) (fun z => by rw [hT] at z; cases z)⟩)))
      · unfold wpY_raw
        refine rd_y_isD hd (br_f (by decide) (rd_y_isS hs (br_f (by decide) (rd_y_isT iH iK hd hs ?_))))
        rw [hT]
        exact br_t rfl hp
    | true =>
      refine ⟨nI (B (16 * d + s)), fun post hp => ?_, fun post hp => ?_⟩
      · unfold wpX_raw
        refine rd_x_isD hd (br_f (by decide) (br_f (nI_pos (by omega)) (br_f n15 ⟨vp_in_nI hs (by omega), rd_x_bit hs hd (fun z => by rw [hT] at z; cases z) (fun _ => ?_)⟩)))
        rw [rd_16, nI_clamp (n := 16 * d + s) (by omega)]
        refine ⟨hc, ?_⟩
        rw [show rd_bF B (16 * d + s) &&& 255 = nI (B (16 * d + s)) from (sb_byte _ (iB _)).1]
        exact hp
      · unfold wpY_raw
        refine rd_y_isD hd (br_f (by decide) (rd_y_isS hs (br_f (by decide) (rd_y_isT iH iK hd hs ?_))))
        rw [hT, rd_16, nI_clamp (n := 16 * d + s) (by omega)]
        exact br_f (by decide) ⟨hc, hp⟩
theorem i_vc_place {k : Nat} {u : SX} {v : SY} (I : i_Rel k u v) (hk : k + 4 ≤ 2048) (v1 : Int32) (v2 : Int32) : wpX_place (fun r => wpY_place (fun r' => r' = r ∧ i_Rel (k + 4) u v) v v1 v2) u v1 v2 := by
  refine rd_el (P := fun u v => wpX_place (fun r => wpY_place (fun r' => r' = r ∧ i_Rel (k + 4) u v) v v1 v2) u v1 v2) ?_ I
  clear I u v
  intro dl w nx nb nm n0 n1 n2 cr bd dn B HE MK VT MP WM WV DA WO I
  refine rd_fin1 (PX := fun post => wpX_place post (nI (rd_k VT 6), lN (rd_k (rd_fz MP) 64), nI (rd_c (rd_sh MP) 64), cr, nI nx, bd, dn, nI nm, nI nb, nI n0, nI n1, nI n2, nI w, nI dl, rd_bF B, rd_nF HE, rd_nF MK, rd_th HE MK, rd_PW, rd_PL, rd_nF MP, rd_uF MP, DA, rd_nF WM, rd_nF WV) v1 v2) (PY := fun post => wpY_place post (nI dl, cr, nI nx, bd, dn, nI w, nI nb, nI nm, rd_nF B, rd_nF HE, rd_nF MK, rd_vF VT, rd_on MP, rd_nF WM, rd_nF WV, rd_nt n0 n1 n2, WO) v1 v2) (rd_mk I) ?_
  cases hl : rd_lb VT v1 v2 with
  | false =>
    refine ⟨-1, fun post hp => ?_, fun post hp => ?_⟩
    · unfold wpX_place
      refine rd_x_isL ?_
      rw [hl]; exact br_t rfl hp
    · unfold wpY_place
      refine rd_y_isL ?_
      rw [hl]; exact br_t rfl hp
  | true =>
    obtain ⟨j, i, hj, hi, _, _, hV, em⟩ := rd_lb_t hl
    have hm : 20 * j + i < 120 := by omega
    generalize 20 * j + i = m at em hm
    have hv : vp_in (nI m) 120 := vp_in_nI hm (by omega)
    refine ⟨nI (MP m) - 1, fun post hp => ?_, fun post hp => ?_⟩
    · unfold wpX_place
      refine rd_x_isL ?_
      rw [hl, em, nI_clamp (by omega)]
      exact br_f (by decide) ⟨hv, hp⟩
    · unfold wpY_place
      refine rd_y_isL ?_
      rw [hl, em, nI_clamp (by omega), rd_on_v MP hm]
      exact br_f (by decide) ⟨hv, hp⟩
theorem i_vc_recover {k : Nat} {u : SX} {v : SY} (I : i_Rel k u v) (hk : k + 4 ≤ 2048) : wpX_recover (fun r u' => wpY_recover (fun r' v' => r' = r ∧ i_Rel (k + 4) u' v') v) u := by
  refine rd_el (P := fun u v => wpX_recover (fun r u' => wpY_recover (fun r' v' => r' = r ∧ i_Rel (k + 4) u' v') v) u) ?_ I
  clear I u v
  intro dl w nx nb nm n0 n1 n2 cr bd dn B HE MK VT MP WM WV DA WO I
  refine rd_fin (PX := fun post => wpX_recover post (nI (rd_k VT 6), lN (rd_k (rd_fz MP) 64), nI (rd_c (rd_sh MP) 64), cr, nI nx, bd, dn, nI nm, nI nb, nI n0, nI n1, nI n2, nI w, nI dl, rd_bF B, rd_nF HE, rd_nF MK, rd_th HE MK, rd_PW, rd_PL, rd_nF MP, rd_uF MP, DA, rd_nF WM, rd_nF WV)) (PY := fun post => wpY_recover post (nI dl, cr, nI nx, bd, dn, nI w, nI nb, nI nm, rd_nF B, rd_nF HE, rd_nF MK, rd_vF VT, rd_on MP, rd_nF WM, rd_nF WV, rd_nt n0 n1 n2, WO)) ?_
  by_cases hd : dn = 0
  case pos => exact ⟨0, (nI (rd_k VT 6), lN (rd_k (rd_fz MP) 64), nI (rd_c (rd_sh MP) 64), cr, nI nx, bd, dn, nI nm, nI nb, nI n0, nI n1, nI n2, nI w, nI dl, rd_bF B, rd_nF HE, rd_nF MK, rd_th HE MK, rd_PW, rd_PL, rd_nF MP, rd_uF MP, DA, rd_nF WM, rd_nF WV), (nI dl, cr, nI nx, bd, dn, nI w, nI nb, nI nm, rd_nF B, rd_nF HE, rd_nF MK, rd_vF VT, rd_on MP, rd_nF WM, rd_nF WV, rd_nt n0 n1 n2, WO), rd_mk I, fun post hp => br_t hd hp, fun post hp => br_t hd hp⟩
  obtain ⟨⟨i1, i2, i3⟩, ⟨i4, i5, i6, i7, i8⟩, i9, i10, iB, iH, iK, iK2, iM, iV, iW, iX, iY⟩ := I
  have hV := i10 hd
  refine ⟨1, (nI (rd_k VT 6), lN (rd_k (rd_fz (rd_u MP nm (nb + 1))) 64), nI (rd_c (rd_sh (rd_u MP nm (nb + 1))) 64), cr, nI nx, bd, 0, nI nm, nI nb, nI n0, nI n1, nI n2, nI w, nI dl, rd_bF (rd_st HE MK B nb n0 n1 n2 3), rd_nF HE, rd_nF MK, rd_th HE MK, rd_PW, rd_PL, rd_nF (rd_u MP nm (nb + 1)), rd_uF (rd_u MP nm (nb + 1)), DA, rd_nF WM, rd_nF WV), (nI dl, cr, nI nx, bd, 0, nI w, nI nb, nI nm, rd_nF (rd_st HE MK B nb n0 n1 n2 3), rd_nF HE, rd_nF MK, rd_vF VT, rd_on (rd_u MP nm (nb + 1)), rd_nF WM, rd_nF WV, rd_nt n0 n1 n2, WO), rd_mk ?_, fun post hp => br_f hd ?_, fun post hp => br_f hd ?_⟩
  · refine ⟨⟨i1, i2, i3⟩, ⟨i4, i5, i6, i7, i8⟩, i9, fun z => absurd rfl z, rd_st_lt iB i6 i7 i8 3, iH, iK, iK2, fun m => ?_, fun x hx hf l hl => ?_, iW, iX, iY⟩
    · by_cases z : m = nm
      · subst z; rw [rd_us]; omega
      · rw [rd_un z]; exact iM m
    · by_cases z : 20 * x + l = nm
      · subst z
        rw [show (20 * x + l) / 20 = x by omega, hf] at hV; cases hV
      · rw [rd_un z]; exact iV x hx hf l hl
  · exact rd_x_store (t := 3) (by decide) i4 (rd_x_settle iM i5 i4 hp)
  · exact ⟨4, rd_y_r16 iH iK i4 i5 hp 3 0 4 rfl (by decide)⟩
end
section
/-! rebuild -/
def rd_ln (HE : Nat → Nat) : Nat := rd_lff (fun d => decide (HE d = 2)) 6 0
theorem rd_ln_le (HE : Nat → Nat) : rd_ln HE ≤ 6 := by have := rd_lff_le (fun d => decide (HE d = 2)) 6 0; unfold rd_ln; omega
theorem rd_ln_2 {HE : Nat → Nat} (h : rd_ln HE < 6) : HE (rd_ln HE) = 2 := by
  have e : decide (HE (rd_ln HE) = 2) = true := rd_lff_p (fun d => decide (HE d = 2)) 6 0 (by unfold rd_ln at h; omega)
  exact of_decide_eq_true e
def rd_kd (d s : Nat) : Nat := (d + 18 - s) % 6
theorem rd_kd_lt (d s : Nat) : rd_kd d s < 6 := Nat.mod_lt _ (by decide)
theorem rd_kd_dk {d s : Nat} (hd : d < 6) (hs : s < 16) : rd_dk s (rd_kd d s) = d := by unfold rd_dk rd_kd; omega
def rd_rv (HE MK B : Nat → Nat) (d s : Nat) : Nat := if rd_ls HE MK s = true then 0 else rd_F6 HE MK B s (rd_wv HE MK B s) (rd_kd d s)
def rd_da (HE MK B : Nat → Nat) (s : Nat) (g : Nat → Int32) : Nat → Int32 := if rd_ls HE MK s = true then g else rd_4 (rd_wv HE MK B s) g
def rd_oa (HE MK B : Nat → Nat) (s : Nat) (g : Nat → Int32) : Nat → Int32 := if rd_ls HE MK s = true then g else rd_n (rd_F6 HE MK B s (rd_wv HE MK B s)) 6 g
theorem rd_F6_lt {HE MK B f : Nat → Nat} {s : Nat} (hB : ∀ j, B j < 256) (hf : ∀ k, f k < 256) (k : Nat) : rd_F6 HE MK B s f k < 256 := by
  unfold rd_F6
  split
  · exact hf k
  · split
    · split
      · exact hB _
      · exact rd_sz_lt hf 4
    · split
      · exact hB _
      · exact rd_wz_lt hf 4
theorem rd_rv_lt {HE MK B : Nat → Nat} {d s : Nat} (hB : ∀ j, B j < 256) : rd_rv HE MK B d s < 256 := by
  unfold rd_rv
  split
  · decide
  · exact rd_F6_lt hB (rd_wv_lt hB) _
section
variable {HE MK : Nat → Nat} {d s : Nat}
theorem rd_th_set (h2 : HE d = 2) (hm : MK d = s) : upd (rd_th HE MK) s (if s < 16 then nI (rd_k (rd_u (fun e => rd_isT HE MK e s) d true) 6) else 0) = rd_th HE (rd_u MK d (s + 1)) := by
  funext t
  show (if t = s then _ else if t < 16 then _ else _) = if t < 16 then _ else _
  by_cases z : t = s
  · subst z
    rw [if_pos rfl]
    have e : (fun e => rd_isT HE (rd_u MK d (t + 1)) e t) = rd_u (fun e => rd_isT HE MK e t) d true := by
      funext e
      by_cases y : e = d
      · subst y
        rw [rd_us]
        unfold rd_isT
        rw [rd_us]
        exact decide_eq_true (by omega)
      · rw [rd_un y]
        unfold rd_isT
        rw [rd_un y]
    rw [e]
  · rw [if_neg z]
    have e : (fun e => rd_isT HE (rd_u MK d (s + 1)) e t) = fun e => rd_isT HE MK e t := by
      funext e
      unfold rd_isT
      by_cases y : e = d
      · subst y
        rw [rd_us]
        congr 1
        apply propext
        omega
      · rw [rd_un y]
    rw [e]
theorem rd_th_good (h2 : HE d = 2) (hm : MK d = 16) : rd_th HE MK = rd_th (rd_u HE d 0) MK := by
  funext t
  show (if t < 16 then nI (rd_k (fun e => rd_isT HE MK e t) 6) else 0) = if t < 16 then nI (rd_k (fun e => rd_isT (rd_u HE d 0) MK e t) 6) else 0
  by_cases z : t < 16
  · rw [if_pos z, if_pos z]
    have e : (fun e => rd_isT (rd_u HE d 0) MK e t) = fun e => rd_isT HE MK e t := by
      funext e
      unfold rd_isT
      by_cases y : e = d
      · subst y
        rw [rd_us]
        congr 1
        apply propext
        omega
      · rw [rd_un y]
    rw [e]
  · rw [if_neg z, if_neg z]
end
section
variable {f_volumes : Int32} {f_free : Int64} {f_shared : Int32} {f_crashAfter : Int32} {f_next : Int32} {f_bad : Int32} {f_down : Int32} {f_noteMap : Int32} {f_noteBlock : Int32} {f_noteData : Int32} {f_noteP : Int32} {f_noteQ : Int32} {f_waiting : Int32} {f_delay : Int32} {a_disk : Nat → Int32} {a_health : Nat → Int32} {a_mark : Nat → Int32} {a_there : Nat → Int32} {a_power : Nat → Int32} {a_place : Nat → Int32} {a_map : Nat → Int32} {a_uses : Nat → Int32} {a_data : Nat → Int32} {a_waitMap : Nat → Int32} {a_waitValue : Nat → Int32}
variable {HE MK B : Nat → Nat} {d s : Nat}
theorem rd_x_ln2 {post : Int32 → Prop} (hH : ∀ d, HE d ≤ 2) : ∀ (e i n : Nat), i + e = 6 → e < n → post (nI (rd_lff (fun d => decide (HE d = 2)) e i)) → wX_leastNew_2 post f_volumes f_free f_shared f_crashAfter f_next f_bad f_down f_noteMap f_noteBlock f_noteData f_noteP f_noteQ f_waiting f_delay a_disk (rd_nF HE) a_mark a_there a_power a_place a_map a_uses a_data a_waitMap a_waitValue n (nI i)
  | _, _, 0, _, h, _ => by omega
  | 0, i, n + 1, h, _, hp => by
    have : i = 6 := by omega
    subst this
    unfold wX_leastNew_2
    exact br_t (by decide) hp
  | e + 1, i, n + 1, h, hn, hp => by
    have h2 := hH i
    unfold wX_leastNew_2
    unfold rd_lff at hp
    refine br_f (nI_ge (b := 6) (by omega) (by decide)) ⟨vp_in_nI (by omega) (by omega), ?_⟩
    rw [nI_clamp (by omega)]
    refine pk_eq (HE i) 2 (fun z => ?_) (fun z => nm_r (nI_1 i) ?_)
    · rw [if_pos (decide_eq_true z)] at hp; exact hp
    · rw [if_neg (by rw [decide_eq_false z]; decide)] at hp
      exact rd_x_ln2 hH e (i + 1) n (by omega) (by omega) hp
theorem rd_x_ln {post : Int32 → Prop} (hH : ∀ d, HE d ≤ 2) (hp : post (nI (rd_ln HE))) : wpX_leastNew post (f_volumes, f_free, f_shared, f_crashAfter, f_next, f_bad, f_down, f_noteMap, f_noteBlock, f_noteData, f_noteP, f_noteQ, f_waiting, f_delay, a_disk, rd_nF HE, a_mark, a_there, a_power, a_place, a_map, a_uses, a_data, a_waitMap, a_waitValue) := by
  unfold wpX_leastNew
  dsimp only
  exact ⟨7, rd_x_ln2 hH 6 0 7 rfl (by decide) hp⟩
theorem rd_x_rm58 {post : SX → Prop} {v : Nat} (hd : d < 6) (hs : s < 16) (h2 : HE d = 2) (hm : MK d = s) (hp : post (f_volumes, f_free, f_shared, f_crashAfter, f_next, f_bad, f_down, f_noteMap, f_noteBlock, f_noteData, f_noteP, f_noteQ, f_waiting, f_delay, rd_bF (rd_u B (16 * d + s) v), a_health, a_mark, rd_th HE (rd_u MK d (s + 1)), a_power, a_place, a_map, a_uses, a_data, a_waitMap, a_waitValue)) : wX_remake_58 post (nI d) (nI s) (nI v) f_volumes f_free f_shared f_crashAfter f_next f_bad f_down f_noteMap f_noteBlock f_noteData f_noteP f_noteQ f_waiting f_delay (rd_bF B) a_health a_mark (rd_th HE MK) a_power a_place a_map a_uses a_data a_waitMap a_waitValue := by
  unfold wX_remake_58
  have hi : vp_in (nI s) 16 := vp_in_nI hs (by omega)
  have hc : vp_in (nI (16 * d + s)) 96 := vp_in_nI (by omega) (by omega)
  have hl := rd_k_lt (rd_u (fun e => rd_isT HE MK e s) d true) 6
  have e := rd_th_set (HE := HE) (MK := MK) (d := d) (s := s) h2 hm
  rw [if_pos hs] at e
  rw [rd_th_v hs, rd_setI _ hd (by decide), rd_nb (by omega), rd_16, nI_clamp (n := s) (by omega), e, nI_clamp (by omega), rd_nsb, rd_upB]
  exact ⟨hi, hi, nm_e ⟨hc, nm_e hp⟩⟩
theorem rd_x_remake {post : SX → Prop} (hB : ∀ j, B j < 256) (hd : d < 6) (hs : s < 16) (h2 : HE d = 2) (hm : MK d = s) (hp : post (f_volumes, f_free, f_shared, f_crashAfter, f_next, f_bad, f_down, f_noteMap, f_noteBlock, f_noteData, f_noteP, f_noteQ, f_waiting, f_delay, rd_bF (rd_u B (16 * d + s) (rd_rv HE MK B d s)), a_health, a_mark, rd_th HE (rd_u MK d (s + 1)), rd_PW, rd_PL, a_map, a_uses, rd_da HE MK B s a_data, a_waitMap, a_waitValue)) : wpX_remake post (f_volumes, f_free, f_shared, f_crashAfter, f_next, f_bad, f_down, f_noteMap, f_noteBlock, f_noteData, f_noteP, f_noteQ, f_waiting, f_delay, rd_bF B, a_health, a_mark, rd_th HE MK, rd_PW, rd_PL, a_map, a_uses, a_data, a_waitMap, a_waitValue) (nI d) (nI s) := by
  unfold wpX_remake
  dsimp only
  have e1 : nI d + 18 - nI s = nI (d + 18 - s) := by
    have : nI d + 18 = nI (d + 18) := nI_add d 18
    rw [this, pk_sub (by omega)]
  have e2 : nI (d + 18 - s) - nI (d + 18 - s) / 6 * 6 = nI (rd_kd d s) := pk_rem (d := 6) (by omega) (by decide) (by decide)
  rw [e1, e2]
  have hk := rd_kd_lt d s
  have hn : rd_hs HE MK s (rd_kd d s) = false := by
    unfold rd_hs
    rw [rd_kd_dk hd hs]
    exact decide_eq_false (by omega)
  refine ⟨by decide, nm_e (rd_x_lost hs (rd_brb _ rfl (fun hl => ?_) (fun hl => ?_)))⟩
  · have er : rd_rv HE MK B d s = rd_F6 HE MK B s (rd_wv HE MK B s) (rd_kd d s) := if_neg (by rw [hl]; decide)
    have ed : rd_da HE MK B s a_data = rd_4 (rd_wv HE MK B s) a_data := if_neg (by rw [hl]; decide)
    rw [er, ed] at hp
    refine rd_x_gather hB hs hl ?_
    dsimp only
    refine pk_eq (rd_kd d s) 4 (fun z => ?_) (fun z => pk_eq (rd_kd d s) 5 (fun y => ?_) (fun y => ?_))
    · refine rd_x_sum (rd_wv HE MK B s) ?_
      have ev : rd_F6 HE MK B s (rd_wv HE MK B s) (rd_kd d s) = rd_sz (rd_wv HE MK B s) 4 := by
        rw [z] at hn ⊢
        unfold rd_F6
        rw [if_neg (by decide), if_pos rfl, if_neg (by rw [hn]; decide)]
      rw [ev] at hp
      exact rd_x_rm58 hd hs h2 hm hp
    · refine rd_x_wei (f := rd_wv HE MK B s) (fun k _ => rd_wv_lt hB k) ?_
      have ev : rd_F6 HE MK B s (rd_wv HE MK B s) (rd_kd d s) = rd_wz (rd_wv HE MK B s) 4 := by
        rw [y] at hn ⊢
        unfold rd_F6
        rw [if_neg (by decide), if_neg (by decide), if_neg (by rw [hn]; decide)]
      rw [ev] at hp
      exact rd_x_rm58 hd hs h2 hm hp
    · have hk4 : rd_kd d s < 4 := by omega
      refine ⟨vp_in_nI hk4 (by omega), ?_⟩
      rw [nI_clamp (by omega), rd_4v hk4]
      have ev : rd_F6 HE MK B s (rd_wv HE MK B s) (rd_kd d s) = rd_wv HE MK B s (rd_kd d s) := if_pos hk4
      rw [ev] at hp
      exact rd_x_rm58 hd hs h2 hm hp
  · have er : rd_rv HE MK B d s = 0 := if_pos hl
    have ed : rd_da HE MK B s a_data = a_data := if_pos hl
    rw [er, ed] at hp
    exact rd_x_rm58 (v := 0) hd hs h2 hm hp
end
section
variable {f_delay : Int32} {f_crash : Int32} {f_cursor : Int32} {f_bad : Int32} {f_down : Int32} {f_waiting : Int32} {f_noteBlock : Int32} {f_noteFor : Int32} {a_bytes : Nat → Int32} {a_health : Nat → Int32} {a_mark : Nat → Int32} {a_there : Nat → Int32} {a_on : Nat → Int32} {a_waitsFor : Nat → Int32} {a_waits : Nat → Int32} {a_note : Nat → Int32} {a_worth : Nat → Int32}
variable {HE MK B : Nat → Nat} {d s : Nat}
theorem rd_y_ln2 {post : Int32 → Prop} (hH : ∀ d, HE d ≤ 2) : ∀ (e i n : Nat), i + e = 6 → e < n → post (nI (rd_lff (fun d => decide (HE d = 2)) e i)) → wY_leastNew_2 post f_delay f_crash f_cursor f_bad f_down f_waiting f_noteBlock f_noteFor a_bytes (rd_nF HE) a_mark a_there a_on a_waitsFor a_waits a_note a_worth n (nI i)
  | _, _, 0, _, h, _ => by omega
  | 0, i, n + 1, h, _, hp => by
    have : i = 6 := by omega
    subst this
    unfold wY_leastNew_2
    exact br_t (by decide) hp
  | e + 1, i, n + 1, h, hn, hp => by
    have h2 := hH i
    unfold wY_leastNew_2
    unfold rd_lff at hp
    refine br_f (nI_ge (b := 6) (by omega) (by decide)) ⟨vp_in_nI (by omega) (by omega), ?_⟩
    rw [nI_clamp (by omega)]
    refine pk_eq (HE i) 2 (fun z => ?_) (fun z => nm_r (nI_1 i) ?_)
    · rw [if_pos (decide_eq_true z)] at hp; exact hp
    · rw [if_neg (by rw [decide_eq_false z]; decide)] at hp
      exact rd_y_ln2 hH e (i + 1) n (by omega) (by omega) hp
theorem rd_y_ln {post : Int32 → Prop} (hH : ∀ d, HE d ≤ 2) (hp : post (nI (rd_ln HE))) : wpY_leastNew post (f_delay, f_crash, f_cursor, f_bad, f_down, f_waiting, f_noteBlock, f_noteFor, a_bytes, rd_nF HE, a_mark, a_there, a_on, a_waitsFor, a_waits, a_note, a_worth) := by
  unfold wpY_leastNew
  dsimp only
  exact ⟨7, rd_y_ln2 hH 6 0 7 rfl (by decide) hp⟩
theorem rd_y_kd {d s : Nat} (hd : d < 6) (hs : s < 16) : ((nI d - (nI s - nI s / 6 * 6)) + 6) - ((nI d - (nI s - nI s / 6 * 6)) + 6) / 6 * 6 = nI (rd_kd d s) := by
  have e0 : nI s - nI s / 6 * 6 = nI (s % 6) := pk_rem (d := 6) (by omega) (by decide) (by decide)
  have e1 : nI d - nI (s % 6) + 6 = nI (d + 6 - s % 6) := by
    have h1 : nI (d + 6 - s % 6) + nI (s % 6) = nI d + nI 6 := by
      rw [nI_add, nI_add]
      exact congrArg nI (by omega)
    have h6 : nI 6 = 6 := rfl
    rw [h6] at h1
    grind
  rw [e0, e1]
  have e2 : nI (d + 6 - s % 6) - nI (d + 6 - s % 6) / 6 * 6 = nI ((d + 6 - s % 6) % 6) := pk_rem (d := 6) (by omega) (by decide) (by decide)
  rw [e2]
  exact congrArg nI (by unfold rd_kd; omega)
end
section
variable {dl w nx nb nm n0 n1 n2 : Nat} {cr bd dn : Int32} {B HE MK : Nat → Nat} {VT : Nat → Bool} {MP WM WV : Nat → Nat} {DA WO : Nat → Int32}
theorem rd_I_reb {d : Nat} (I : rd_I dl w nx nb nm n0 n1 n2 cr dn B HE MK VT MP WM WV) (h15 : MK d ≤ 15) (v : Nat) (hv : v < 256) (c : Nat) (hn : ¬ MK d + 1 = 16) : rd_I dl w nx nb nm n0 n1 n2 cr dn (rd_u B c v) HE (rd_u MK d (MK d + 1)) VT MP WM WV := by
  obtain ⟨i1, i4, i9, i10, iB, iH, iK, iK2, iR⟩ := I
  refine ⟨i1, i4, i9, i10, rd_u_lt iB hv, iH, fun e => ?_, fun e h2 => ?_, iR⟩
  · by_cases z : e = d
    · subst z; rw [rd_us]; omega
    · rw [rd_un z]; exact iK e
  · by_cases z : e = d
    · subst z; rw [rd_us]; omega
    · rw [rd_un z]; exact iK2 e h2
theorem rd_I_reb' {d : Nat} (I : rd_I dl w nx nb nm n0 n1 n2 cr dn B HE MK VT MP WM WV) (h15 : MK d ≤ 15) (v : Nat) (hv : v < 256) (c : Nat) : rd_I dl w nx nb nm n0 n1 n2 cr dn (rd_u B c v) (rd_u HE d 0) (rd_u MK d (MK d + 1)) VT MP WM WV := by
  obtain ⟨i1, i4, i9, i10, iB, iH, iK, iK2, iR⟩ := I
  refine ⟨i1, i4, i9, i10, rd_u_lt iB hv, fun e => ?_, fun e => ?_, fun e h2 => ?_, iR⟩
  · by_cases z : e = d
    · subst z; rw [rd_us]; omega
    · rw [rd_un z]; exact iH e
  · by_cases z : e = d
    · subst z; rw [rd_us]; omega
    · rw [rd_un z]; exact iK e
  · by_cases z : e = d
    · subst z; rw [rd_us] at h2; omega
    · rw [rd_un z] at h2 ⊢; exact iK2 e h2
end
theorem rd_jr {n : Nat} (hn : n ≤ 16) : ∀ (d i : Nat) (dl w nx nb nm n0 n1 n2 : Nat) (cr bd dn : Int32) (B HE MK : Nat → Nat) (VT : Nat → Bool) (MP WM WV : Nat → Nat) (DA WO : Nat → Int32), rd_I dl w nx nb nm n0 n1 n2 cr dn B HE MK VT MP WM WV → i + d = n → ∃ (r : Int32) (u' : SX) (v' : SY), (∀ k, i_Rel k u' v') ∧ (∀ (post : Int32 → SX → Prop) (fu : Nat), d < fu → post r u' → wX_rebuild_30 post (nI n) fu (nI i) (nI (rd_ln HE)) (nI (rd_k VT 6)) (lN (rd_k (rd_fz MP) 64)) (nI (rd_c (rd_sh MP) 64)) cr (nI nx) bd dn (nI nm) (nI nb) (nI n0) (nI n1) (nI n2) (nI w) (nI dl) (rd_bF B) (rd_nF HE) (rd_nF MK) (rd_th HE MK) rd_PW rd_PL (rd_nF MP) (rd_uF MP) DA (rd_nF WM) (rd_nF WV)) ∧ (∀ (post : Int32 → SY → Prop) (fu : Nat), d < fu → post r v' → wY_rebuild_24 post (nI n) fu (nI i) (nI dl) cr (nI nx) bd dn (nI w) (nI nb) (nI nm) (rd_nF B) (rd_nF HE) (rd_nF MK) (rd_vF VT) (rd_on MP) (rd_nF WM) (rd_nF WV) (rd_nt n0 n1 n2) WO) := by
  intro d
  induction d with
  | zero =>
    intro i dl w nx nb nm n0 n1 n2 cr bd dn B HE MK VT MP WM WV DA WO I h
    have : i = n := by omega
    subst this
    refine ⟨nI i, (nI (rd_k VT 6), lN (rd_k (rd_fz MP) 64), nI (rd_c (rd_sh MP) 64), cr, nI nx, bd, dn, nI nm, nI nb, nI n0, nI n1, nI n2, nI w, nI dl, rd_bF B, rd_nF HE, rd_nF MK, rd_th HE MK, rd_PW, rd_PL, rd_nF MP, rd_uF MP, DA, rd_nF WM, rd_nF WV), (nI dl, cr, nI nx, bd, dn, nI w, nI nb, nI nm, rd_nF B, rd_nF HE, rd_nF MK, rd_vF VT, rd_on MP, rd_nF WM, rd_nF WV, rd_nt n0 n1 n2, WO), fun k => rd_mk I, fun post fu hf hp => ?_, fun post fu hf hp => ?_⟩
    · obtain ⟨f, rfl⟩ : ∃ f, fu = f + 1 := ⟨fu - 1, by omega⟩
      unfold wX_rebuild_30
      exact br_c (fun _ => hp) (fun _ => br_t (Int32.le_refl _) hp)
    · obtain ⟨f, rfl⟩ : ∃ f, fu = f + 1 := ⟨fu - 1, by omega⟩
      unfold wY_rebuild_24
      exact br_t (Int32.le_refl _) hp
  | succ d ih =>
    intro i dl w nx nb nm n0 n1 n2 cr bd dn B HE MK VT MP WM WV DA WO I h
    have hlt : ¬ nI n ≤ nI i := nI_ge (by omega) (by omega)
    have I0 := I
    obtain ⟨⟨i1, i2, i3⟩, i4, i9, i10, iB, iH, iK, iK2, iM, iV, iW, iX, iY⟩ := I
    by_cases h6 : rd_ln HE = 6
    · have hz : (6 : Int32) ≤ nI (rd_ln HE) := by rw [h6]; decide
      refine ⟨nI i, (nI (rd_k VT 6), lN (rd_k (rd_fz MP) 64), nI (rd_c (rd_sh MP) 64), cr, nI nx, bd, dn, nI nm, nI nb, nI n0, nI n1, nI n2, nI w, nI dl, rd_bF B, rd_nF HE, rd_nF MK, rd_th HE MK, rd_PW, rd_PL, rd_nF MP, rd_uF MP, DA, rd_nF WM, rd_nF WV), (nI dl, cr, nI nx, bd, dn, nI w, nI nb, nI nm, rd_nF B, rd_nF HE, rd_nF MK, rd_vF VT, rd_on MP, rd_nF WM, rd_nF WV, rd_nt n0 n1 n2, WO), fun k => rd_mk I0, fun post fu hf hp => ?_, fun post fu hf hp => ?_⟩
      · obtain ⟨f, rfl⟩ : ∃ f, fu = f + 1 := ⟨fu - 1, by omega⟩
        unfold wX_rebuild_30
        exact br_t hz hp
      · obtain ⟨f, rfl⟩ : ∃ f, fu = f + 1 := ⟨fu - 1, by omega⟩
        unfold wY_rebuild_24
        exact br_f hlt (rd_y_ln iH (br_t hz hp))
    · have hD : rd_ln HE < 6 := by have := rd_ln_le HE; omega
      have h2 := rd_ln_2 hD
      have h15 := iK2 _ h2
      have hz : ¬ (6 : Int32) ≤ nI (rd_ln HE) := nI_ge (b := 6) hD (by decide)
      have hi6 : vp_in (nI (rd_ln HE)) 6 := vp_in_nI hD (by omega)
      have hs : MK (rd_ln HE) < 16 := by omega
      have hc96 : vp_in (nI (16 * rd_ln HE + MK (rd_ln HE))) 96 := vp_in_nI (by omega) (by omega)
      have hrv := rd_rv_lt (HE := HE) (MK := MK) (d := rd_ln HE) (s := MK (rd_ln HE)) iB
      have hk6 := rd_kd_lt (rd_ln HE) (MK (rd_ln HE))
      have em : upd (rd_nF MK) (rd_ln HE) (vp_nar .byte ((rd_nF MK (rd_ln HE) + 1).toInt8.toInt32)) = rd_nF (rd_u MK (rd_ln HE) (MK (rd_ln HE) + 1)) := by
        show upd (rd_nF MK) (rd_ln HE) (vp_nar .byte ((nI (MK (rd_ln HE)) + 1).toInt8.toInt32)) = _
        rw [nI_1, rd_nb (by omega), rd_upN]
      have em' : upd (rd_nF MK) (rd_ln HE) (rd_nF MK (rd_ln HE) + 1) = rd_nF (rd_u MK (rd_ln HE) (MK (rd_ln HE) + 1)) := by
        show upd (rd_nF MK) (rd_ln HE) (nI (MK (rd_ln HE)) + 1) = _
        rw [nI_1, rd_upN]
      have ev : rd_nF (rd_u MK (rd_ln HE) (MK (rd_ln HE) + 1)) (rd_ln HE) = nI (MK (rd_ln HE) + 1) := by
        show nI (rd_u MK (rd_ln HE) (MK (rd_ln HE) + 1) (rd_ln HE)) = _
        rw [rd_us]
      have ez : vp_nar .byte 0 = nI 0 := rd_nb' (by decide)
      have key : ∃ (r : Int32) (u' : SX) (v' : SY), (∀ k, i_Rel k u' v') ∧
          (∀ (post : Int32 → SX → Prop) (f : Nat), d < f → post r u' → (MK (rd_ln HE) + 1 = 16 → wX_rebuild_30 post (nI n) f (nI (i + 1)) (nI (rd_ln (rd_u HE (rd_ln HE) 0))) (nI (rd_k VT 6)) (lN (rd_k (rd_fz MP) 64)) (nI (rd_c (rd_sh MP) 64)) cr (nI nx) bd dn (nI nm) (nI nb) (nI n0) (nI n1) (nI n2) (nI w) (nI dl) (rd_bF (rd_u B (16 * rd_ln HE + MK (rd_ln HE)) (rd_rv HE MK B (rd_ln HE) (MK (rd_ln HE))))) (rd_nF (rd_u HE (rd_ln HE) 0)) (rd_nF (rd_u MK (rd_ln HE) (MK (rd_ln HE) + 1))) (rd_th (rd_u HE (rd_ln HE) 0) (rd_u MK (rd_ln HE) (MK (rd_ln HE) + 1))) rd_PW rd_PL (rd_nF MP) (rd_uF MP) (rd_da HE MK B (MK (rd_ln HE)) DA) (rd_nF WM) (rd_nF WV)) ∧ (¬ MK (rd_ln HE) + 1 = 16 → wX_rebuild_30 post (nI n) f (nI (i + 1)) (nI (rd_ln HE)) (nI (rd_k VT 6)) (lN (rd_k (rd_fz MP) 64)) (nI (rd_c (rd_sh MP) 64)) cr (nI nx) bd dn (nI nm) (nI nb) (nI n0) (nI n1) (nI n2) (nI w) (nI dl) (rd_bF (rd_u B (16 * rd_ln HE + MK (rd_ln HE)) (rd_rv HE MK B (rd_ln HE) (MK (rd_ln HE))))) (rd_nF HE) (rd_nF (rd_u MK (rd_ln HE) (MK (rd_ln HE) + 1))) (rd_th HE (rd_u MK (rd_ln HE) (MK (rd_ln HE) + 1))) rd_PW rd_PL (rd_nF MP) (rd_uF MP) (rd_da HE MK B (MK (rd_ln HE)) DA) (rd_nF WM) (rd_nF WV))) ∧
          (∀ (post : Int32 → SY → Prop) (f : Nat), d < f → post r v' → (MK (rd_ln HE) + 1 = 16 → wY_rebuild_24 post (nI n) f (nI (i + 1)) (nI dl) cr (nI nx) bd dn (nI w) (nI nb) (nI nm) (rd_nF (rd_u B (16 * rd_ln HE + MK (rd_ln HE)) (rd_rv HE MK B (rd_ln HE) (MK (rd_ln HE))))) (rd_nF (rd_u HE (rd_ln HE) 0)) (rd_nF (rd_u MK (rd_ln HE) (MK (rd_ln HE) + 1))) (rd_vF VT) (rd_on MP) (rd_nF WM) (rd_nF WV) (rd_nt n0 n1 n2) (rd_oa HE MK B (MK (rd_ln HE)) WO)) ∧ (¬ MK (rd_ln HE) + 1 = 16 → wY_rebuild_24 post (nI n) f (nI (i + 1)) (nI dl) cr (nI nx) bd dn (nI w) (nI nb) (nI nm) (rd_nF (rd_u B (16 * rd_ln HE + MK (rd_ln HE)) (rd_rv HE MK B (rd_ln HE) (MK (rd_ln HE))))) (rd_nF HE) (rd_nF (rd_u MK (rd_ln HE) (MK (rd_ln HE) + 1))) (rd_vF VT) (rd_on MP) (rd_nF WM) (rd_nF WV) (rd_nt n0 n1 n2) (rd_oa HE MK B (MK (rd_ln HE)) WO))) := by
        by_cases e16 : MK (rd_ln HE) + 1 = 16
        · obtain ⟨r, u', v', hR, hX, hY⟩ := ih (i + 1) dl w nx nb nm n0 n1 n2 cr bd dn _ _ _ VT MP WM WV (rd_da HE MK B (MK (rd_ln HE)) DA) (rd_oa HE MK B (MK (rd_ln HE)) WO) (rd_I_reb' I0 h15 _ hrv (16 * rd_ln HE + MK (rd_ln HE))) (by omega)
          exact ⟨r, u', v', hR, fun post f hf hp => ⟨fun _ => hX post f hf hp, fun z => absurd e16 z⟩, fun post f hf hp => ⟨fun _ => hY post f hf hp, fun z => absurd e16 z⟩⟩
        · obtain ⟨r, u', v', hR, hX, hY⟩ := ih (i + 1) dl w nx nb nm n0 n1 n2 cr bd dn _ _ _ VT MP WM WV (rd_da HE MK B (MK (rd_ln HE)) DA) (rd_oa HE MK B (MK (rd_ln HE)) WO) (rd_I_reb I0 h15 _ hrv (16 * rd_ln HE + MK (rd_ln HE)) e16) (by omega)
          exact ⟨r, u', v', hR, fun post f hf hp => ⟨fun z => absurd z e16, fun _ => hX post f hf hp⟩, fun post f hf hp => ⟨fun z => absurd z e16, fun _ => hY post f hf hp⟩⟩
      obtain ⟨r, u', v', hR, hX, hY⟩ := key
      refine ⟨r, u', v', hR, fun post fu hf hp => ?_, fun post fu hf hp => ?_⟩
      · obtain ⟨f, rfl⟩ : ∃ f, fu = f + 1 := ⟨fu - 1, by omega⟩
        have H := hX post f (by omega) hp
        unfold wX_rebuild_30
        refine br_f hz (br_f hlt (nm_r (nI_1 i) ⟨hi6, ?_⟩))
        rw [nI_clamp (by omega)]
        refine rd_x_remake (s := MK (rd_ln HE)) iB hD hs h2 rfl ⟨hi6, hi6, nm_r em ⟨hi6, ?_⟩⟩
        rw [ev]
        refine pk_le 16 (MK (rd_ln HE) + 1) (fun z => ⟨hi6, ?_⟩) (fun z => ?_)
        · have e16 : MK (rd_ln HE) + 1 = 16 := by omega
          have H1 := H.1 e16
          rw [ez, rd_upN, rd_th_good (d := rd_ln HE) (MK := rd_u MK (rd_ln HE) (MK (rd_ln HE) + 1)) h2 (by rw [rd_us]; exact e16)]
          refine nm_e (rd_x_ln ?_ H1)
          intro e
          by_cases y : e = rd_ln HE
          · rw [y, rd_us]; decide
          · rw [rd_un y]; exact iH e
        · exact H.2 (by omega)
      · obtain ⟨f, rfl⟩ : ∃ f, fu = f + 1 := ⟨fu - 1, by omega⟩
        have H := hY post f (by omega) hp
        unfold wY_rebuild_24
        refine br_f hlt (rd_y_ln iH (br_f hz (rd_y_ln iH ⟨hi6, ?_⟩)))
        rw [nI_clamp (by omega)]
        refine nm_r (e' := nI (MK (rd_ln HE))) rfl ⟨by decide, by decide, nm_r (rd_y_kd hD hs) ?_⟩
        have k93 : ∀ (W : Nat → Int32) (v : Nat), v = rd_rv HE MK B (rd_ln HE) (MK (rd_ln HE)) → W = rd_oa HE MK B (MK (rd_ln HE)) WO → wY_rebuild_93 post (wY_rebuild_24 post (nI n) f) (nI n) (nI i) (nI (rd_ln HE)) (nI (MK (rd_ln HE))) (nI v) (nI dl) cr (nI nx) bd dn (nI w) (nI nb) (nI nm) (rd_nF B) (rd_nF HE) (rd_nF MK) (rd_vF VT) (rd_on MP) (rd_nF WM) (rd_nF WV) (rd_nt n0 n1 n2) W := by
          intro W v ev' eW
          subst ev' eW
          unfold wY_rebuild_93
          have e0 : (0 : Int32) = nI 0 := rfl
          rw [rd_16, nI_clamp (n := 16 * rd_ln HE + MK (rd_ln HE)) (by omega), nI_clamp (n := rd_ln HE) (by omega), rd_upN, em', e0, rd_upN]
          refine ⟨hc96, nm_e ⟨hi6, hi6, nm_e ⟨hi6, ?_⟩⟩⟩
          rw [ev]
          refine pk_eq (MK (rd_ln HE) + 1) 16 (fun z => ⟨hi6, nm_e (nm_r (nI_1 i) ?_)⟩) (fun z => nm_r (nI_1 i) ?_)
          · exact H.1 z
          · exact H.2 z
        refine rd_y_lost iH iK hs (rd_brb _ rfl (fun hl => ?_) (fun hl => ?_))
        · refine rd_y_weigh iB iH iK hs hl ⟨vp_in_nI hk6 (by omega), ?_⟩
          rw [nI_clamp (by omega), rd_nv hk6]
          refine nm_e (k93 _ _ ?_ ?_)
          · exact (if_neg (by rw [hl]; decide)).symm
          · exact (if_neg (by rw [hl]; decide)).symm
        · exact k93 _ 0 (if_pos hl).symm (if_pos hl).symm
theorem i_vc_rebuild {k : Nat} {u : SX} {v : SY} (I : i_Rel k u v) (hk : k + 4 ≤ 2048) (v1 : Int32) : wpX_rebuild (fun r u' => wpY_rebuild (fun r' v' => r' = r ∧ i_Rel (k + 4) u' v') v v1) u v1 := by
  refine rd_el (P := fun u v => wpX_rebuild (fun r u' => wpY_rebuild (fun r' v' => r' = r ∧ i_Rel (k + 4) u' v') v v1) u v1) ?_ I
  clear I u v
  intro dl w nx nb nm n0 n1 n2 cr bd dn B HE MK VT MP WM WV DA WO I
  refine rd_fin (PX := fun post => wpX_rebuild post (nI (rd_k VT 6), lN (rd_k (rd_fz MP) 64), nI (rd_c (rd_sh MP) 64), cr, nI nx, bd, dn, nI nm, nI nb, nI n0, nI n1, nI n2, nI w, nI dl, rd_bF B, rd_nF HE, rd_nF MK, rd_th HE MK, rd_PW, rd_PL, rd_nF MP, rd_uF MP, DA, rd_nF WM, rd_nF WV) v1) (PY := fun post => wpY_rebuild post (nI dl, cr, nI nx, bd, dn, nI w, nI nb, nI nm, rd_nF B, rd_nF HE, rd_nF MK, rd_vF VT, rd_on MP, rd_nF WM, rd_nF WV, rd_nt n0 n1 n2, WO) v1) ?_
  by_cases hd : dn = 0
  case neg => exact ⟨-4, (nI (rd_k VT 6), lN (rd_k (rd_fz MP) 64), nI (rd_c (rd_sh MP) 64), cr, nI nx, bd, dn, nI nm, nI nb, nI n0, nI n1, nI n2, nI w, nI dl, rd_bF B, rd_nF HE, rd_nF MK, rd_th HE MK, rd_PW, rd_PL, rd_nF MP, rd_uF MP, DA, rd_nF WM, rd_nF WV), (nI dl, cr, nI nx, bd, dn, nI w, nI nb, nI nm, rd_nF B, rd_nF HE, rd_nF MK, rd_vF VT, rd_on MP, rd_nF WM, rd_nF WV, rd_nt n0 n1 n2, WO), rd_mk I, fun post hp => br_f hd hp, fun post hp => br_f hd hp⟩
  by_cases h0 : v1 < 1
  · exact ⟨-1, (nI (rd_k VT 6), lN (rd_k (rd_fz MP) 64), nI (rd_c (rd_sh MP) 64), cr, nI nx, bd, dn, nI nm, nI nb, nI n0, nI n1, nI n2, nI w, nI dl, rd_bF B, rd_nF HE, rd_nF MK, rd_th HE MK, rd_PW, rd_PL, rd_nF MP, rd_uF MP, DA, rd_nF WM, rd_nF WV), (nI dl, cr, nI nx, bd, dn, nI w, nI nb, nI nm, rd_nF B, rd_nF HE, rd_nF MK, rd_vF VT, rd_on MP, rd_nF WM, rd_nF WV, rd_nt n0 n1 n2, WO), rd_mk I, fun post hp => br_t hd (br_t h0 hp), fun post hp => br_t hd (rd_in_lo h0 (br_t rfl hp))⟩
  by_cases h6 : v1 ≤ 16
  · have hn0 : ¬ v1 < 0 := fun z => h0 (Int32.lt_trans z (by decide))
    obtain ⟨j, hj, rfl⟩ := nI_of2 (M := 16) (n := 16) (by decide) hn0 h6
    have iH := I.2.2.2.2.2.1
    obtain ⟨r, u', v', hR, hX, hY⟩ := rd_jr hj j 0 dl w nx nb nm n0 n1 n2 cr bd dn B HE MK VT MP WM WV DA WO I (by omega)
    exact ⟨r, u', v', hR _, fun post hp => br_t hd (br_f h0 (br_t h6 (rd_x_ln iH ⟨j + 1, hX post (j + 1) (by omega) hp⟩))), fun post hp => br_t hd (rd_in_ok h0 (Int32.not_lt.mpr h6) (br_f (by decide) ⟨j + 1, hY post (j + 1) (by omega) hp⟩))⟩
  · exact ⟨-1, (nI (rd_k VT 6), lN (rd_k (rd_fz MP) 64), nI (rd_c (rd_sh MP) 64), cr, nI nx, bd, dn, nI nm, nI nb, nI n0, nI n1, nI n2, nI w, nI dl, rd_bF B, rd_nF HE, rd_nF MK, rd_th HE MK, rd_PW, rd_PL, rd_nF MP, rd_uF MP, DA, rd_nF WM, rd_nF WV), (nI dl, cr, nI nx, bd, dn, nI w, nI nb, nI nm, rd_nF B, rd_nF HE, rd_nF MK, rd_vF VT, rd_on MP, rd_nF WM, rd_nF WV, rd_nt n0 n1 n2, WO), rd_mk I, fun post hp => br_t hd (br_f h0 (br_f h6 hp)), fun post hp => br_t hd (rd_in_hi h0 (Int32.not_le.mp h6) (br_t rfl hp))⟩
end
section
/-! scrub -/
def rd_wk (p q : Nat) : Nat := (rd_lg q + 255 - rd_lg p) % 255
section
variable {HE MK : Nat → Nat} {s : Nat}
theorem rd_all_ls (h : ∀ k, k < 6 → rd_hs HE MK s k = true) : rd_ls HE MK s = false := by
  have e : rd_c (fun k => !rd_hs HE MK s k) 6 = 0 := rd_c_z.mpr (fun k hk => by rw [h k hk]; rfl)
  unfold rd_ls
  rw [e]; rfl
theorem rd_all_63 : rd_k (fun d => rd_isT HE MK d s) 6 = 63 ↔ ∀ k, k < 6 → rd_hs HE MK s k = true :=
  (rd_k_f (p := fun d => rd_isT HE MK d s) (n := 6)).trans (rd_all6 (g := fun d => rd_isT HE MK d s) (s := s)).symm
end
section
variable {f_volumes : Int32} {f_free : Int64} {f_shared : Int32} {f_crashAfter : Int32} {f_next : Int32} {f_bad : Int32} {f_down : Int32} {f_noteMap : Int32} {f_noteBlock : Int32} {f_noteData : Int32} {f_noteP : Int32} {f_noteQ : Int32} {f_waiting : Int32} {f_delay : Int32} {a_disk : Nat → Int32} {a_health : Nat → Int32} {a_mark : Nat → Int32} {a_there : Nat → Int32} {a_power : Nat → Int32} {a_place : Nat → Int32} {a_map : Nat → Int32} {a_uses : Nat → Int32} {a_data : Nat → Int32} {a_waitMap : Nat → Int32} {a_waitValue : Nat → Int32}
variable {HE MK B : Nat → Nat} {s p q : Nat}
theorem rd_x_m105 {post : Int32 → SX → Prop} {k : Nat} (hB : ∀ j, B j < 256) (hs : s < 16) (hk : k < 6) (hall : ∀ k, k < 6 → rd_hs HE MK s k = true) (hp : post 1 (f_volumes, f_free, f_shared, f_crashAfter, f_next, f_bad, f_down, f_noteMap, f_noteBlock, f_noteData, f_noteP, f_noteQ, f_waiting, f_delay, rd_bF (rd_u B (rd_cel s k) (B (rd_cel s k) ^^^ if k = 5 then q else p)), a_health, a_mark, rd_th HE MK, a_power, a_place, a_map, a_uses, a_data, a_waitMap, a_waitValue)) : wX_mended_105 post (nI s) (nI p) (nI q) (nI k) f_volumes f_free f_shared f_crashAfter f_next f_bad f_down f_noteMap f_noteBlock f_noteData f_noteP f_noteQ f_waiting f_delay (rd_bF B) a_health a_mark (rd_th HE MK) a_power a_place a_map a_uses a_data a_waitMap a_waitValue := by
  have k123 : ∀ z v : Nat, v = B (rd_cel s k) ^^^ z → z = (if k = 5 then q else p) → wX_mended_123 post (nI s) (nI k) (nI z) (nI (B (rd_cel s k))) f_volumes f_free f_shared f_crashAfter f_next f_bad f_down f_noteMap f_noteBlock f_noteData f_noteP f_noteQ f_waiting f_delay (rd_bF B) a_health a_mark (rd_th HE MK) a_power a_place a_map a_uses a_data a_waitMap a_waitValue := by
    intro z v ev ez
    unfold wX_mended_123
    rw [nx_xor]
    refine nm_e (rd_x_put hs hk ?_)
    rw [show rd_pB HE MK B s k (B (rd_cel s k) ^^^ z) = rd_u B (rd_cel s k) (B (rd_cel s k) ^^^ z) from if_pos (hall k hk), ez]
    exact hp
  unfold wX_mended_105
  refine rd_x_at hB hs hk (pk_eq k 5 (fun e => k123 q _ rfl (if_pos e).symm) (fun e => k123 p _ rfl (if_neg e).symm))
theorem rd_x_m79 {post : Int32 → SX → Prop} {k : Nat} (hp2 : p < 256) (hq2 : q < 256) (hk2 : k < 255) (h1 : (k ≤ 3 ∨ p = 0 ∨ q = 0) → wX_mended_105 post (nI s) (nI p) (nI q) (nI k) f_volumes f_free f_shared f_crashAfter f_next f_bad f_down f_noteMap f_noteBlock f_noteData f_noteP f_noteQ f_waiting f_delay a_disk a_health a_mark a_there a_power a_place a_map a_uses a_data a_waitMap a_waitValue) (h2 : ¬ (k ≤ 3 ∨ p = 0 ∨ q = 0) → post 0 (f_volumes, f_free, f_shared, f_crashAfter, f_next, f_bad + 1, f_down, f_noteMap, f_noteBlock, f_noteData, f_noteP, f_noteQ, f_waiting, f_delay, a_disk, a_health, a_mark, a_there, a_power, a_place, a_map, a_uses, a_data, a_waitMap, a_waitValue)) : wX_mended_79 post (nI s) (nI p) (nI q) (nI k) f_volumes f_free f_shared f_crashAfter f_next f_bad f_down f_noteMap f_noteBlock f_noteData f_noteP f_noteQ f_waiting f_delay a_disk a_health a_mark a_there a_power a_place a_map a_uses a_data a_waitMap a_waitValue := by
  unfold wX_mended_79
  exact pk_le k 3 (fun a => h1 (Or.inl a)) (fun a => pk_eq p 0 (fun b => h1 (Or.inr (Or.inl b))) (fun b => pk_eq q 0 (fun c => h1 (Or.inr (Or.inr c))) (fun c => nm_e (h2 (by omega)))))
theorem rd_x_m39 {post : Int32 → SX → Prop} (hp2 : p < 256) (hq2 : q < 256) (h5 : p = 0 → wX_mended_79 post (nI s) (nI p) (nI q) (nI 5) f_volumes f_free f_shared f_crashAfter f_next f_bad f_down f_noteMap f_noteBlock f_noteData f_noteP f_noteQ f_waiting f_delay a_disk a_health a_mark a_there a_power rd_PL a_map a_uses a_data a_waitMap a_waitValue) (h4 : ¬ p = 0 → q = 0 → wX_mended_79 post (nI s) (nI p) (nI q) (nI 4) f_volumes f_free f_shared f_crashAfter f_next f_bad f_down f_noteMap f_noteBlock f_noteData f_noteP f_noteQ f_waiting f_delay a_disk a_health a_mark a_there a_power rd_PL a_map a_uses a_data a_waitMap a_waitValue) (hw : ¬ p = 0 → ¬ q = 0 → wX_mended_79 post (nI s) (nI p) (nI q) (nI (rd_wk p q)) f_volumes f_free f_shared f_crashAfter f_next f_bad f_down f_noteMap f_noteBlock f_noteData f_noteP f_noteQ f_waiting f_delay a_disk a_health a_mark a_there a_power rd_PL a_map a_uses a_data a_waitMap a_waitValue) : wX_mended_39 post (nI s) (nI p) (nI q) f_volumes f_free f_shared f_crashAfter f_next f_bad f_down f_noteMap f_noteBlock f_noteData f_noteP f_noteQ f_waiting f_delay a_disk a_health a_mark a_there a_power rd_PL a_map a_uses a_data a_waitMap a_waitValue := by
  unfold wX_mended_39
  refine pk_eq p 0 (fun a => h5 a) (fun a => pk_eq q 0 (fun b => h4 a b) (fun b => ⟨vp_in_nI hq2 (by omega), vp_in_nI hp2 (by omega), by decide, ?_⟩))
  have l1 := (rd_lg_r p hp2 (by omega)).1
  have l2 := (rd_lg_r q hq2 (by omega)).1
  have e : rd_PL (nI q).toNatClampNeg + 255 - rd_PL (nI p).toNatClampNeg = nI (rd_lg q + 255 - rd_lg p) := by
    rw [nI_clamp (by omega), nI_clamp (by omega), rd_PLv (by omega) hq2, rd_PLv (by omega) hp2]
    have : nI (rd_lg q) + 255 = nI (rd_lg q + 255) := nI_add _ 255
    rw [this, pk_sub (by omega)]
  have e2 : nI (rd_lg q + 255 - rd_lg p) - nI (rd_lg q + 255 - rd_lg p) / 255 * 255 = nI (rd_wk p q) := pk_rem (d := 255) (by omega) (by decide) (by decide)
  rw [e, e2]
  exact nm_e (hw a b)
/-- X on a whole stripe -/
theorem rd_x_mend {post : Int32 → SX → Prop} (hB : ∀ j, B j < 256) (hs : s < 16) (hall : ∀ k, k < 6 → rd_hs HE MK s k = true) (ep : p = B (rd_cel s 4) ^^^ rd_sz (rd_wv HE MK B s) 4) (eq : q = B (rd_cel s 5) ^^^ rd_wz (rd_wv HE MK B s) 4)
    (h0 : p = 0 → q = 0 → post 0 (f_volumes, f_free, f_shared, f_crashAfter, f_next, f_bad, f_down, f_noteMap, f_noteBlock, f_noteData, f_noteP, f_noteQ, f_waiting, f_delay, rd_bF B, a_health, a_mark, rd_th HE MK, rd_PW, rd_PL, a_map, a_uses, rd_4 (rd_wv HE MK B s) a_data, a_waitMap, a_waitValue))
    (hk : ∀ k, k < 6 → (k = 5 → p = 0 ∧ ¬ q = 0) → (k = 4 → ¬ p = 0 ∧ q = 0) → (k < 4 → ¬ p = 0 ∧ ¬ q = 0 ∧ rd_wk p q = k) → post 1 (f_volumes, f_free, f_shared, f_crashAfter, f_next, f_bad, f_down, f_noteMap, f_noteBlock, f_noteData, f_noteP, f_noteQ, f_waiting, f_delay, rd_bF (rd_u B (rd_cel s k) (B (rd_cel s k) ^^^ if k = 5 then q else p)), a_health, a_mark, rd_th HE MK, rd_PW, rd_PL, a_map, a_uses, rd_4 (rd_wv HE MK B s) a_data, a_waitMap, a_waitValue))
    (hb : ¬ p = 0 → ¬ q = 0 → ¬ rd_wk p q < 4 → post 0 (f_volumes, f_free, f_shared, f_crashAfter, f_next, f_bad + 1, f_down, f_noteMap, f_noteBlock, f_noteData, f_noteP, f_noteQ, f_waiting, f_delay, rd_bF B, a_health, a_mark, rd_th HE MK, rd_PW, rd_PL, a_map, a_uses, rd_4 (rd_wv HE MK B s) a_data, a_waitMap, a_waitValue)) :
    wpX_mended post (f_volumes, f_free, f_shared, f_crashAfter, f_next, f_bad, f_down, f_noteMap, f_noteBlock, f_noteData, f_noteP, f_noteQ, f_waiting, f_delay, rd_bF B, a_health, a_mark, rd_th HE MK, rd_PW, rd_PL, a_map, a_uses, a_data, a_waitMap, a_waitValue) (nI s) := by
  have hf := rd_wv_lt (HE := HE) (MK := MK) (s := s) hB
  have hp2 : p < 256 := by rw [ep]; exact rd_xl (hB _) (rd_sz_lt hf 4)
  have hq2 : q < 256 := by rw [eq]; exact rd_xl (hB _) (rd_wz_lt hf 4)
  unfold wpX_mended
  dsimp only
  refine rd_x_gather hB hs (rd_all_ls hall) ?_
  dsimp only
  refine rd_x_at hB hs (by decide) (rd_x_sum (rd_wv HE MK B s) ?_)
  rw [nx_xor, ← ep]
  refine nm_e (rd_x_at hB hs (by decide) (rd_x_wei (f := rd_wv HE MK B s) (fun k _ => hf k) ?_))
  rw [nx_xor, ← eq]
  have m39 : ¬ (p = 0 ∧ q = 0) → wX_mended_39 post (nI s) (nI p) (nI q) f_volumes f_free f_shared f_crashAfter f_next f_bad f_down f_noteMap f_noteBlock f_noteData f_noteP f_noteQ f_waiting f_delay (rd_bF B) a_health a_mark (rd_th HE MK) rd_PW rd_PL a_map a_uses (rd_4 (rd_wv HE MK B s) a_data) a_waitMap a_waitValue := by
    intro hn
    refine rd_x_m39 hp2 hq2 (fun a => ?_) (fun a b => ?_) (fun a b => ?_)
    · refine rd_x_m79 hp2 hq2 (by decide) (fun _ => rd_x_m105 hB hs (by decide) hall (hk 5 (by decide) (fun _ => ⟨a, fun z => hn ⟨a, z⟩⟩) (fun z => by omega) (fun z => by omega))) (fun z => absurd (Or.inr (Or.inl a)) z)
    · refine rd_x_m79 hp2 hq2 (by decide) (fun _ => rd_x_m105 hB hs (by decide) hall (hk 4 (by decide) (fun z => by omega) (fun _ => ⟨a, b⟩) (fun z => by omega))) (fun z => absurd (Or.inr (Or.inr b)) z)
    · have hw255 : rd_wk p q < 255 := Nat.mod_lt _ (by decide)
      refine rd_x_m79 hp2 hq2 hw255 (fun z => ?_) (fun z => hb a b (by omega))
      have hw4 : rd_wk p q < 4 := by omega
      exact rd_x_m105 hB hs (by omega) hall (hk (rd_wk p q) (by omega) (fun z => by omega) (fun z => by omega) (fun _ => ⟨a, b, rfl⟩))
  refine nm_e (pk_eq p 0 (fun a => pk_eq q 0 (fun b => h0 a b) (fun b => m39 (fun z => b z.2))) (fun a => m39 (fun z => a z.1)))
end
section
variable {f_delay : Int32} {f_crash : Int32} {f_cursor : Int32} {f_bad : Int32} {f_down : Int32} {f_waiting : Int32} {f_noteBlock : Int32} {f_noteFor : Int32} {a_bytes : Nat → Int32} {a_health : Nat → Int32} {a_mark : Nat → Int32} {a_there : Nat → Int32} {a_on : Nat → Int32} {a_waitsFor : Nat → Int32} {a_waits : Nat → Int32} {a_note : Nat → Int32} {a_worth : Nat → Int32}
variable {HE MK B : Nat → Nat} {s p q : Nat}
theorem rd_y_m121 {post : Int32 → SY → Prop} {k : Nat} (hs : s < 16) (hk : k < 6) (hp : post 1 (f_delay, f_crash, f_cursor, f_bad, f_down, f_waiting, f_noteBlock, f_noteFor, rd_nF (rd_u B (rd_cel s k) (B (rd_cel s k) ^^^ if k = 5 then q else p)), a_health, a_mark, a_there, a_on, a_waitsFor, a_waits, a_note, a_worth)) : wY_mends_121 post (nI s) (nI p) (nI q) (nI k) f_delay f_crash f_cursor f_bad f_down f_waiting f_noteBlock f_noteFor (rd_nF B) a_health a_mark a_there a_on a_waitsFor a_waits a_note a_worth := by
  have hc := rd_cel_lt (k := k) hs
  have hi : vp_in (nI (rd_cel s k)) 96 := vp_in_nI hc (by omega)
  have k162 : ∀ z : Nat, z = (if k = 5 then q else p) → wY_mends_162 post (nI k) (nI z) (nI (B (rd_cel s k))) (nI (rd_cel s k)) f_delay f_crash f_cursor f_bad f_down f_waiting f_noteBlock f_noteFor (rd_nF B) a_health a_mark a_there a_on a_waitsFor a_waits a_note a_worth := by
    intro z ez
    unfold wY_mends_162
    refine ⟨hi, ?_⟩
    rw [nI_clamp (by omega), nx_xor, rd_upN, ez]
    refine nm_e ?_
    unfold wY_mends_164
    exact br_f (nI_pos (by omega)) hp
  unfold wY_mends_121
  refine br_t (nI_pos' (by omega)) (rd_y_cell hs hk ⟨hi, ?_⟩)
  rw [nI_clamp (by omega)]
  exact pk_eq k 5 (fun e => k162 q (if_pos e).symm) (fun e => k162 p (if_neg e).symm)
theorem rd_y_m121b {post : Int32 → SY → Prop} {x1 x2 x3 : Int32} (hp : post 0 (f_delay, f_crash, f_cursor, f_bad + 1, f_down, f_waiting, f_noteBlock, f_noteFor, a_bytes, a_health, a_mark, a_there, a_on, a_waitsFor, a_waits, a_note, a_worth)) : wY_mends_121 post x1 x2 x3 (-1) f_delay f_crash f_cursor f_bad f_down f_waiting f_noteBlock f_noteFor a_bytes a_health a_mark a_there a_on a_waitsFor a_waits a_note a_worth := by
  unfold wY_mends_121
  refine br_f (by decide) (nm_e ?_)
  unfold wY_mends_164
  exact br_t (by decide) hp
theorem rd_y_m90 {post : Int32 → SY → Prop} {x1 : Int32} (hp2 : p < 256) (hp0 : 0 < p) (hq2 : q < 256) (hq0 : 0 < q) (H : wY_mends_121 post x1 (nI p) (nI q) (if rd_wk p q < 4 then nI (rd_wk p q) else -1) f_delay f_crash f_cursor f_bad f_down f_waiting f_noteBlock f_noteFor a_bytes a_health a_mark a_there a_on a_waitsFor a_waits a_note a_worth) : ∀ (d i n : Nat) (x4 : Int32), i + d = 4 → d < n → x4 = (if rd_wk p q < i then nI (rd_wk p q) else -1) → wY_mends_90 post x1 (nI p) (nI q) f_delay f_crash f_cursor f_bad f_down f_waiting f_noteBlock f_noteFor a_bytes a_health a_mark a_there a_on a_waitsFor a_waits a_note a_worth n x4 (nI i)
  | _, _, 0, _, _, h, _ => by omega
  | 0, i, n + 1, x4, h, _, e => by
    have : i = 4 := by omega
    subst this
    rw [← e] at H
    unfold wY_mends_90
    exact br_t (by decide) H
  | d + 1, i, n + 1, x4, h, hn, e => by
    have ih := rd_y_m90 hp2 hp0 hq2 hq0 H d (i + 1) n
    have hw := rd_which (k := i) hp2 hp0 hq2 hq0 (by omega)
    have hw : rd_m i p = q ↔ rd_wk p q = i := hw
    have hw255 : rd_wk p q < 255 := Nat.mod_lt _ (by decide)
    unfold wY_mends_90
    refine br_f (nI_ge (b := 4) (by omega) (by decide)) ?_
    by_cases z : rd_wk p q < i
    · rw [if_pos z] at e
      subst e
      refine br_t (nI_pos' (by omega)) (nm_r (nI_1 i) (ih _ (by omega) (by omega) ?_))
      rw [if_pos (by omega)]
    · rw [if_neg z] at e
      subst e
      have hm := rd_m_l hp2 i
      refine br_f (by decide) (rd_y_prod hp2 (by omega) (pk_eq (rd_m i p) q (fun y => nm_r (nI_1 i) (ih _ (by omega) (by omega) ?_)) (fun y => nm_r (nI_1 i) (ih _ (by omega) (by omega) ?_))))
      · have := hw.mp y
        rw [if_pos (by omega), this]
      · have : ¬ rd_wk p q = i := fun c => y (hw.mpr c)
        rw [if_neg (by omega)]
theorem rd_y_m2n {post : Int32 → SY → Prop} (hH : ∀ d, HE d ≤ 2) (hM : ∀ d, MK d ≤ 16) (hs : s < 16) (hp : post 0 (f_delay, f_crash, f_cursor, f_bad, f_down, f_waiting, f_noteBlock, f_noteFor, a_bytes, rd_nF HE, rd_nF MK, a_there, a_on, a_waitsFor, a_waits, a_note, a_worth)) : ∀ (d i n : Nat), i + d = 6 → d ≤ n → (∃ k, i ≤ k ∧ k < 6 ∧ rd_hs HE MK s k = false) → wY_mends_2 post (nI s) f_delay f_crash f_cursor f_bad f_down f_waiting f_noteBlock f_noteFor a_bytes (rd_nF HE) (rd_nF MK) a_there a_on a_waitsFor a_waits a_note a_worth n (nI i)
  | 0, i, n, h, _, ⟨k, h1, h2, _⟩ => by omega
  | d + 1, i, 0, h, hn, _ => by omega
  | d + 1, i, n + 1, h, hn, ⟨k, h1, h2, h3⟩ => by
    unfold wY_mends_2
    refine br_f (nI_ge (b := 6) (by omega) (by decide)) (rd_y_has hH hM hs (by omega) (rd_brb _ rfl (fun e => hp) (fun e => nm_r (nI_1 i) ?_)))
    refine rd_y_m2n hH hM hs hp d (i + 1) n (by omega) (by omega) ⟨k, ?_, h2, h3⟩
    rcases Nat.lt_or_ge i k with z | z
    · exact z
    · have : i = k := by omega
      subst this
      rw [e] at h3; cases h3
theorem rd_y_m2a {post : Int32 → SY → Prop} (hH : ∀ d, HE d ≤ 2) (hM : ∀ d, MK d ≤ 16) (hs : s < 16) (hall : ∀ k, k < 6 → rd_hs HE MK s k = true) (HX : ∀ n, wY_mends_2 post (nI s) f_delay f_crash f_cursor f_bad f_down f_waiting f_noteBlock f_noteFor a_bytes (rd_nF HE) (rd_nF MK) a_there a_on a_waitsFor a_waits a_note a_worth (n + 1) (nI 6)) : ∀ (d i n : Nat), i + d = 6 → d < n → wY_mends_2 post (nI s) f_delay f_crash f_cursor f_bad f_down f_waiting f_noteBlock f_noteFor a_bytes (rd_nF HE) (rd_nF MK) a_there a_on a_waitsFor a_waits a_note a_worth n (nI i)
  | _, _, 0, _, h => by omega
  | 0, i, n + 1, h, _ => by
    have : i = 6 := by omega
    subst this
    exact HX n
  | d + 1, i, n + 1, h, hn => by
    unfold wY_mends_2
    refine br_f (nI_ge (b := 6) (by omega) (by decide)) (rd_y_has hH hM hs (by omega) ?_)
    rw [hall i (by omega)]
    exact br_f (by decide) (nm_r (nI_1 i) (rd_y_m2a hH hM hs hall HX d (i + 1) n (by omega) (by omega)))
/-- Y on a whole stripe -/
theorem rd_y_mend {post : Int32 → SY → Prop} (hB : ∀ j, B j < 256) (hH : ∀ d, HE d ≤ 2) (hM : ∀ d, MK d ≤ 16) (hs : s < 16) (hall : ∀ k, k < 6 → rd_hs HE MK s k = true) (ep : p = B (rd_cel s 4) ^^^ rd_sz (rd_wv HE MK B s) 4) (eq : q = B (rd_cel s 5) ^^^ rd_wz (rd_wv HE MK B s) 4)
    (h0 : p = 0 → q = 0 → post 0 (f_delay, f_crash, f_cursor, f_bad, f_down, f_waiting, f_noteBlock, f_noteFor, rd_nF B, rd_nF HE, rd_nF MK, a_there, a_on, a_waitsFor, a_waits, a_note, rd_n (rd_F6 HE MK B s (rd_wv HE MK B s)) 6 a_worth))
    (hk : ∀ k, k < 6 → (k = 5 → p = 0 ∧ ¬ q = 0) → (k = 4 → ¬ p = 0 ∧ q = 0) → (k < 4 → ¬ p = 0 ∧ ¬ q = 0 ∧ rd_wk p q = k) → post 1 (f_delay, f_crash, f_cursor, f_bad, f_down, f_waiting, f_noteBlock, f_noteFor, rd_nF (rd_u B (rd_cel s k) (B (rd_cel s k) ^^^ if k = 5 then q else p)), rd_nF HE, rd_nF MK, a_there, a_on, a_waitsFor, a_waits, a_note, rd_n (rd_F6 HE MK B s (rd_wv HE MK B s)) 6 a_worth))
    (hb : ¬ p = 0 → ¬ q = 0 → ¬ rd_wk p q < 4 → post 0 (f_delay, f_crash, f_cursor, f_bad + 1, f_down, f_waiting, f_noteBlock, f_noteFor, rd_nF B, rd_nF HE, rd_nF MK, a_there, a_on, a_waitsFor, a_waits, a_note, rd_n (rd_F6 HE MK B s (rd_wv HE MK B s)) 6 a_worth)) :
    wpY_mends post (f_delay, f_crash, f_cursor, f_bad, f_down, f_waiting, f_noteBlock, f_noteFor, rd_nF B, rd_nF HE, rd_nF MK, a_there, a_on, a_waitsFor, a_waits, a_note, a_worth) (nI s) := by
  have hf := rd_wv_lt (HE := HE) (MK := MK) (s := s) hB
  have hp2 : p < 256 := by rw [ep]; exact rd_xl (hB _) (rd_sz_lt hf 4)
  have hq2 : q < 256 := by rw [eq]; exact rd_xl (hB _) (rd_wz_lt hf 4)
  have hw : ∀ k, k < 4 → rd_n (rd_F6 HE MK B s (rd_wv HE MK B s)) 6 a_worth k = nI (rd_wv HE MK B s k) := by
    intro k hk
    rw [rd_nv (by omega)]
    congr 1
    exact if_pos hk
  have w4 : rd_n (rd_F6 HE MK B s (rd_wv HE MK B s)) 6 a_worth 4 = nI (B (rd_cel s 4)) := by
    rw [rd_nv (by decide)]
    congr 1
    unfold rd_F6
    rw [if_neg (by decide), if_pos rfl, if_pos (hall 4 (by decide))]
  have w5 : rd_n (rd_F6 HE MK B s (rd_wv HE MK B s)) 6 a_worth 5 = nI (B (rd_cel s 5)) := by
    rw [rd_nv (by decide)]
    congr 1
    unfold rd_F6
    rw [if_neg (by decide), if_neg (by decide), if_pos (hall 5 (by decide))]
  unfold wpY_mends
  dsimp only
  refine ⟨7, rd_y_m2a hH hM hs hall (fun n => ?_) 6 0 7 rfl (by decide)⟩
  unfold wY_mends_2
  refine br_t (by decide) (rd_y_weigh hB hH hM hs (rd_all_ls hall) ?_)
  dsimp only
  refine rd_y_sum (rd_wv HE MK B s) hw ?_
  rw [w4, nx_xor, ← ep]
  refine nm_e (rd_y_sop (rd_wv HE MK B s) (fun k _ => hf k) hw ?_)
  rw [w5, nx_xor, ← eq]
  have m67 : ¬ (p = 0 ∧ q = 0) → wY_mends_67 post (nI s) (nI p) (nI q) (-1) f_delay f_crash f_cursor f_bad f_down f_waiting f_noteBlock f_noteFor (rd_nF B) (rd_nF HE) (rd_nF MK) a_there a_on a_waitsFor a_waits a_note (rd_n (rd_F6 HE MK B s (rd_wv HE MK B s)) 6 a_worth) := by
    intro hn
    unfold wY_mends_67
    refine pk_eq q 0 (fun b => ?_) (fun b => pk_eq p 0 (fun a => ?_) (fun a => ⟨5, ?_⟩))
    · exact rd_y_m121 (k := 4) hs (by decide) (hk 4 (by decide) (fun z => by omega) (fun _ => ⟨fun z => hn ⟨z, b⟩, b⟩) (fun z => by omega))
    · exact rd_y_m121 (k := 5) hs (by decide) (hk 5 (by decide) (fun _ => ⟨a, b⟩) (fun z => by omega) (fun z => by omega))
    · refine rd_y_m90 hp2 (by omega) hq2 (by omega) ?_ 4 0 5 _ rfl (by decide) (if_neg (by omega)).symm
      by_cases w4 : rd_wk p q < 4
      · rw [if_pos w4]
        exact rd_y_m121 (k := rd_wk p q) hs (by omega) (hk _ (by omega) (fun z => by omega) (fun z => by omega) (fun _ => ⟨a, b, rfl⟩))
      · rw [if_neg w4]
        exact rd_y_m121b (hb a b w4)
  refine nm_e (pk_eq p 0 (fun a => pk_eq q 0 (fun b => h0 a b) (fun b => m67 (fun z => b z.2))) (fun a => m67 (fun z => a z.1)))
end
section
variable {dl w nx nb nm n0 n1 n2 : Nat} {cr bd dn : Int32} {B HE MK : Nat → Nat} {VT : Nat → Bool} {MP WM WV : Nat → Nat} {DA WO : Nat → Int32}
theorem rd_j1 (I : rd_I dl w nx nb nm n0 n1 n2 cr dn B HE MK VT MP WM WV) : ∃ (b : Bool) (bd' : Int32) (B' : Nat → Nat) (DA' WO' : Nat → Int32), (∀ j, B' j < 256) ∧
    (∀ post : Int32 → SX → Prop, post (rd_b b) (nI (rd_k VT 6), lN (rd_k (rd_fz MP) 64), nI (rd_c (rd_sh MP) 64), cr, nI nx, bd', dn, nI nm, nI nb, nI n0, nI n1, nI n2, nI w, nI dl, rd_bF B', rd_nF HE, rd_nF MK, rd_th HE MK, rd_PW, rd_PL, rd_nF MP, rd_uF MP, DA', rd_nF WM, rd_nF WV) → (rd_th HE MK (nI nx).toNatClampNeg = 63 → wpX_mended post (nI (rd_k VT 6), lN (rd_k (rd_fz MP) 64), nI (rd_c (rd_sh MP) 64), cr, nI nx, bd, dn, nI nm, nI nb, nI n0, nI n1, nI n2, nI w, nI dl, rd_bF B, rd_nF HE, rd_nF MK, rd_th HE MK, rd_PW, rd_PL, rd_nF MP, rd_uF MP, DA, rd_nF WM, rd_nF WV) (nI nx)) ∧ (¬ rd_th HE MK (nI nx).toNatClampNeg = 63 → post 0 (nI (rd_k VT 6), lN (rd_k (rd_fz MP) 64), nI (rd_c (rd_sh MP) 64), cr, nI nx, bd, dn, nI nm, nI nb, nI n0, nI n1, nI n2, nI w, nI dl, rd_bF B, rd_nF HE, rd_nF MK, rd_th HE MK, rd_PW, rd_PL, rd_nF MP, rd_uF MP, DA, rd_nF WM, rd_nF WV))) ∧
    (∀ post : Int32 → SY → Prop, post (rd_b b) (nI dl, cr, nI nx, bd', dn, nI w, nI nb, nI nm, rd_nF B', rd_nF HE, rd_nF MK, rd_vF VT, rd_on MP, rd_nF WM, rd_nF WV, rd_nt n0 n1 n2, WO') → wpY_mends post (nI dl, cr, nI nx, bd, dn, nI w, nI nb, nI nm, rd_nF B, rd_nF HE, rd_nF MK, rd_vF VT, rd_on MP, rd_nF WM, rd_nF WV, rd_nt n0 n1 n2, WO) (nI nx)) := by
  obtain ⟨⟨i1, i2, i3⟩, i4, i9, i10, iB, iH, iK, iK2, iM, iV, iW, iX, iY⟩ := I
  have hl := rd_k_lt (fun d => rd_isT HE MK d nx) 6
  rw [rd_th_v i3]
  have h63 : nI (rd_k (fun d => rd_isT HE MK d nx) 6) = 63 ↔ rd_k (fun d => rd_isT HE MK d nx) 6 = 63 := nI_eq (b := 63) (by omega) (by decide)
  by_cases hall : ∀ k, k < 6 → rd_hs HE MK nx k = true
  · have ht : nI (rd_k (fun d => rd_isT HE MK d nx) 6) = 63 := h63.mpr (rd_all_63.mpr hall)
    obtain ⟨p, ep⟩ : ∃ p, p = B (rd_cel nx 4) ^^^ rd_sz (rd_wv HE MK B nx) 4 := ⟨_, rfl⟩
    obtain ⟨q, eq⟩ : ∃ q, q = B (rd_cel nx 5) ^^^ rd_wz (rd_wv HE MK B nx) 4 := ⟨_, rfl⟩
    have hf := rd_wv_lt (HE := HE) (MK := MK) (s := nx) iB
    have hp2 : p < 256 := by rw [ep]; exact rd_xl (iB _) (rd_sz_lt hf 4)
    have hq2 : q < 256 := by rw [eq]; exact rd_xl (iB _) (rd_wz_lt hf 4)
    have fix : ∀ k, k < 6 → (k = 5 → p = 0 ∧ ¬ q = 0) → (k = 4 → ¬ p = 0 ∧ q = 0) → (k < 4 → ¬ p = 0 ∧ ¬ q = 0 ∧ rd_wk p q = k) → ∃ (b : Bool) (bd' : Int32) (B' : Nat → Nat) (DA' WO' : Nat → Int32), (∀ j, B' j < 256) ∧ (∀ post : Int32 → SX → Prop, post (rd_b b) (nI (rd_k VT 6), lN (rd_k (rd_fz MP) 64), nI (rd_c (rd_sh MP) 64), cr, nI nx, bd', dn, nI nm, nI nb, nI n0, nI n1, nI n2, nI w, nI dl, rd_bF B', rd_nF HE, rd_nF MK, rd_th HE MK, rd_PW, rd_PL, rd_nF MP, rd_uF MP, DA', rd_nF WM, rd_nF WV) → (nI (rd_k (fun d => rd_isT HE MK d nx) 6) = 63 → wpX_mended post (nI (rd_k VT 6), lN (rd_k (rd_fz MP) 64), nI (rd_c (rd_sh MP) 64), cr, nI nx, bd, dn, nI nm, nI nb, nI n0, nI n1, nI n2, nI w, nI dl, rd_bF B, rd_nF HE, rd_nF MK, rd_th HE MK, rd_PW, rd_PL, rd_nF MP, rd_uF MP, DA, rd_nF WM, rd_nF WV) (nI nx)) ∧ (¬ nI (rd_k (fun d => rd_isT HE MK d nx) 6) = 63 → post 0 (nI (rd_k VT 6), lN (rd_k (rd_fz MP) 64), nI (rd_c (rd_sh MP) 64), cr, nI nx, bd, dn, nI nm, nI nb, nI n0, nI n1, nI n2, nI w, nI dl, rd_bF B, rd_nF HE, rd_nF MK, rd_th HE MK, rd_PW, rd_PL, rd_nF MP, rd_uF MP, DA, rd_nF WM, rd_nF WV))) ∧ (∀ post : Int32 → SY → Prop, post (rd_b b) (nI dl, cr, nI nx, bd', dn, nI w, nI nb, nI nm, rd_nF B', rd_nF HE, rd_nF MK, rd_vF VT, rd_on MP, rd_nF WM, rd_nF WV, rd_nt n0 n1 n2, WO') → wpY_mends post (nI dl, cr, nI nx, bd, dn, nI w, nI nb, nI nm, rd_nF B, rd_nF HE, rd_nF MK, rd_vF VT, rd_on MP, rd_nF WM, rd_nF WV, rd_nt n0 n1 n2, WO) (nI nx)) := by
      intro k hk c5 c4 c3
      refine ⟨true, bd, rd_u B (rd_cel nx k) (B (rd_cel nx k) ^^^ if k = 5 then q else p), rd_4 (rd_wv HE MK B nx) DA, rd_n (rd_F6 HE MK B nx (rd_wv HE MK B nx)) 6 WO, rd_u_lt iB (rd_xl (iB _) (by split <;> assumption)), fun post hp => br_t ht ?_, fun post hp => ?_⟩
      · refine rd_x_mend iB i3 hall ep eq (fun a b => ?_) (fun k' hk' d5 d4 d3 => ?_) (fun a b c => ?_)
        · omega
        · have : k' = k := by omega
          subst this; exact hp
        · omega
      · refine rd_y_mend iB iH iK i3 hall ep eq (fun a b => ?_) (fun k' hk' d5 d4 d3 => ?_) (fun a b c => ?_)
        · omega
        · have : k' = k := by omega
          subst this; exact hp
        · omega
    by_cases hp0 : p = 0
    · by_cases hq0 : q = 0
      · refine ⟨false, bd, B, rd_4 (rd_wv HE MK B nx) DA, rd_n (rd_F6 HE MK B nx (rd_wv HE MK B nx)) 6 WO, iB, fun post hp => br_t ht ?_, fun post hp => ?_⟩
        · exact rd_x_mend iB i3 hall ep eq (fun _ _ => hp) (fun k' hk' d5 d4 d3 => by omega) (fun a b c => by omega)
        · exact rd_y_mend iB iH iK i3 hall ep eq (fun _ _ => hp) (fun k' hk' d5 d4 d3 => by omega) (fun a b c => by omega)
      · exact fix 5 (by decide) (fun _ => ⟨hp0, hq0⟩) (fun z => by omega) (fun z => by omega)
    · by_cases hq0 : q = 0
      · exact fix 4 (by decide) (fun z => by omega) (fun _ => ⟨hp0, hq0⟩) (fun z => by omega)
      · by_cases hw : rd_wk p q < 4
        · exact fix (rd_wk p q) (by omega) (fun z => by omega) (fun z => by omega) (fun _ => ⟨hp0, hq0, rfl⟩)
        · refine ⟨false, bd + 1, B, rd_4 (rd_wv HE MK B nx) DA, rd_n (rd_F6 HE MK B nx (rd_wv HE MK B nx)) 6 WO, iB, fun post hp => br_t ht ?_, fun post hp => ?_⟩
          · exact rd_x_mend iB i3 hall ep eq (fun a b => by omega) (fun k' hk' d5 d4 d3 => by omega) (fun a b c => hp)
          · exact rd_y_mend iB iH iK i3 hall ep eq (fun a b => by omega) (fun k' hk' d5 d4 d3 => by omega) (fun a b c => hp)
  · have ht : ¬ nI (rd_k (fun d => rd_isT HE MK d nx) 6) = 63 := fun z => hall (rd_all_63.mp (h63.mp z))
    refine ⟨false, bd, B, DA, WO, iB, fun post hp => br_f ht hp, fun post hp => ?_⟩
    unfold wpY_mends
    dsimp only
    refine ⟨6, rd_y_m2n iH iK i3 hp 6 0 6 rfl (by decide) ?_⟩
    refine Classical.byContradiction (fun z => hall (fun k hk => ?_))
    cases e : rd_hs HE MK nx k with
    | true => rfl
    | false => exact absurd ⟨k, Nat.zero_le _, hk, e⟩ z
theorem rd_I_nx {y : Nat} {B' : Nat → Nat} (I : rd_I dl w nx nb nm n0 n1 n2 cr dn B HE MK VT MP WM WV) (hy : y < 16) (hB : ∀ j, B' j < 256) : rd_I dl w y nb nm n0 n1 n2 cr dn B' HE MK VT MP WM WV := by
  obtain ⟨⟨i1, i2, i3⟩, i4, i9, i10, iB, iR⟩ := I
  exact ⟨⟨i1, i2, hy⟩, i4, i9, i10, hB, iR⟩
end
theorem rd_jc {n : Nat} (hn : n ≤ 16) : ∀ (d i c : Nat) (dl w nx nb nm n0 n1 n2 : Nat) (cr bd dn : Int32) (B HE MK : Nat → Nat) (VT : Nat → Bool) (MP WM WV : Nat → Nat) (DA WO : Nat → Int32), rd_I dl w nx nb nm n0 n1 n2 cr dn B HE MK VT MP WM WV → i + d = n → ∃ (r : Int32) (u' : SX) (v' : SY), (∀ k, i_Rel k u' v') ∧ (∀ (post : Int32 → SX → Prop) (fu : Nat), d < fu → post r u' → wX_scrub_32 post (nI n) fu (nI c) (nI i) (nI (rd_k VT 6)) (lN (rd_k (rd_fz MP) 64)) (nI (rd_c (rd_sh MP) 64)) cr (nI nx) bd dn (nI nm) (nI nb) (nI n0) (nI n1) (nI n2) (nI w) (nI dl) (rd_bF B) (rd_nF HE) (rd_nF MK) (rd_th HE MK) rd_PW rd_PL (rd_nF MP) (rd_uF MP) DA (rd_nF WM) (rd_nF WV)) ∧ (∀ (post : Int32 → SY → Prop) (fu : Nat), d < fu → post r v' → wY_scrub_31 post (nI n) fu (nI c) (nI i) (nI dl) cr (nI nx) bd dn (nI w) (nI nb) (nI nm) (rd_nF B) (rd_nF HE) (rd_nF MK) (rd_vF VT) (rd_on MP) (rd_nF WM) (rd_nF WV) (rd_nt n0 n1 n2) WO) := by
  intro d
  induction d with
  | zero =>
    intro i c dl w nx nb nm n0 n1 n2 cr bd dn B HE MK VT MP WM WV DA WO I h
    have : i = n := by omega
    subst this
    refine ⟨nI c, (nI (rd_k VT 6), lN (rd_k (rd_fz MP) 64), nI (rd_c (rd_sh MP) 64), cr, nI nx, bd, dn, nI nm, nI nb, nI n0, nI n1, nI n2, nI w, nI dl, rd_bF B, rd_nF HE, rd_nF MK, rd_th HE MK, rd_PW, rd_PL, rd_nF MP, rd_uF MP, DA, rd_nF WM, rd_nF WV), (nI dl, cr, nI nx, bd, dn, nI w, nI nb, nI nm, rd_nF B, rd_nF HE, rd_nF MK, rd_vF VT, rd_on MP, rd_nF WM, rd_nF WV, rd_nt n0 n1 n2, WO), fun k => rd_mk I, fun post fu hf hp => ?_, fun post fu hf hp => ?_⟩
    · obtain ⟨f, rfl⟩ : ∃ f, fu = f + 1 := ⟨fu - 1, by omega⟩
      unfold wX_scrub_32
      exact br_t (Int32.le_refl _) hp
    · obtain ⟨f, rfl⟩ : ∃ f, fu = f + 1 := ⟨fu - 1, by omega⟩
      unfold wY_scrub_31
      exact br_t (Int32.le_refl _) hp
  | succ d ih =>
    intro i c dl w nx nb nm n0 n1 n2 cr bd dn B HE MK VT MP WM WV DA WO I h
    have hlt : ¬ nI n ≤ nI i := nI_ge (by omega) (by omega)
    have hnx : nx < 16 := I.1.2.2
    obtain ⟨b, bd', B', DA', WO', hB', hX, hY⟩ := rd_j1 (DA := DA) (WO := WO) (bd := bd) I
    obtain ⟨r, u', v', hR, hX2, hY2⟩ := ih (i + 1) (c + b.toNat) dl w ((nx + 1) % 16) nb nm n0 n1 n2 cr bd' dn B' HE MK VT MP WM WV DA' WO' (rd_I_nx I (Nat.mod_lt _ (by decide)) hB') (by omega)
    refine ⟨r, u', v', hR, fun post fu hf hp => ?_, fun post fu hf hp => ?_⟩
    · obtain ⟨f, rfl⟩ : ∃ f, fu = f + 1 := ⟨fu - 1, by omega⟩
      have H2 := hX2 post f (by omega) hp
      unfold wX_scrub_32
      have k65 : wX_scrub_65 post (wX_scrub_32 post (nI n) f) (nI n) (nI (c + b.toNat)) (nI i) (nI (rd_k VT 6)) (lN (rd_k (rd_fz MP) 64)) (nI (rd_c (rd_sh MP) 64)) cr (nI nx) bd' dn (nI nm) (nI nb) (nI n0) (nI n1) (nI n2) (nI w) (nI dl) (rd_bF B') (rd_nF HE) (rd_nF MK) (rd_th HE MK) rd_PW rd_PL (rd_nF MP) (rd_uF MP) DA' (rd_nF WM) (rd_nF WV) := by
        unfold wX_scrub_65
        refine pk_eq nx 15 (fun z => nm_r (nI_1 i) ?_) (fun z => nm_r (nI_1 nx) (nm_r (nI_1 i) ?_))
        · rw [show (nx + 1) % 16 = 0 by omega] at H2; exact H2
        · rw [show (nx + 1) % 16 = nx + 1 by omega] at H2; exact H2
      have H := hX (fun r u => match u with | (f_volumes, f_free, f_shared, f_crashAfter, f_next, f_bad, f_down, f_noteMap, f_noteBlock, f_noteData, f_noteP, f_noteQ, f_waiting, f_delay, a_disk, a_health, a_mark, a_there, a_power, a_place, a_map, a_uses, a_data, a_waitMap, a_waitValue) => ((r = 0 → wX_scrub_65 post (wX_scrub_32 post (nI n) f) (nI n) (nI c) (nI i) f_volumes f_free f_shared f_crashAfter f_next f_bad f_down f_noteMap f_noteBlock f_noteData f_noteP f_noteQ f_waiting f_delay a_disk a_health a_mark a_there a_power a_place a_map a_uses a_data a_waitMap a_waitValue) ∧ (¬ r = 0 → ∀ x2 : Int32, x2 = nI c + 1 → wX_scrub_65 post (wX_scrub_32 post (nI n) f) (nI n) x2 (nI i) f_volumes f_free f_shared f_crashAfter f_next f_bad f_down f_noteMap f_noteBlock f_noteData f_noteP f_noteQ f_waiting f_delay a_disk a_health a_mark a_there a_power a_place a_map a_uses a_data a_waitMap a_waitValue))) (by
        cases b with
        | false => exact br_t rfl k65
        | true => exact br_f (by decide) (nm_r (nI_1 c) k65))
      exact br_f hlt ⟨vp_in_nI hnx (by omega), ⟨H.1, fun z => (H.2 z).1 rfl⟩⟩
    · obtain ⟨f, rfl⟩ : ∃ f, fu = f + 1 := ⟨fu - 1, by omega⟩
      have H2 := hY2 post f (by omega) hp
      unfold wY_scrub_31
      have k50 : wY_scrub_50 post (wY_scrub_31 post (nI n) f) (nI n) (nI (c + b.toNat)) (nI i) (nI dl) cr (nI nx) bd' dn (nI w) (nI nb) (nI nm) (rd_nF B') (rd_nF HE) (rd_nF MK) (rd_vF VT) (rd_on MP) (rd_nF WM) (rd_nF WV) (rd_nt n0 n1 n2) WO' := by
        unfold wY_scrub_50
        have e : nI nx + 1 - (nI nx + 1) / 16 * 16 = nI ((nx + 1) % 16) := by
          rw [nI_1]; exact pk_rem (d := 16) (by omega) (by decide) (by decide)
        exact ⟨by decide, nm_r e (nm_r (nI_1 i) H2)⟩
      refine br_f hlt (hY _ ?_)
      cases b with
      | false => exact br_t rfl k50
      | true => exact br_f (by decide) (nm_r (nI_1 c) k50)
theorem i_vc_scrub {k : Nat} {u : SX} {v : SY} (I : i_Rel k u v) (hk : k + 4 ≤ 2048) (v1 : Int32) : wpX_scrub (fun r u' => wpY_scrub (fun r' v' => r' = r ∧ i_Rel (k + 4) u' v') v v1) u v1 := by
  refine rd_el (P := fun u v => wpX_scrub (fun r u' => wpY_scrub (fun r' v' => r' = r ∧ i_Rel (k + 4) u' v') v v1) u v1) ?_ I
  clear I u v
  intro dl w nx nb nm n0 n1 n2 cr bd dn B HE MK VT MP WM WV DA WO I
  refine rd_fin (PX := fun post => wpX_scrub post (nI (rd_k VT 6), lN (rd_k (rd_fz MP) 64), nI (rd_c (rd_sh MP) 64), cr, nI nx, bd, dn, nI nm, nI nb, nI n0, nI n1, nI n2, nI w, nI dl, rd_bF B, rd_nF HE, rd_nF MK, rd_th HE MK, rd_PW, rd_PL, rd_nF MP, rd_uF MP, DA, rd_nF WM, rd_nF WV) v1) (PY := fun post => wpY_scrub post (nI dl, cr, nI nx, bd, dn, nI w, nI nb, nI nm, rd_nF B, rd_nF HE, rd_nF MK, rd_vF VT, rd_on MP, rd_nF WM, rd_nF WV, rd_nt n0 n1 n2, WO) v1) ?_
  by_cases hd : dn = 0
  case neg => exact ⟨-4, (nI (rd_k VT 6), lN (rd_k (rd_fz MP) 64), nI (rd_c (rd_sh MP) 64), cr, nI nx, bd, dn, nI nm, nI nb, nI n0, nI n1, nI n2, nI w, nI dl, rd_bF B, rd_nF HE, rd_nF MK, rd_th HE MK, rd_PW, rd_PL, rd_nF MP, rd_uF MP, DA, rd_nF WM, rd_nF WV), (nI dl, cr, nI nx, bd, dn, nI w, nI nb, nI nm, rd_nF B, rd_nF HE, rd_nF MK, rd_vF VT, rd_on MP, rd_nF WM, rd_nF WV, rd_nt n0 n1 n2, WO), rd_mk I, fun post hp => br_f hd hp, fun post hp => br_f hd hp⟩
  by_cases h0 : v1 < 1
  · exact ⟨-1, (nI (rd_k VT 6), lN (rd_k (rd_fz MP) 64), nI (rd_c (rd_sh MP) 64), cr, nI nx, bd, dn, nI nm, nI nb, nI n0, nI n1, nI n2, nI w, nI dl, rd_bF B, rd_nF HE, rd_nF MK, rd_th HE MK, rd_PW, rd_PL, rd_nF MP, rd_uF MP, DA, rd_nF WM, rd_nF WV), (nI dl, cr, nI nx, bd, dn, nI w, nI nb, nI nm, rd_nF B, rd_nF HE, rd_nF MK, rd_vF VT, rd_on MP, rd_nF WM, rd_nF WV, rd_nt n0 n1 n2, WO), rd_mk I, fun post hp => br_t hd (br_t h0 hp), fun post hp => br_t hd (rd_in_lo h0 (br_t rfl hp))⟩
  by_cases h6 : v1 ≤ 16
  · have hn0 : ¬ v1 < 0 := fun z => h0 (Int32.lt_trans z (by decide))
    obtain ⟨j, hj, rfl⟩ := nI_of2 (M := 16) (n := 16) (by decide) hn0 h6
    obtain ⟨r, u', v', hR, hX, hY⟩ := rd_jc hj j 0 0 dl w nx nb nm n0 n1 n2 cr 0 dn B HE MK VT MP WM WV DA WO I (by omega)
    exact ⟨r, u', v', hR _, fun post hp => br_t hd (br_f h0 (br_t h6 ⟨j + 1, hX post (j + 1) (by omega) hp⟩)), fun post hp => br_t hd (rd_in_ok h0 (Int32.not_lt.mpr h6) (br_f (by decide) ⟨j + 1, hY post (j + 1) (by omega) hp⟩))⟩
  · exact ⟨-1, (nI (rd_k VT 6), lN (rd_k (rd_fz MP) 64), nI (rd_c (rd_sh MP) 64), cr, nI nx, bd, dn, nI nm, nI nb, nI n0, nI n1, nI n2, nI w, nI dl, rd_bF B, rd_nF HE, rd_nF MK, rd_th HE MK, rd_PW, rd_PL, rd_nF MP, rd_uF MP, DA, rd_nF WM, rd_nF WV), (nI dl, cr, nI nx, bd, dn, nI w, nI nb, nI nm, rd_nF B, rd_nF HE, rd_nF MK, rd_vF VT, rd_on MP, rd_nF WM, rd_nF WV, rd_nt n0 n1 n2, WO), rd_mk I, fun post hp => br_t hd (br_f h0 (br_f h6 hp)), fun post hp => br_t hd (rd_in_hi h0 (Int32.not_le.mp h6) (br_t rfl hp))⟩
end
section
/-! state -/
theorem rd_c_cut (p : Nat → Bool) (n : Nat) : ∀ m, rd_c (fun i => decide (i < n) && p i) (n + m) = rd_c p n
  | 0 => rd_c_ext (fun i hi => by rw [decide_eq_true (show i < n from hi), Bool.true_and])
  | m + 1 => by
    show rd_c (fun i => decide (i < n) && p i) (n + m) + (decide (n + m < n) && p (n + m)).toNat = _
    rw [rd_c_cut p n m, decide_eq_false (by omega), Bool.false_and]
    rfl
theorem rd_x_bits4 {post : Int32 → Prop} : ∀ (n m a x : Nat), x < 2 ^ 64 → rd_c (fun i => x.testBit i) 64 = m → m < n → post (nI (a + m)) → wX_bits_4 post n (nI a) (lN x)
  | 0, _, _, _, _, _, h, _ => by exact absurd h (Nat.not_lt_zero _)
  | n + 1, m, a, x, hx, hm, hn, hp => by
    unfold wX_bits_4
    refine ek_if (rd_lN0 hx) (fun e => ?_) (fun e => ?_)
    · have h0 : rd_c (fun i => x.testBit i) 64 = 0 := rd_c_z.mpr (fun i _ => by rw [e]; exact Nat.zero_testBit i)
      have : m = 0 := hm.symm.trans h0
      subst this
      exact hp
    · have x0 : 0 < x := Nat.pos_of_ne_zero e
      have hc := rd_kc (x := x) (n := 64) x0 hx
      have hx1 : x - 1 < 2 ^ 64 := Nat.lt_of_le_of_lt (Nat.sub_le _ _) hx
      have ex : lN x &&& (lN x - 1) = lN (x &&& (x - 1)) := by
        have : lN x - 1 = lN (x - 1) := lN_sub (b := 1) x0
        rw [this, wb_and hx hx1]
      have hm' := hm.symm.trans hc
      subst hm'
      refine nm_r (nI_1 a) (nm_r ex (rd_x_bits4 n _ (a + 1) (x &&& (x - 1)) (Nat.lt_of_le_of_lt Nat.and_le_left hx) rfl (Nat.lt_of_succ_lt_succ hn) ?_))
      rw [Nat.add_assoc, Nat.add_comm 1]
      exact hp
theorem rd_x_bits {post : Int32 → Prop} {x : Nat} (hx : x < 2 ^ 64) (hp : post (nI (rd_c (fun i => x.testBit i) 64))) : wpX_bits post (lN x) := by
  refine ⟨65, rd_x_bits4 65 _ 0 x hx rfl (Nat.lt_succ_of_le (rd_c_le _ _)) ?_⟩
  rw [Nat.zero_add]
  exact hp
section
variable {f_volumes : Int32} {f_free : Int64} {f_shared : Int32} {f_crashAfter : Int32} {f_next : Int32} {f_bad : Int32} {f_down : Int32} {f_noteMap : Int32} {f_noteBlock : Int32} {f_noteData : Int32} {f_noteP : Int32} {f_noteQ : Int32} {f_waiting : Int32} {f_delay : Int32} {a_disk : Nat → Int32} {a_health : Nat → Int32} {a_mark : Nat → Int32} {a_there : Nat → Int32} {a_power : Nat → Int32} {a_place : Nat → Int32} {a_map : Nat → Int32} {a_uses : Nat → Int32} {a_data : Nat → Int32} {a_waitMap : Nat → Int32} {a_waitValue : Nat → Int32}
variable {HE MK : Nat → Nat}
theorem rd_x_ls4 {post : Int32 → Prop} (hp : post (nI (rd_c (rd_ls HE MK) 16))) : ∀ d i n : Nat, i + d = 16 → d < n → wX_lostStripes_4 post f_volumes f_free f_shared f_crashAfter f_next f_bad f_down f_noteMap f_noteBlock f_noteData f_noteP f_noteQ f_waiting f_delay a_disk a_health a_mark (rd_th HE MK) a_power a_place a_map a_uses a_data a_waitMap a_waitValue n (nI (rd_c (rd_ls HE MK) i)) (nI i)
  | _, _, 0, _, h => by omega
  | 0, i, n + 1, h, _ => by
    have : i = 16 := by omega
    subst this
    unfold wX_lostStripes_4
    exact br_t (by decide) hp
  | d + 1, i, n + 1, h, hn => by
    have ih := rd_x_ls4 hp d (i + 1) n (by omega) (by omega)
    unfold wX_lostStripes_4
    refine br_f (nI_ge (b := 16) (by omega) (by decide)) (rd_x_lost (by omega) (rd_brb _ rfl (fun e => nm_r (nI_1 i) ?_) (fun e => nm_r (nI_1 _) (nm_r (nI_1 i) ?_))))
    · have c : rd_c (rd_ls HE MK) (i + 1) = rd_c (rd_ls HE MK) i := by simp only [rd_c]; rw [e]; rfl
      rw [c] at ih; exact ih
    · have c : rd_c (rd_ls HE MK) (i + 1) = rd_c (rd_ls HE MK) i + 1 := by simp only [rd_c]; rw [e]; rfl
      rw [c] at ih; exact ih
theorem rd_x_ls {post : Int32 → Prop} (hp : post (nI (rd_c (rd_ls HE MK) 16))) : wpX_lostStripes post (f_volumes, f_free, f_shared, f_crashAfter, f_next, f_bad, f_down, f_noteMap, f_noteBlock, f_noteData, f_noteP, f_noteQ, f_waiting, f_delay, a_disk, a_health, a_mark, rd_th HE MK, a_power, a_place, a_map, a_uses, a_data, a_waitMap, a_waitValue) := by
  unfold wpX_lostStripes
  dsimp only
  exact ⟨17, rd_x_ls4 hp 16 0 17 rfl (by decide)⟩
end
section
variable {f_delay : Int32} {f_crash : Int32} {f_cursor : Int32} {f_bad : Int32} {f_down : Int32} {f_waiting : Int32} {f_noteBlock : Int32} {f_noteFor : Int32} {a_bytes : Nat → Int32} {a_health : Nat → Int32} {a_mark : Nat → Int32} {a_there : Nat → Int32} {a_on : Nat → Int32} {a_waitsFor : Nat → Int32} {a_waits : Nat → Int32} {a_note : Nat → Int32} {a_worth : Nat → Int32}
variable {HE MK MP : Nat → Nat} {VT : Nat → Bool}
theorem rd_y_st55 {post : Int32 → Prop} (hM : ∀ m, MP m ≤ 64) (hp : post (nI (rd_c (rd_sh MP) 64))) : ∀ d i n : Nat, i + d = 64 → d < n → wY_state_55 post f_delay f_crash f_cursor f_bad f_down f_waiting f_noteBlock f_noteFor a_bytes a_health a_mark a_there (rd_on MP) a_waitsFor a_waits a_note a_worth n (nI (rd_c (rd_sh MP) i)) (nI i)
  | _, _, 0, _, h => by omega
  | 0, i, n + 1, h, _ => by
    have : i = 64 := by omega
    subst this
    unfold wY_state_55
    exact br_t (by decide) hp
  | d + 1, i, n + 1, h, hn => by
    have ih := rd_y_st55 hM hp d (i + 1) n (by omega) (by omega)
    have hc := rd_ct_le MP i
    unfold wY_state_55
    refine br_f (nI_ge (b := 64) (by omega) (by decide)) (rd_y_users hM (by omega) (pk_le (rd_ct MP i) 1 (fun e => nm_r (nI_1 i) ?_) (fun e => nm_r (nI_1 _) (nm_r (nI_1 i) ?_))))
    · have c : rd_c (rd_sh MP) (i + 1) = rd_c (rd_sh MP) i := by
        show _ + (decide (1 < rd_ct MP i)).toNat = _
        rw [decide_eq_false (by omega)]; rfl
      rw [c] at ih; exact ih
    · have c : rd_c (rd_sh MP) (i + 1) = rd_c (rd_sh MP) i + 1 := by
        show _ + (decide (1 < rd_ct MP i)).toNat = _
        rw [decide_eq_true e]; rfl
      rw [c] at ih; exact ih
theorem rd_y_st83 {post : Int32 → Prop} (hp : post (nI (rd_c VT 6))) : ∀ d i n : Nat, i + d = 6 → d < n → wY_state_83 post f_delay f_crash f_cursor f_bad f_down f_waiting f_noteBlock f_noteFor a_bytes a_health a_mark (rd_vF VT) a_on a_waitsFor a_waits a_note a_worth n (nI (rd_c VT i)) (nI i)
  | _, _, 0, _, h => by omega
  | 0, i, n + 1, h, _ => by
    have : i = 6 := by omega
    subst this
    unfold wY_state_83
    exact br_t (by decide) hp
  | d + 1, i, n + 1, h, hn => by
    have ih := rd_y_st83 hp d (i + 1) n (by omega) (by omega)
    unfold wY_state_83
    refine br_f (nI_ge (b := 6) (by omega) (by decide)) ⟨vp_in_nI (by omega) (by omega), ?_⟩
    rw [nI_clamp (by omega)]
    refine rd_brb (VT i) rfl (fun e => nm_r (nI_1 i) ?_) (fun e => nm_r (nI_1 _) (nm_r (nI_1 i) ?_))
    · have c : rd_c VT (i + 1) = rd_c VT i := by simp only [rd_c]; rw [e]; rfl
      rw [c] at ih; exact ih
    · have c : rd_c VT (i + 1) = rd_c VT i + 1 := by simp only [rd_c]; rw [e]; rfl
      rw [c] at ih; exact ih
theorem rd_y_st111 {post : Int32 → Prop} (hH : ∀ d, HE d ≤ 2) (hK : ∀ d, MK d ≤ 16) (hp : post (nI (rd_c (rd_ls HE MK) 16))) : ∀ d i n : Nat, i + d = 16 → d < n → wY_state_111 post f_delay f_crash f_cursor f_bad f_down f_waiting f_noteBlock f_noteFor a_bytes (rd_nF HE) (rd_nF MK) a_there a_on a_waitsFor a_waits a_note a_worth n (nI (rd_c (rd_ls HE MK) i)) (nI i)
  | _, _, 0, _, h => by omega
  | 0, i, n + 1, h, _ => by
    have : i = 16 := by omega
    subst this
    unfold wY_state_111
    exact br_t (by decide) hp
  | d + 1, i, n + 1, h, hn => by
    have ih := rd_y_st111 hH hK hp d (i + 1) n (by omega) (by omega)
    unfold wY_state_111
    refine br_f (nI_ge (b := 16) (by omega) (by decide)) (rd_y_lost hH hK (by omega) (rd_brb _ rfl (fun e => nm_r (nI_1 i) ?_) (fun e => nm_r (nI_1 _) (nm_r (nI_1 i) ?_))))
    · have c : rd_c (rd_ls HE MK) (i + 1) = rd_c (rd_ls HE MK) i := by simp only [rd_c]; rw [e]; rfl
      rw [c] at ih; exact ih
    · have c : rd_c (rd_ls HE MK) (i + 1) = rd_c (rd_ls HE MK) i + 1 := by simp only [rd_c]; rw [e]; rfl
      rw [c] at ih; exact ih
end
section
variable {dl w nx nb nm n0 n1 n2 : Nat} {cr bd dn : Int32} {B HE MK : Nat → Nat} {VT : Nat → Bool} {MP WM WV : Nat → Nat} {DA WO : Nat → Int32}
theorem rd_x_st61 {post : Int32 → Prop} {t : Nat} (ht : t ≤ 7) (h : wX_state_61 post (nI t) (nI (rd_k VT 6)) (lN (rd_k (rd_fz MP) 64)) (nI (rd_c (rd_sh MP) 64)) cr (nI nx) bd dn (nI nm) (nI nb) (nI n0) (nI n1) (nI n2) (nI w) (nI dl) (rd_bF B) (rd_nF HE) (rd_nF MK) (rd_th HE MK) rd_PW rd_PL (rd_nF MP) (rd_uF MP) DA (rd_nF WM) (rd_nF WV)) : wpX_state post (nI (rd_k VT 6), lN (rd_k (rd_fz MP) 64), nI (rd_c (rd_sh MP) 64), cr, nI nx, bd, dn, nI nm, nI nb, nI n0, nI n1, nI n2, nI w, nI dl, rd_bF B, rd_nF HE, rd_nF MK, rd_th HE MK, rd_PW, rd_PL, rd_nF MP, rd_uF MP, DA, rd_nF WM, rd_nF WV) (nI t) := by
  refine br_t (nI_le (b := 7) ht (by decide)) ?_
  unfold wX_state_22
  exact br_t (nI_le (b := 15) (by omega) (by decide)) h
theorem rd_sub8 {t : Nat} (h : 8 ≤ t) : nI t - 8 = nI (t - 8) := pk_sub (b := 8) h
theorem rd_sub16 {t : Nat} (h : 16 ≤ t) : nI t - 16 = nI (t - 16) := pk_sub (b := 16) h
theorem rd_y_out {post : Int32 → Prop} {x a b : Int32} (h : x < a ∨ b < x) (hp : post 0) : wpY_in post x a b := br_c (fun _ => hp) (fun z => h.elim (fun y => absurd y z) (fun y => br_t y hp))
theorem rd_state_j (iM : ∀ m, MP m ≤ 64) (iH : ∀ d, HE d ≤ 2) (iK : ∀ d, MK d ≤ 16) (v1 : Int32) : ∃ r : Int32, (∀ post : Int32 → Prop, post r → wpX_state post (nI (rd_k VT 6), lN (rd_k (rd_fz MP) 64), nI (rd_c (rd_sh MP) 64), cr, nI nx, bd, dn, nI nm, nI nb, nI n0, nI n1, nI n2, nI w, nI dl, rd_bF B, rd_nF HE, rd_nF MK, rd_th HE MK, rd_PW, rd_PL, rd_nF MP, rd_uF MP, DA, rd_nF WM, rd_nF WV) v1) ∧ (∀ post : Int32 → Prop, post r → wpY_state post (nI dl, cr, nI nx, bd, dn, nI w, nI nb, nI nm, rd_nF B, rd_nF HE, rd_nF MK, rd_vF VT, rd_on MP, rd_nF WM, rd_nF WV, rd_nt n0 n1 n2, WO) v1) := by
  rcases pk_ix v1 (n := 22) (by decide) with hn | hg | ⟨t, ht, rfl⟩
  · refine ⟨-1, fun post hp => ?_, fun post hp => ?_⟩
    · have l7 : v1 ≤ 7 := Int32.le_of_lt (Int32.lt_trans hn (by decide))
      have l15 : v1 ≤ 15 := Int32.le_of_lt (Int32.lt_trans hn (by decide))
      refine br_t l7 ?_
      unfold wX_state_22
      refine br_t l15 ?_
      unfold wX_state_61
      exact br_t hn hp
    · exact br_t hn (rd_in_lo (Int32.lt_trans hn (by decide)) (br_t rfl (rd_in_lo (Int32.lt_trans hn (by decide)) (br_t rfl hp))))
  · have hg : (22 : Int32) ≤ v1 := hg
    have big : ∀ a : Int32, a < 22 → a < v1 := fun a ha => Int32.lt_of_lt_of_le ha hg
    have ng : ¬ v1 < 0 := Int32.not_lt.mpr (Int32.le_of_lt (big 0 (by decide)))
    refine ⟨-1, fun post hp => ?_, fun post hp => ?_⟩
    · refine br_f (Int32.not_le.mpr (big 7 (by decide))) (br_t (Int32.le_of_lt (big 14 (by decide))) ?_)
      unfold wX_state_22
      refine br_f (Int32.not_le.mpr (big 15 (by decide))) (br_t hg ?_)
      unfold wX_state_61
      exact br_f ng (br_t (big 7 (by decide)) hp)
    · exact br_f ng (br_t (big 7 (by decide)) (rd_y_out (Or.inr (big 13 (by decide))) (br_t rfl (rd_y_out (Or.inr (big 21 (by decide))) (br_t rfl hp)))))
  · have ng : ¬ nI t < 0 := nI_pos (by omega)
    by_cases h7 : t ≤ 7
    · have n7 : ¬ (7 : Int32) < nI t := Int32.not_lt.mpr (nI_le (b := 7) h7 (by decide))
      rcases (by omega : t = 0 ∨ t = 1 ∨ t = 2 ∨ t = 3 ∨ t = 4 ∨ t = 5 ∨ t = 6 ∨ t = 7) with e | e | e | e | e | e | e | e <;> subst e
      · refine ⟨nI (rd_c (rd_fz MP) 64), fun post hp => rd_x_st61 h7 ?_, fun post hp => ?_⟩
        · unfold wX_state_61
          refine br_f ng (br_f n7 (br_t rfl (rd_x_bits (rd_k_lt _ 64) ?_)))
          rw [rd_k_c]
          exact hp
        · exact br_f ng (br_f n7 (br_t rfl (rd_y_free iM hp)))
      · refine ⟨nI (rd_c (rd_sh MP) 64), fun post hp => rd_x_st61 h7 ?_, fun post hp => ?_⟩
        · unfold wX_state_61
          exact br_f ng (br_f n7 (br_f (by decide) (br_t rfl hp)))
        · exact br_f ng (br_f n7 (br_f (by decide) (br_t rfl ⟨65, rd_y_st55 iM hp 64 0 65 rfl (by decide)⟩)))
      · refine ⟨nI (rd_c VT 6), fun post hp => rd_x_st61 h7 ?_, fun post hp => ?_⟩
        · have hl := rd_k_lt VT 6
          have hl2 : rd_k VT 6 < 2 ^ 31 := Nat.lt_trans hl (by decide)
          have hl3 : rd_k VT 6 < 2 ^ 64 := Nat.lt_trans hl (by decide)
          have ec : rd_c (fun i => (rd_k VT 6).testBit i) 64 = rd_c VT 6 := by
            rw [← rd_c_cut VT 6 58]
            exact rd_c_ext (fun i _ => rd_k_bit VT 6 i)
          unfold wX_state_61
          refine br_f ng (br_f n7 (br_f (by decide) (br_f (by decide) (br_t rfl ?_))))
          rw [nI_l hl2]
          refine rd_x_bits hl3 ?_
          rw [ec]
          exact hp
        · exact br_f ng (br_f n7 (br_f (by decide) (br_f (by decide) (br_t rfl ⟨7, rd_y_st83 hp 6 0 7 rfl (by decide)⟩))))
      · refine ⟨nI (rd_c (rd_ls HE MK) 16), fun post hp => rd_x_st61 h7 ?_, fun post hp => ?_⟩
        · unfold wX_state_61
          exact br_f ng (br_f n7 (br_f (by decide) (br_f (by decide) (br_f (by decide) (br_t rfl (rd_x_ls hp))))))
        · exact br_f ng (br_f n7 (br_f (by decide) (br_f (by decide) (br_f (by decide) (br_t rfl ⟨17, rd_y_st111 iH iK hp 16 0 17 rfl (by decide)⟩)))))
      · refine ⟨bd, fun post hp => rd_x_st61 h7 ?_, fun post hp => ?_⟩
        · unfold wX_state_61
          exact br_f ng (br_f n7 (br_f (by decide) (br_f (by decide) (br_f (by decide) (br_f (by decide) (br_t rfl hp))))))
        · exact br_f ng (br_f n7 (br_f (by decide) (br_f (by decide) (br_f (by decide) (br_f (by decide) (br_t rfl hp))))))
      · refine ⟨nI nx, fun post hp => rd_x_st61 h7 ?_, fun post hp => ?_⟩
        · unfold wX_state_61
          exact br_f ng (br_f n7 (br_f (by decide) (br_f (by decide) (br_f (by decide) (br_f (by decide) (br_f (by decide) (br_t rfl hp)))))))
        · exact br_f ng (br_f n7 (br_f (by decide) (br_f (by decide) (br_f (by decide) (br_f (by decide) (br_f (by decide) (br_t rfl hp)))))))
      · by_cases hd : dn = 0
        · refine ⟨0, fun post hp => rd_x_st61 h7 ?_, fun post hp => ?_⟩
          · unfold wX_state_61
            exact br_f ng (br_f n7 (br_f (by decide) (br_f (by decide) (br_f (by decide) (br_f (by decide) (br_f (by decide) (br_f (by decide) (br_t rfl (br_t hd hp)))))))))
          · exact br_f ng (br_f n7 (br_f (by decide) (br_f (by decide) (br_f (by decide) (br_f (by decide) (br_f (by decide) (br_f (by decide) (br_t rfl (br_t hd hp)))))))))
        · refine ⟨1, fun post hp => rd_x_st61 h7 ?_, fun post hp => ?_⟩
          · unfold wX_state_61
            exact br_f ng (br_f n7 (br_f (by decide) (br_f (by decide) (br_f (by decide) (br_f (by decide) (br_f (by decide) (br_f (by decide) (br_t rfl (br_f hd hp)))))))))
          · exact br_f ng (br_f n7 (br_f (by decide) (br_f (by decide) (br_f (by decide) (br_f (by decide) (br_f (by decide) (br_f (by decide) (br_t rfl (br_f hd hp)))))))))
      · refine ⟨nI w, fun post hp => rd_x_st61 h7 ?_, fun post hp => ?_⟩
        · unfold wX_state_61
          exact br_f ng (br_f n7 (br_f (by decide) (br_f (by decide) (br_f (by decide) (br_f (by decide) (br_f (by decide) (br_f (by decide) (br_f (by decide) (br_t rfl hp)))))))))
        · exact br_f ng (br_f n7 (br_f (by decide) (br_f (by decide) (br_f (by decide) (br_f (by decide) (br_f (by decide) (br_f (by decide) (br_f (by decide) (br_t rfl hp)))))))))
    · have p7 : (7 : Int32) < nI t := nI_lt (a := 7) (by omega) (by omega)
      have q7 : ¬ nI t ≤ 7 := Int32.not_le.mpr p7
      by_cases h14 : t < 14
      · have hv : vp_in (nI (t - 8)) 6 := vp_in_nI (by omega) (by omega)
        refine ⟨nI (HE (t - 8)), fun post hp => ?_, fun post hp => ?_⟩
        · refine br_f q7 (br_f (nI_ge (b := 14) h14 (by decide)) ?_)
          rw [rd_sub8 (by omega), nI_clamp (by omega)]
          exact ⟨hv, hp⟩
        · refine br_f ng (br_t p7 (rd_in_ok (nI_nlt (b := 8) (by omega) (by omega)) (Int32.not_lt.mpr (nI_le (b := 13) (by omega) (by decide))) ?_))
          rw [rd_sub8 (by omega), nI_clamp (by omega)]
          exact br_f (by decide) ⟨hv, hp⟩
      · have p13 : (13 : Int32) < nI t := nI_lt (a := 13) (by omega) (by omega)
        have p14 : (14 : Int32) ≤ nI t := nI_le (a := 14) (by omega) (by omega)
        by_cases h16 : t < 16
        · refine ⟨-1, fun post hp => ?_, fun post hp => ?_⟩
          · refine br_f q7 (br_t p14 ?_)
            unfold wX_state_22
            refine br_t (nI_le (b := 15) (by omega) (by decide)) ?_
            unfold wX_state_61
            exact br_f ng (br_t p7 hp)
          · exact br_f ng (br_t p7 (rd_y_out (Or.inr p13) (br_t rfl (rd_y_out (Or.inl (nI_lt (b := 16) h16 (by decide))) (br_t rfl hp)))))
        · have hv : vp_in (nI (t - 16)) 6 := vp_in_nI (by omega) (by omega)
          have hH := iH (t - 16)
          have X0 : ∀ post : Int32 → Prop, ((nI (HE (t - 16)) = 2 → vp_in (nI (t - 16)) 6 ∧ post (nI (MK (t - 16)))) ∧ (¬ nI (HE (t - 16)) = 2 → post (-1))) → wpX_state post (nI (rd_k VT 6), lN (rd_k (rd_fz MP) 64), nI (rd_c (rd_sh MP) 64), cr, nI nx, bd, dn, nI nm, nI nb, nI n0, nI n1, nI n2, nI w, nI dl, rd_bF B, rd_nF HE, rd_nF MK, rd_th HE MK, rd_PW, rd_PL, rd_nF MP, rd_uF MP, DA, rd_nF WM, rd_nF WV) (nI t) := by
            intro post h
            refine br_f q7 (br_t p14 ?_)
            unfold wX_state_22
            refine br_f (nI_ge (b := t) (a := 15) (by omega) (by omega)) (br_f (nI_ge (b := 22) ht (by decide)) ?_)
            rw [rd_sub16 (by omega), nI_clamp (by omega)]
            exact ⟨hv, h⟩
          have Y0 : ∀ post : Int32 → Prop, ((nI (HE (t - 16)) = 2 → vp_in (nI (t - 16)) 6 ∧ post (nI (MK (t - 16)))) ∧ (¬ nI (HE (t - 16)) = 2 → post (-1))) → wpY_state post (nI dl, cr, nI nx, bd, dn, nI w, nI nb, nI nm, rd_nF B, rd_nF HE, rd_nF MK, rd_vF VT, rd_on MP, rd_nF WM, rd_nF WV, rd_nt n0 n1 n2, WO) (nI t) := by
            intro post h
            refine br_f ng (br_t p7 (rd_y_out (Or.inr p13) (br_t rfl (rd_in_ok (nI_nlt (b := 16) (by omega) (by omega)) (Int32.not_lt.mpr (nI_le (b := 21) (by omega) (by decide))) ?_))))
            rw [rd_sub16 (by omega), nI_clamp (by omega)]
            exact br_f (by decide) ⟨hv, h⟩
          by_cases h2 : nI (HE (t - 16)) = 2
          · exact ⟨nI (MK (t - 16)), fun post hp => X0 post (br_t h2 ⟨hv, hp⟩), fun post hp => Y0 post (br_t h2 ⟨hv, hp⟩)⟩
          · exact ⟨-1, fun post hp => X0 post (br_f h2 hp), fun post hp => Y0 post (br_f h2 hp)⟩
end
theorem i_vc_state {k : Nat} {u : SX} {v : SY} (I : i_Rel k u v) (hk : k + 4 ≤ 2048) (v1 : Int32) : wpX_state (fun r => wpY_state (fun r' => r' = r ∧ i_Rel (k + 4) u v) v v1) u v1 := by
  refine rd_el (P := fun u v => wpX_state (fun r => wpY_state (fun r' => r' = r ∧ i_Rel (k + 4) u v) v v1) u v1) ?_ I
  clear I u v
  intro dl w nx nb nm n0 n1 n2 cr bd dn B HE MK VT MP WM WV DA WO I
  refine rd_fin1 (PX := fun post => wpX_state post (nI (rd_k VT 6), lN (rd_k (rd_fz MP) 64), nI (rd_c (rd_sh MP) 64), cr, nI nx, bd, dn, nI nm, nI nb, nI n0, nI n1, nI n2, nI w, nI dl, rd_bF B, rd_nF HE, rd_nF MK, rd_th HE MK, rd_PW, rd_PL, rd_nF MP, rd_uF MP, DA, rd_nF WM, rd_nF WV) v1) (PY := fun post => wpY_state post (nI dl, cr, nI nx, bd, dn, nI w, nI nb, nI nm, rd_nF B, rd_nF HE, rd_nF MK, rd_vF VT, rd_on MP, rd_nF WM, rd_nF WV, rd_nt n0 n1 n2, WO) v1) (rd_mk I) ?_
  obtain ⟨i1, i4, i9, i10, iB, iH, iK, iK2, iM, iR⟩ := I
  exact rd_state_j iM iH iK v1
end
section
/-! the constructors -/
def rd_pk (k : Nat) : Nat → Int32 := fun j => if j < k ∨ (255 ≤ j ∧ j < 255 + k) then nI (rd_pw (j % 255)) else 0
def rd_lk (k : Nat) : Nat → Int32 := fun x => if (0 < x ∧ x < 256) ∧ rd_lg x < k then nI (rd_lg x) else 0
theorem rd_pk_0 : rd_pk 0 = fun _ => 0 := by funext j; exact if_neg (by omega)
theorem rd_lk_0 : rd_lk 0 = fun _ => 0 := by funext j; exact if_neg (by omega)
theorem rd_pk_255 : rd_pk 255 = rd_PW := by
  funext j
  show (if j < 255 ∨ (255 ≤ j ∧ j < 255 + 255) then _ else _) = if j < 510 then _ else _
  by_cases h : j < 510
  · rw [if_pos h, if_pos (by omega)]
  · rw [if_neg h, if_neg (by omega)]
theorem rd_lk_255 : rd_lk 255 = rd_PL := by
  funext x
  show (if (0 < x ∧ x < 256) ∧ rd_lg x < 255 then _ else _) = if 0 < x ∧ x < 256 then _ else _
  by_cases h : 0 < x ∧ x < 256
  · rw [if_pos h, if_pos ⟨h, (rd_lg_r x h.2 h.1).1⟩]
  · rw [if_neg h, if_neg (fun z => h z.1)]
theorem rd_pk_s {k : Nat} (hk : k < 255) : upd (upd (rd_pk k) k (nI (rd_pw k))) (k + 255) (nI (rd_pw k)) = rd_pk (k + 1) := by
  funext j
  show (if j = k + 255 then nI (rd_pw k) else if j = k then nI (rd_pw k) else if j < k ∨ (255 ≤ j ∧ j < 255 + k) then nI (rd_pw (j % 255)) else 0) = if j < k + 1 ∨ (255 ≤ j ∧ j < 255 + (k + 1)) then nI (rd_pw (j % 255)) else 0
  by_cases h : j = k + 255
  · rw [if_pos h, if_pos (by omega), show j % 255 = k by omega]
  · rw [if_neg h]
    by_cases h' : j = k
    · rw [if_pos h', if_pos (by omega), show j % 255 = k by omega]
    · rw [if_neg h']
      by_cases z : j < k ∨ (255 ≤ j ∧ j < 255 + k)
      · rw [if_pos z, if_pos (by omega)]
      · rw [if_neg z, if_neg (by omega)]
theorem rd_lk_s {k : Nat} (hk : k < 255) : upd (rd_lk k) (rd_pw k) (nI k) = rd_lk (k + 1) := by
  obtain ⟨p1, p2, p3⟩ := rd_pw_r k hk
  funext x
  show (if x = rd_pw k then nI k else if (0 < x ∧ x < 256) ∧ rd_lg x < k then nI (rd_lg x) else 0) = if (0 < x ∧ x < 256) ∧ rd_lg x < k + 1 then nI (rd_lg x) else 0
  by_cases h : x = rd_pw k
  · subst h
    rw [if_pos rfl, if_pos ⟨⟨p1, p2⟩, by omega⟩, p3]
  · rw [if_neg h]
    by_cases z : 0 < x ∧ x < 256
    · obtain ⟨l1, l2⟩ := rd_lg_r x z.2 z.1
      have hne : rd_lg x ≠ k := fun e => h (by rw [← e, l2])
      by_cases y : rd_lg x < k
      · rw [if_pos ⟨z, y⟩, if_pos ⟨z, by omega⟩]
      · rw [if_neg (fun c => y c.2), if_neg (fun c => by omega)]
    · rw [if_neg (fun c => z c.1), if_neg (fun c => z c.1)]
theorem rd_th_0 : rd_th (fun _ => 0) (fun _ => 0) = fun s => if s < 16 then 63 else 0 := by
  funext s
  show (if s < 16 then nI (rd_k (fun d => rd_isT (fun _ => 0) (fun _ => 0) d s) 6) else 0) = _
  have e : rd_k (fun d => rd_isT (fun _ => 0) (fun _ => 0) d s) 6 = 63 := rd_k_f.mpr (fun d _ => decide_eq_true (Or.inl rfl))
  rw [e]; rfl
section
variable {f_volumes : Int32} {f_free : Int64} {f_shared : Int32} {f_crashAfter : Int32} {f_next : Int32} {f_bad : Int32} {f_down : Int32} {f_noteMap : Int32} {f_noteBlock : Int32} {f_noteData : Int32} {f_noteP : Int32} {f_noteQ : Int32} {f_waiting : Int32} {f_delay : Int32} {a_disk : Nat → Int32} {a_health : Nat → Int32} {a_mark : Nat → Int32} {a_there : Nat → Int32} {a_power : Nat → Int32} {a_place : Nat → Int32} {a_map : Nat → Int32} {a_uses : Nat → Int32} {a_data : Nat → Int32} {a_waitMap : Nat → Int32} {a_waitValue : Nat → Int32}
theorem rd_x_i162 {post : SX → Prop} (hp : post (f_volumes, f_free, f_shared, f_crashAfter, f_next, f_bad, f_down, f_noteMap, f_noteBlock, f_noteData, f_noteP, f_noteQ, f_waiting, f_delay, a_disk, a_health, a_mark, rd_th (fun _ => 0) (fun _ => 0), a_power, a_place, a_map, a_uses, a_data, a_waitMap, a_waitValue)) : ∀ (d i n : Nat) (f : Nat → Int32), i + d = 16 → d < n → f = (fun s => if s < i then 63 else 0) → wX_init_162 post f_volumes f_free f_shared f_crashAfter f_next f_bad f_down f_noteMap f_noteBlock f_noteData f_noteP f_noteQ f_waiting f_delay n (nI i) a_disk a_health a_mark f a_power a_place a_map a_uses a_data a_waitMap a_waitValue
  | _, _, 0, _, _, h, _ => by omega
  | 0, i, n + 1, f, h, _, hf => by
    have : i = 16 := by omega
    subst this
    rw [← rd_th_0] at hf
    subst hf
    unfold wX_init_162
    exact br_t (by decide) hp
  | d + 1, i, n + 1, f, h, hn, hf => by
    subst hf
    unfold wX_init_162
    have e63 : vp_nar .byte 63 = nI 63 := rd_nb' (by decide)
    refine br_f (nI_ge (b := 16) (by omega) (by decide)) ⟨vp_in_nI (by omega) (by omega), ?_⟩
    rw [nI_clamp (by omega), e63]
    refine nm_e (nm_r (nI_1 i) (rd_x_i162 hp d (i + 1) n _ (by omega) (by omega) ?_))
    funext s
    show (if s = i then nI 63 else if s < i then 63 else 0) = if s < i + 1 then 63 else 0
    by_cases z : s = i
    · rw [if_pos z, if_pos (by omega)]; rfl
    · rw [if_neg z]
      by_cases y : s < i
      · rw [if_pos y, if_pos (by omega)]
      · rw [if_neg y, if_neg (by omega)]
theorem rd_x_i114 {post : SX → Prop} (hp : post (f_volumes, f_free, f_shared, f_crashAfter, f_next, f_bad, f_down, f_noteMap, f_noteBlock, f_noteData, f_noteP, f_noteQ, f_waiting, f_delay, a_disk, a_health, a_mark, rd_th (fun _ => 0) (fun _ => 0), rd_PW, rd_PL, a_map, a_uses, a_data, a_waitMap, a_waitValue)) : ∀ (d k n : Nat) (f g : Nat → Int32), k + d = 255 → d < n → f = rd_pk k → g = rd_lk k → wX_init_114 post f_volumes f_free f_shared f_crashAfter f_next f_bad f_down f_noteMap f_noteBlock f_noteData f_noteP f_noteQ f_waiting f_delay n (nI (rd_pw (k % 255))) (nI k) a_disk a_health a_mark (fun _ => 0) f g a_map a_uses a_data a_waitMap a_waitValue
  | _, _, 0, _, _, _, h, _, _ => by omega
  | 0, k, n + 1, f, g, h, _, hf, hg => by
    have : k = 255 := by omega
    subst this
    rw [rd_pk_255] at hf
    rw [rd_lk_255] at hg
    subst hf hg
    unfold wX_init_114
    refine br_t (by decide) ⟨17, rd_x_i162 hp 16 0 17 _ rfl (by decide) ?_⟩
    funext s
    exact (if_neg (by omega)).symm
  | d + 1, k, n + 1, f, g, h, hn, hf, hg => by
    subst hf hg
    have hk : k < 255 := by omega
    obtain ⟨p1, p2, p3⟩ := rd_pw_r k hk
    have ih := rd_x_i114 hp d (k + 1) n _ _ (by omega) (by omega) rfl rfl
    rw [rd_pw_s k hk] at ih
    unfold wX_init_114
    have e255 : nI k + 255 = nI (k + 255) := nI_add k 255
    rw [Nat.mod_eq_of_lt hk, e255, nI_clamp (n := k) (by omega), nI_clamp (n := k + 255) (by omega), nI_clamp (n := rd_pw k) (by omega), rd_ns p2, rd_ns (show k < 256 by omega), rd_lk_s hk]
    refine br_f (nI_ge (b := 255) hk (by decide)) ⟨vp_in_nI (by omega) (by omega), nm_e ⟨vp_in_nI (by omega) (by omega), ?_⟩⟩
    rw [rd_pk_s hk]
    exact nm_e ⟨vp_in_nI p2 (by omega), nm_e (rd_x_tw p2 (nm_r (nI_1 k) ih))⟩
end
section
variable {f_delay : Int32} {f_crash : Int32} {f_cursor : Int32} {f_bad : Int32} {f_down : Int32} {f_waiting : Int32} {f_noteBlock : Int32} {f_noteFor : Int32} {a_bytes : Nat → Int32} {a_health : Nat → Int32} {a_mark : Nat → Int32} {a_there : Nat → Int32} {a_on : Nat → Int32} {a_waitsFor : Nat → Int32} {a_waits : Nat → Int32} {a_note : Nat → Int32} {a_worth : Nat → Int32}
theorem rd_y_i89 {post : SY → Prop} (hp : post (f_delay, f_crash, f_cursor, f_bad, f_down, f_waiting, f_noteBlock, f_noteFor, a_bytes, a_health, a_mark, a_there, rd_on (fun _ => 0), a_waitsFor, a_waits, a_note, a_worth)) : ∀ (d i n : Nat) (f : Nat → Int32), i + d = 120 → d < n → f = (fun s => if s < i then -1 else 0) → wY_init_89 post f_delay f_crash f_cursor f_bad f_down f_waiting f_noteBlock f_noteFor n (nI i) a_bytes a_health a_mark a_there f a_waitsFor a_waits a_note a_worth
  | _, _, 0, _, _, h, _ => by omega
  | 0, i, n + 1, f, h, _, hf => by
    have : i = 120 := by omega
    subst this
    have e : f = rd_on (fun _ => 0) := by
      rw [hf]; funext s
      show _ = if s < 120 then nI 0 - 1 else 0
      rw [rd_m10]
    subst e
    unfold wY_init_89
    exact br_t (by decide) hp
  | d + 1, i, n + 1, f, h, hn, hf => by
    subst hf
    unfold wY_init_89
    refine br_f (nI_ge (b := 120) (by omega) (by decide)) ⟨vp_in_nI (by omega) (by omega), ?_⟩
    rw [nI_clamp (by omega)]
    refine nm_e (nm_r (nI_1 i) (rd_y_i89 hp d (i + 1) n _ (by omega) (by omega) ?_))
    funext s
    show (if s = i then -1 else if s < i then -1 else 0) = if s < i + 1 then -1 else 0
    by_cases z : s = i
    · rw [if_pos z, if_pos (by omega)]
    · rw [if_neg z]
      by_cases y : s < i
      · rw [if_pos y, if_pos (by omega)]
      · rw [if_neg y, if_neg (by omega)]
end
theorem rd_ct_0 (b : Nat) : rd_ct (fun _ => 0) b = 0 := rd_c_z.mpr (fun i _ => decide_eq_false (show ¬ 0 = b + 1 by omega))
theorem rd_0F : lN (rd_k (rd_fz (fun _ => 0)) 64) = -1 := by
  have e : rd_k (rd_fz (fun _ => 0)) 64 = 2 ^ 64 - 1 := rd_k_f.mpr (fun b _ => decide_eq_true (rd_ct_0 b))
  rw [e, rd_m1L]
theorem rd_0S : nI (rd_c (rd_sh (fun _ => 0)) 64) = 0 := by
  have e : rd_c (rd_sh (fun _ => 0)) 64 = 0 := rd_c_z.mpr (fun b _ => decide_eq_false (by rw [rd_ct_0]; decide))
  rw [e]; rfl
theorem rd_0U : rd_uF (fun _ => 0) = fun _ => 0 := by
  funext b
  show (if b < 64 then nI (rd_ct (fun _ => 0) b) else 0) = 0
  rw [rd_ct_0]
  split <;> rfl
theorem rd_0N : rd_nF (fun _ => 0) = fun _ => 0 := rfl
theorem rd_0B : rd_bF (fun _ => 0) = fun _ => 0 := by
  funext j
  show sb_b 0 = 0
  decide
theorem rd_0T : rd_nt 0 0 0 = fun _ => 0 := by
  funext j
  unfold rd_nt
  split
  · rfl
  · split
    · rfl
    · split <;> rfl
theorem rd_0V : nI (rd_k (fun v => decide (v = 0)) 6) = 1 := by decide
theorem rd_0W : upd (fun _ => 0) 0 (vp_nar .boolean 1) = rd_vF (fun v => decide (v = 0)) := by
  rw [rd_no]
  funext j
  show (if j = 0 then rd_b true else 0) = rd_b (decide (j = 0))
  by_cases h : j = 0
  · rw [if_pos h, decide_eq_true h]
  · rw [if_neg h, decide_eq_false h]; rfl
theorem i_vc0 : wpX_init (fun u => wpY_init (fun v => i_Rel 0 u v)) := by
  have R : i_Rel 0 (nI (rd_k (fun v => decide (v = 0)) 6), lN (rd_k (rd_fz (fun _ => 0)) 64), nI (rd_c (rd_sh (fun _ => 0)) 64), (-1), nI 0, 0, 0, nI 0, nI 0, nI 0, nI 0, nI 0, nI 0, nI 0, rd_bF (fun _ => 0), rd_nF (fun _ => 0), rd_nF (fun _ => 0), rd_th (fun _ => 0) (fun _ => 0), rd_PW, rd_PL, rd_nF (fun _ => 0), rd_uF (fun _ => 0), (fun _ => 0), rd_nF (fun _ => 0), rd_nF (fun _ => 0)) (nI 0, (-1), nI 0, 0, 0, nI 0, nI 0, nI 0, rd_nF (fun _ => 0), rd_nF (fun _ => 0), rd_nF (fun _ => 0), rd_vF (fun v => decide (v = 0)), rd_on (fun _ => 0), rd_nF (fun _ => 0), rd_nF (fun _ => 0), rd_nt 0 0 0, (fun _ => 0)) := by
    refine rd_mk ⟨⟨by decide, by decide, by decide⟩, ⟨by decide, by decide, by decide, by decide, by decide⟩, Or.inl rfl, fun z => absurd rfl z, fun _ => (show 0 < 256 by decide), fun _ => (show 0 ≤ 2 by decide), fun _ => (show 0 ≤ 16 by decide), fun _ _ => (show 0 ≤ 15 by decide), fun _ => (show 0 ≤ 64 by decide), fun _ _ _ _ _ => rfl, fun _ => (show 0 < 120 by decide), fun _ => (show 0 < 256 by decide), fun i hi => absurd hi (Nat.not_lt_zero _)⟩
  rw [rd_0V, rd_0F, rd_0S, rd_0U, rd_0B, rd_0T] at R
  refine ⟨256, rd_x_i114 ?_ 255 0 256 _ _ rfl (by decide) rd_pk_0.symm rd_lk_0.symm⟩
  refine nm_r rd_0W ⟨121, rd_y_i89 R 120 0 121 _ rfl (by decide) ?_⟩
  funext s
  exact (if_neg (by omega)).symm
end
