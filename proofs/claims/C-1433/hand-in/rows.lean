section
/-! pure rows to paste: stores, nI and lN arithmetic, masks, shifts, narrowing, branches by naturals (pk_le, pk_lt, pk_eq), loops (lp1 .. lp16: the measure of the state; rp1 ..: recursion), negatives. Take what you need -/
theorem pk_us {f : Nat → Int32} {k : Nat} {x : Int32} : upd f k x k = x := if_pos rfl
theorem pk_un {f : Nat → Int32} {k j : Nat} {x : Int32} (h : j ≠ k) : upd f k x j = f j := if_neg h
theorem pk_uLs {f : Nat → Int64} {k : Nat} {x : Int64} : vp_updL f k x k = x := if_pos rfl
theorem pk_uLn {f : Nat → Int64} {k j : Nat} {x : Int64} (h : j ≠ k) : vp_updL f k x j = f j := if_neg h
theorem pk_sub {a b : Nat} (h : b ≤ a) : nI a - nI b = nI (a - b) := by
  obtain ⟨c, rfl⟩ : ∃ c, a = c + b := ⟨a - b, by omega⟩
  rw [← nI_add, Int32.add_sub_cancel, Nat.add_sub_cancel]
theorem pk_m1 (n : Nat) : nI (n + 1) + (-1) = nI n := by
  rw [← nI_1, Int32.add_assoc, show (1 : Int32) + (-1) = 0 from rfl, Int32.add_zero]
theorem pk_mul (a b : Nat) : nI a * nI b = nI (a * b) := (Int32.ofNat_mul a b).symm
theorem pk_div {a d : Nat} (ha : a < 2 ^ 31) (h0 : 0 < d) (hd : d < 2 ^ 31) : nI a / nI d = nI (a / d) := by
  apply Int32.toInt_inj.mp
  rw [lg_idiv_nonneg (by rw [nI_toInt ha]; omega) (by rw [nI_toInt hd]; omega), nI_toInt ha, nI_toInt hd, nI_toInt (Nat.lt_of_le_of_lt (Nat.div_le_self a d) ha)]
  first | rfl | exact (Int.natCast_ediv _ _).symm
theorem pk_rem {a d : Nat} (ha : a < 2 ^ 31) (h0 : 0 < d) (hd : d < 2 ^ 31) : nI a - nI a / nI d * nI d = nI (a % d) := by
  rw [pk_div ha h0 hd, pk_mul, pk_sub (Nat.div_mul_le_self a d)]
  exact congrArg nI (by have := Nat.div_add_mod' a d; omega)
theorem pk_sub_toInt {a b : Nat} (ha : a < 2 ^ 30) (hb : b < 2 ^ 30) : (nI a - nI b).toInt = (a : Int) - b := by
  rw [Int32.toInt_sub, nI_toInt (by omega), nI_toInt (by omega)]
  exact Int.bmod_eq_of_le (by omega) (by omega)
theorem pk_sneg {a b : Nat} (hb : b < 2 ^ 30) (h : a < b) : nI a - nI b < 0 := by
  rw [Int32.lt_iff_toInt_lt, pk_sub_toInt (by omega) hb, show (0 : Int32).toInt = 0 from by decide]
  omega
theorem pk_ix (x : Int32) {n : Nat} (hn : n < 2 ^ 31) : x < 0 ∨ nI n ≤ x ∨ ∃ j : Nat, j < n ∧ x = nI j := by
  by_cases h : x < 0
  · exact Or.inl h
  · obtain ⟨j, hj, rfl⟩ := nI_of h
    by_cases h2 : j < n
    · exact Or.inr (Or.inr ⟨j, h2, rfl⟩)
    · exact Or.inr (Or.inl (nI_le (by omega) hj))
theorem pk_le {x y : Int32} {A B : Prop} (a b : Nat) (f : a ≤ b → A) (g : b < a → B) (hx : x = nI a := by rfl) (hy : y = nI b := by rfl) (ha : a < 2 ^ 31 := by omega) (hb : b < 2 ^ 31 := by omega) : (x ≤ y → A) ∧ (¬ x ≤ y → B) := by
  subst hx hy
  rw [nI_leI ha hb]
  exact ⟨f, fun z => g (by omega)⟩
theorem pk_lt {x y : Int32} {A B : Prop} (a b : Nat) (f : a < b → A) (g : b ≤ a → B) (hx : x = nI a := by rfl) (hy : y = nI b := by rfl) (ha : a < 2 ^ 31 := by omega) (hb : b < 2 ^ 31 := by omega) : (x < y → A) ∧ (¬ x < y → B) := by
  subst hx hy
  rw [nI_ltI ha hb]
  exact ⟨f, fun z => g (by omega)⟩
theorem pk_eq {x y : Int32} {A B : Prop} (a b : Nat) (f : a = b → A) (g : a ≠ b → B) (hx : x = nI a := by rfl) (hy : y = nI b := by rfl) (ha : a < 2 ^ 31 := by omega) (hb : b < 2 ^ 31 := by omega) : (x = y → A) ∧ (¬ x = y → B) := by
  subst hx hy
  rw [nI_eq ha hb]
  exact ⟨f, g⟩
theorem pk_in {x : Int32} (n N : Nat) (h : n < N) (hx : x = nI n := by rfl) (hN : N < 2 ^ 31 := by omega) : vp_in x N := by
  subst hx
  exact vp_in_nI h hN
theorem pk_cl {x : Int32} (n : Nat) (hx : x = nI n := by rfl) (h : n < 2 ^ 31 := by omega) : x.toNatClampNeg = n := by
  subst hx
  exact nI_clamp h
theorem pk_tn {n : Nat} (h : n < 2 ^ 32) : (nI n).toBitVec.toNat = n := Nat.mod_eq_of_lt h
theorem pk_and (x : Int32) {m : Int32} (k : Nat) (hm : m.toBitVec.toNat = 2 ^ k - 1) : x &&& m = nI (x.toBitVec.toNat % 2 ^ k) := by
  apply Int32.toBitVec_inj.mp
  apply BitVec.eq_of_toNat_eq
  rw [Int32.toBitVec_and, BitVec.toNat_and, hm, Nat.and_two_pow_sub_one_eq_mod]
  show _ = (BitVec.ofNat 32 _).toNat
  rw [BitVec.toNat_ofNat]
  exact (Nat.mod_eq_of_lt (Nat.lt_of_le_of_lt (Nat.mod_le _ _) x.toBitVec.isLt)).symm
theorem pk_andN {n : Nat} (h : n < 2 ^ 32) {m : Int32} (k : Nat) (hm : m.toBitVec.toNat = 2 ^ k - 1) : nI n &&& m = nI (n % 2 ^ k) := by
  rw [pk_and _ k hm, pk_tn h]
theorem pk_andE (x : Int32) {m : Int32} (k : Nat) (hm : m.toBitVec.toNat = 2 ^ k - 1) : ∃ j : Nat, j < 2 ^ k ∧ x &&& m = nI j := ⟨_, Nat.mod_lt _ (Nat.two_pow_pos k), pk_and x k hm⟩
theorem pk_andIn (x : Int32) {m : Int32} (k : Nat) (hm : m.toBitVec.toNat = 2 ^ k - 1) (hk : k ≤ 30) : vp_in (x &&& m) (2 ^ k) := by
  obtain ⟨j, hj, e⟩ := pk_andE x k hm
  rw [e]
  exact vp_in_nI hj (Nat.lt_of_le_of_lt (Nat.pow_le_pow_right (by decide) hk) (by decide))
theorem pk_shl (a s : Int32) (k : Nat) (hs : (s.toBitVec.smod 32).toNat = k) : (a <<< s).toBitVec.toNat = a.toBitVec.toNat * 2 ^ k % 2 ^ 32 := by
  show (a.toBitVec <<< (s.toBitVec.smod 32).toNat).toNat = _
  rw [hs, BitVec.toNat_shiftLeft, Nat.shiftLeft_eq]
theorem pk_shlN {n : Nat} (s : Int32) (k : Nat) (hs : (s.toBitVec.smod 32).toNat = k) (h : n * 2 ^ k < 2 ^ 32) : nI n <<< s = nI (n * 2 ^ k) := by
  apply Int32.toBitVec_inj.mp
  apply BitVec.eq_of_toNat_eq
  have hn : n < 2 ^ 32 := Nat.lt_of_le_of_lt (Nat.le_mul_of_pos_right n (Nat.two_pow_pos k)) h
  rw [pk_shl _ _ k hs, pk_tn hn, pk_tn h, Nat.mod_eq_of_lt h]
theorem pk_shr (a s : Int32) (k : Nat) (hs : (s.toBitVec.smod 32).toNat = k) : (a >>> s).toInt = a.toInt >>> k := by
  show (a.toBitVec.sshiftRight (s.toBitVec.smod 32).toNat).toInt = _
  rw [hs, BitVec.toInt_sshiftRight]
  rfl
theorem pk_shrN {n : Nat} (h : n < 2 ^ 31) (s : Int32) (k : Nat) (hs : (s.toBitVec.smod 32).toNat = k) : nI n >>> s = nI (n / 2 ^ k) := by
  apply Int32.toInt_inj.mp
  have h2 : n / 2 ^ k ≤ n := Nat.div_le_self _ _
  rw [pk_shr _ _ k hs, nI_toInt h, nI_toInt (by omega), Int.shiftRight_eq_div_pow]
  rfl
theorem pk_ushr (x s : Int32) (k : Nat) (hs : ((s.toUInt32 &&& Int32.toUInt32 31).toBitVec % 32).toNat = k) : (x.toUInt32 >>> (s.toUInt32 &&& Int32.toUInt32 31)).toInt32.toBitVec.toNat = x.toBitVec.toNat / 2 ^ k := by
  have e : (x.toUInt32 >>> (s.toUInt32 &&& Int32.toUInt32 31)).toInt32.toBitVec = x.toBitVec >>> k := by
    rw [← hs]
    exact UInt32.toBitVec_shiftRight _ _
  rw [e, BitVec.toNat_ushiftRight, Nat.shiftRight_eq_div_pow]
theorem pk_ushrN {n : Nat} (hn : n < 2 ^ 32) (s : Int32) (k : Nat) (hs : ((s.toUInt32 &&& Int32.toUInt32 31).toBitVec % 32).toNat = k) : ((nI n).toUInt32 >>> (s.toUInt32 &&& Int32.toUInt32 31)).toInt32 = nI (n / 2 ^ k) := by
  apply Int32.toBitVec_inj.mp
  apply BitVec.eq_of_toNat_eq
  rw [pk_ushr _ s k hs, pk_tn hn, pk_tn (Nat.lt_of_le_of_lt (Nat.div_le_self _ _) hn)]
theorem pk_nb (z : Int32) : narrow .byte (.int z.toInt8.toInt32) = .int z.toInt8.toInt32 := congrArg Value.int (by simp)
theorem pk_ns (z : Int32) : narrow .short (.int z.toInt16.toInt32) = .int z.toInt16.toInt32 := congrArg Value.int (by simp)
theorem pk_fb (r : Int32) : fits .byte (.int r.toInt8.toInt32) = true := by
  have ⟨a, b⟩ := lg_i2b_range r
  have h1 : (-128 : Int32).toInt = -128 := by decide
  have h2 : (127 : Int32).toInt = 127 := by decide
  simp only [fits, Bool.and_eq_true, decide_eq_true_eq, Int32.le_iff_toInt_le, h1, h2]
  omega
theorem pk_fs (r : Int32) : fits .short (.int r.toInt16.toInt32) = true := by
  have ⟨a, b⟩ := lg_i2s_range r
  have h1 : (-32768 : Int32).toInt = -32768 := by decide
  have h2 : (32767 : Int32).toInt = 32767 := by decide
  simp only [fits, Bool.and_eq_true, decide_eq_true_eq, Int32.le_iff_toInt_le, h1, h2]
  omega
theorem pk_charN {q : Nat} (hq : q < 65536) : narrow .char (.int (nI q)) = .int (nI q) ∧ fits .char (.int (nI q)) = true := by
  constructor
  · have e : (nI q).toUInt32.toUInt16.toUInt32.toInt32 = nI q := by
      apply Int32.toBitVec_inj.mp
      apply BitVec.eq_of_toNat_eq
      show (nI q).toUInt32.toUInt16.toUInt32.toNat = q % 2 ^ 32
      rw [UInt16.toNat_toUInt32, UInt32.toNat_toUInt16, show (nI q).toUInt32.toNat = q % 2 ^ 32 from rfl]
      omega
    exact congrArg Value.int e
  · have a : (0 : Int32) ≤ nI q := nI_pos' (by omega)
    have b : nI q ≤ 65535 := nI_le (b := 65535) (by omega) (by decide)
    show (decide ((0 : Int32) ≤ nI q) && decide (nI q ≤ 65535)) = true
    rw [decide_eq_true a, decide_eq_true b]
    rfl
theorem pk_char (x : Int32) : (x.toUInt32 % 65536).toInt32 = nI (x.toBitVec.toNat % 65536) := by
  apply Int32.toBitVec_inj.mp
  apply BitVec.eq_of_toNat_eq
  rw [pk_tn (by omega)]
  show (x.toUInt32 % 65536).toNat = _
  rw [UInt32.toNat_mod]
  rfl
theorem pk_nc (x : Int32) : narrow .char (.int (x.toUInt32 % 65536).toInt32) = .int (x.toUInt32 % 65536).toInt32 := by
  rw [pk_char]
  exact (pk_charN (Nat.mod_lt _ (by decide))).1
theorem pk_fc (x : Int32) : fits .char (.int (x.toUInt32 % 65536).toInt32) = true := by
  rw [pk_char]
  exact (pk_charN (Nat.mod_lt _ (by decide))).2
theorem pk_vb (z : Int32) : vp_nar .byte z.toInt8.toInt32 = z.toInt8.toInt32 := by rw [vp_nar_byte]; simp
theorem pk_vs (z : Int32) : vp_nar .short z.toInt16.toInt32 = z.toInt16.toInt32 := by rw [vp_nar_short]; simp
theorem pk_vc (z : Int32) : vp_nar .char (z.toUInt32 % 65536).toInt32 = (z.toUInt32 % 65536).toInt32 := Value.int.inj (pk_nc z)
theorem pk_lT {n : Nat} (h : n < 2 ^ 63) : (lN n).toInt = (n : Int) := lg_ofNat_toInt h
theorem pk_lLT {a b : Nat} (ha : a < 2 ^ 63) (hb : b < 2 ^ 63) : lN a < lN b ↔ a < b := by
  rw [Int64.lt_iff_toInt_lt, pk_lT ha, pk_lT hb]; omega
theorem pk_lLE {a b : Nat} (ha : a < 2 ^ 63) (hb : b < 2 ^ 63) : lN a ≤ lN b ↔ a ≤ b := by
  rw [Int64.le_iff_toInt_le, pk_lT ha, pk_lT hb]; omega
theorem pk_lEQ {a b : Nat} (ha : a < 2 ^ 63) (hb : b < 2 ^ 63) : lN a = lN b ↔ a = b := by
  rw [← Int64.toInt_inj, pk_lT ha, pk_lT hb]; omega
theorem pk_lOf {x : Int64} (h : ¬ x < 0) : ∃ k : Nat, k < 2 ^ 63 ∧ x = lN k := by
  rw [Int64.lt_iff_toInt_lt] at h
  have h0 : (0 : Int64).toInt = 0 := by decide
  have hx := Int64.toInt_lt x
  refine ⟨x.toInt.toNat, by omega, Int64.toInt_inj.mp ?_⟩
  rw [pk_lT (by omega)]
  omega
theorem pk_lDiv {a b : Nat} (ha : a < 2 ^ 63) (h0 : 0 < b) (hb : b < 2 ^ 63) : lN a / lN b = lN (a / b) := by
  apply Int64.toInt_inj.mp
  rw [lg_ldiv_nonneg (by rw [pk_lT ha]; omega) (by rw [pk_lT hb]; omega), pk_lT ha, pk_lT hb, pk_lT (Nat.lt_of_le_of_lt (Nat.div_le_self a b) ha)]
  rfl
theorem pk_lRem {a b : Nat} (ha : a < 2 ^ 63) (h0 : 0 < b) (hb : b < 2 ^ 63) : lN a - lN a / lN b * lN b = lN (a % b) := by
  rw [pk_lDiv ha h0 hb, lN_mul, lN_sub (Nat.div_mul_le_self a b)]
  exact congrArg lN (by have := Nat.div_add_mod' a b; omega)
theorem pk_loop {σ : Type} (W : Nat → Nat → σ → Prop) (I : Nat → σ → Prop) (e i0 : Nat) (s : σ) (hi : i0 ≤ e) (h0 : I i0 s) (hx : ∀ n s, I e s → W (n + 1) e s)
    (hs : ∀ n i s, i < e → I i s → (∀ s', I (i + 1) s' → W n (i + 1) s') → W (n + 1) i s) : ∃ n, W n i0 s :=
  ⟨e + 1, loop_i W I e hx hs (e + 1) i0 s hi (by omega) h0⟩
theorem pk_loopD {σ : Type} (W : Nat → Nat → σ → Prop) (I : Nat → σ → Prop) (hx : ∀ n s, I 0 s → W (n + 1) 0 s)
    (hs : ∀ n i s, I (i + 1) s → (∀ s', I i s' → W n i s') → W (n + 1) (i + 1) s) : ∀ (e : Nat) (s : σ), I e s → W (e + 1) e s := by
  intro e
  induction e with
  | zero => exact fun s h => hx 0 s h
  | succ e ih => exact fun s h => hs (e + 1) e s h (fun s' h' => ih s' h')
theorem lp1 {A1 : Type} (W : Nat → A1 → Prop) (I : A1 → Prop) (μ : A1 → Nat) (hs : ∀ (n : Nat) (a1 : A1), I a1 → (∀ (b1 : A1), I b1 → μ b1 < μ a1 → W n b1) → W (n + 1) a1) (a1 : A1) (h : I a1) : ∃ n, W n a1 :=
  loop_m (σ := A1) (fun n s => W n s) (fun s => I s) (fun s => μ s) (fun n s hI hk => hs n s hI (fun b1 h9 hm => hk b1 h9 hm)) a1 h
theorem lp2 {A1 A2 : Type} (W : Nat → A1 → A2 → Prop) (I : A1 → A2 → Prop) (μ : A1 → A2 → Nat) (hs : ∀ (n : Nat) (a1 : A1) (a2 : A2), I a1 a2 → (∀ (b1 : A1) (b2 : A2), I b1 b2 → μ b1 b2 < μ a1 a2 → W n b1 b2) → W (n + 1) a1 a2) (a1 : A1) (a2 : A2) (h : I a1 a2) : ∃ n, W n a1 a2 :=
  loop_m (σ := A1 × A2) (fun n s => W n s.1 s.2) (fun s => I s.1 s.2) (fun s => μ s.1 s.2) (fun n s hI hk => hs n s.1 s.2 hI (fun b1 b2 h9 hm => hk (b1, b2) h9 hm)) (a1, a2) h
theorem lp3 {A1 A2 A3 : Type} (W : Nat → A1 → A2 → A3 → Prop) (I : A1 → A2 → A3 → Prop) (μ : A1 → A2 → A3 → Nat) (hs : ∀ (n : Nat) (a1 : A1) (a2 : A2) (a3 : A3), I a1 a2 a3 → (∀ (b1 : A1) (b2 : A2) (b3 : A3), I b1 b2 b3 → μ b1 b2 b3 < μ a1 a2 a3 → W n b1 b2 b3) → W (n + 1) a1 a2 a3) (a1 : A1) (a2 : A2) (a3 : A3) (h : I a1 a2 a3) : ∃ n, W n a1 a2 a3 :=
  loop_m (σ := A1 × A2 × A3) (fun n s => W n s.1 s.2.1 s.2.2) (fun s => I s.1 s.2.1 s.2.2) (fun s => μ s.1 s.2.1 s.2.2) (fun n s hI hk => hs n s.1 s.2.1 s.2.2 hI (fun b1 b2 b3 h9 hm => hk (b1, b2, b3) h9 hm)) (a1, a2, a3) h
theorem lp4 {A1 A2 A3 A4 : Type} (W : Nat → A1 → A2 → A3 → A4 → Prop) (I : A1 → A2 → A3 → A4 → Prop) (μ : A1 → A2 → A3 → A4 → Nat) (hs : ∀ (n : Nat) (a1 : A1) (a2 : A2) (a3 : A3) (a4 : A4), I a1 a2 a3 a4 → (∀ (b1 : A1) (b2 : A2) (b3 : A3) (b4 : A4), I b1 b2 b3 b4 → μ b1 b2 b3 b4 < μ a1 a2 a3 a4 → W n b1 b2 b3 b4) → W (n + 1) a1 a2 a3 a4) (a1 : A1) (a2 : A2) (a3 : A3) (a4 : A4) (h : I a1 a2 a3 a4) : ∃ n, W n a1 a2 a3 a4 :=
  loop_m (σ := A1 × A2 × A3 × A4) (fun n s => W n s.1 s.2.1 s.2.2.1 s.2.2.2) (fun s => I s.1 s.2.1 s.2.2.1 s.2.2.2) (fun s => μ s.1 s.2.1 s.2.2.1 s.2.2.2) (fun n s hI hk => hs n s.1 s.2.1 s.2.2.1 s.2.2.2 hI (fun b1 b2 b3 b4 h9 hm => hk (b1, b2, b3, b4) h9 hm)) (a1, a2, a3, a4) h
theorem lp5 {A1 A2 A3 A4 A5 : Type} (W : Nat → A1 → A2 → A3 → A4 → A5 → Prop) (I : A1 → A2 → A3 → A4 → A5 → Prop) (μ : A1 → A2 → A3 → A4 → A5 → Nat) (hs : ∀ (n : Nat) (a1 : A1) (a2 : A2) (a3 : A3) (a4 : A4) (a5 : A5), I a1 a2 a3 a4 a5 → (∀ (b1 : A1) (b2 : A2) (b3 : A3) (b4 : A4) (b5 : A5), I b1 b2 b3 b4 b5 → μ b1 b2 b3 b4 b5 < μ a1 a2 a3 a4 a5 → W n b1 b2 b3 b4 b5) → W (n + 1) a1 a2 a3 a4 a5) (a1 : A1) (a2 : A2) (a3 : A3) (a4 : A4) (a5 : A5) (h : I a1 a2 a3 a4 a5) : ∃ n, W n a1 a2 a3 a4 a5 :=
  loop_m (σ := A1 × A2 × A3 × A4 × A5) (fun n s => W n s.1 s.2.1 s.2.2.1 s.2.2.2.1 s.2.2.2.2) (fun s => I s.1 s.2.1 s.2.2.1 s.2.2.2.1 s.2.2.2.2) (fun s => μ s.1 s.2.1 s.2.2.1 s.2.2.2.1 s.2.2.2.2) (fun n s hI hk => hs n s.1 s.2.1 s.2.2.1 s.2.2.2.1 s.2.2.2.2 hI (fun b1 b2 b3 b4 b5 h9 hm => hk (b1, b2, b3, b4, b5) h9 hm)) (a1, a2, a3, a4, a5) h
theorem lp6 {A1 A2 A3 A4 A5 A6 : Type} (W : Nat → A1 → A2 → A3 → A4 → A5 → A6 → Prop) (I : A1 → A2 → A3 → A4 → A5 → A6 → Prop) (μ : A1 → A2 → A3 → A4 → A5 → A6 → Nat) (hs : ∀ (n : Nat) (a1 : A1) (a2 : A2) (a3 : A3) (a4 : A4) (a5 : A5) (a6 : A6), I a1 a2 a3 a4 a5 a6 → (∀ (b1 : A1) (b2 : A2) (b3 : A3) (b4 : A4) (b5 : A5) (b6 : A6), I b1 b2 b3 b4 b5 b6 → μ b1 b2 b3 b4 b5 b6 < μ a1 a2 a3 a4 a5 a6 → W n b1 b2 b3 b4 b5 b6) → W (n + 1) a1 a2 a3 a4 a5 a6) (a1 : A1) (a2 : A2) (a3 : A3) (a4 : A4) (a5 : A5) (a6 : A6) (h : I a1 a2 a3 a4 a5 a6) : ∃ n, W n a1 a2 a3 a4 a5 a6 :=
  loop_m (σ := A1 × A2 × A3 × A4 × A5 × A6) (fun n s => W n s.1 s.2.1 s.2.2.1 s.2.2.2.1 s.2.2.2.2.1 s.2.2.2.2.2) (fun s => I s.1 s.2.1 s.2.2.1 s.2.2.2.1 s.2.2.2.2.1 s.2.2.2.2.2) (fun s => μ s.1 s.2.1 s.2.2.1 s.2.2.2.1 s.2.2.2.2.1 s.2.2.2.2.2) (fun n s hI hk => hs n s.1 s.2.1 s.2.2.1 s.2.2.2.1 s.2.2.2.2.1 s.2.2.2.2.2 hI (fun b1 b2 b3 b4 b5 b6 h9 hm => hk (b1, b2, b3, b4, b5, b6) h9 hm)) (a1, a2, a3, a4, a5, a6) h
theorem lp7 {A1 A2 A3 A4 A5 A6 A7 : Type} (W : Nat → A1 → A2 → A3 → A4 → A5 → A6 → A7 → Prop) (I : A1 → A2 → A3 → A4 → A5 → A6 → A7 → Prop) (μ : A1 → A2 → A3 → A4 → A5 → A6 → A7 → Nat) (hs : ∀ (n : Nat) (a1 : A1) (a2 : A2) (a3 : A3) (a4 : A4) (a5 : A5) (a6 : A6) (a7 : A7), I a1 a2 a3 a4 a5 a6 a7 → (∀ (b1 : A1) (b2 : A2) (b3 : A3) (b4 : A4) (b5 : A5) (b6 : A6) (b7 : A7), I b1 b2 b3 b4 b5 b6 b7 → μ b1 b2 b3 b4 b5 b6 b7 < μ a1 a2 a3 a4 a5 a6 a7 → W n b1 b2 b3 b4 b5 b6 b7) → W (n + 1) a1 a2 a3 a4 a5 a6 a7) (a1 : A1) (a2 : A2) (a3 : A3) (a4 : A4) (a5 : A5) (a6 : A6) (a7 : A7) (h : I a1 a2 a3 a4 a5 a6 a7) : ∃ n, W n a1 a2 a3 a4 a5 a6 a7 :=
  loop_m (σ := A1 × A2 × A3 × A4 × A5 × A6 × A7) (fun n s => W n s.1 s.2.1 s.2.2.1 s.2.2.2.1 s.2.2.2.2.1 s.2.2.2.2.2.1 s.2.2.2.2.2.2) (fun s => I s.1 s.2.1 s.2.2.1 s.2.2.2.1 s.2.2.2.2.1 s.2.2.2.2.2.1 s.2.2.2.2.2.2) (fun s => μ s.1 s.2.1 s.2.2.1 s.2.2.2.1 s.2.2.2.2.1 s.2.2.2.2.2.1 s.2.2.2.2.2.2) (fun n s hI hk => hs n s.1 s.2.1 s.2.2.1 s.2.2.2.1 s.2.2.2.2.1 s.2.2.2.2.2.1 s.2.2.2.2.2.2 hI (fun b1 b2 b3 b4 b5 b6 b7 h9 hm => hk (b1, b2, b3, b4, b5, b6, b7) h9 hm)) (a1, a2, a3, a4, a5, a6, a7) h
theorem lp8 {A1 A2 A3 A4 A5 A6 A7 A8 : Type} (W : Nat → A1 → A2 → A3 → A4 → A5 → A6 → A7 → A8 → Prop) (I : A1 → A2 → A3 → A4 → A5 → A6 → A7 → A8 → Prop) (μ : A1 → A2 → A3 → A4 → A5 → A6 → A7 → A8 → Nat) (hs : ∀ (n : Nat) (a1 : A1) (a2 : A2) (a3 : A3) (a4 : A4) (a5 : A5) (a6 : A6) (a7 : A7) (a8 : A8), I a1 a2 a3 a4 a5 a6 a7 a8 → (∀ (b1 : A1) (b2 : A2) (b3 : A3) (b4 : A4) (b5 : A5) (b6 : A6) (b7 : A7) (b8 : A8), I b1 b2 b3 b4 b5 b6 b7 b8 → μ b1 b2 b3 b4 b5 b6 b7 b8 < μ a1 a2 a3 a4 a5 a6 a7 a8 → W n b1 b2 b3 b4 b5 b6 b7 b8) → W (n + 1) a1 a2 a3 a4 a5 a6 a7 a8) (a1 : A1) (a2 : A2) (a3 : A3) (a4 : A4) (a5 : A5) (a6 : A6) (a7 : A7) (a8 : A8) (h : I a1 a2 a3 a4 a5 a6 a7 a8) : ∃ n, W n a1 a2 a3 a4 a5 a6 a7 a8 :=
  loop_m (σ := A1 × A2 × A3 × A4 × A5 × A6 × A7 × A8) (fun n s => W n s.1 s.2.1 s.2.2.1 s.2.2.2.1 s.2.2.2.2.1 s.2.2.2.2.2.1 s.2.2.2.2.2.2.1 s.2.2.2.2.2.2.2) (fun s => I s.1 s.2.1 s.2.2.1 s.2.2.2.1 s.2.2.2.2.1 s.2.2.2.2.2.1 s.2.2.2.2.2.2.1 s.2.2.2.2.2.2.2) (fun s => μ s.1 s.2.1 s.2.2.1 s.2.2.2.1 s.2.2.2.2.1 s.2.2.2.2.2.1 s.2.2.2.2.2.2.1 s.2.2.2.2.2.2.2) (fun n s hI hk => hs n s.1 s.2.1 s.2.2.1 s.2.2.2.1 s.2.2.2.2.1 s.2.2.2.2.2.1 s.2.2.2.2.2.2.1 s.2.2.2.2.2.2.2 hI (fun b1 b2 b3 b4 b5 b6 b7 b8 h9 hm => hk (b1, b2, b3, b4, b5, b6, b7, b8) h9 hm)) (a1, a2, a3, a4, a5, a6, a7, a8) h
theorem lp9 {A1 A2 A3 A4 A5 A6 A7 A8 A9 : Type} (W : Nat → A1 → A2 → A3 → A4 → A5 → A6 → A7 → A8 → A9 → Prop) (I : A1 → A2 → A3 → A4 → A5 → A6 → A7 → A8 → A9 → Prop) (μ : A1 → A2 → A3 → A4 → A5 → A6 → A7 → A8 → A9 → Nat) (hs : ∀ (n : Nat) (a1 : A1) (a2 : A2) (a3 : A3) (a4 : A4) (a5 : A5) (a6 : A6) (a7 : A7) (a8 : A8) (a9 : A9), I a1 a2 a3 a4 a5 a6 a7 a8 a9 → (∀ (b1 : A1) (b2 : A2) (b3 : A3) (b4 : A4) (b5 : A5) (b6 : A6) (b7 : A7) (b8 : A8) (b9 : A9), I b1 b2 b3 b4 b5 b6 b7 b8 b9 → μ b1 b2 b3 b4 b5 b6 b7 b8 b9 < μ a1 a2 a3 a4 a5 a6 a7 a8 a9 → W n b1 b2 b3 b4 b5 b6 b7 b8 b9) → W (n + 1) a1 a2 a3 a4 a5 a6 a7 a8 a9) (a1 : A1) (a2 : A2) (a3 : A3) (a4 : A4) (a5 : A5) (a6 : A6) (a7 : A7) (a8 : A8) (a9 : A9) (h : I a1 a2 a3 a4 a5 a6 a7 a8 a9) : ∃ n, W n a1 a2 a3 a4 a5 a6 a7 a8 a9 :=
  loop_m (σ := A1 × A2 × A3 × A4 × A5 × A6 × A7 × A8 × A9) (fun n s => W n s.1 s.2.1 s.2.2.1 s.2.2.2.1 s.2.2.2.2.1 s.2.2.2.2.2.1 s.2.2.2.2.2.2.1 s.2.2.2.2.2.2.2.1 s.2.2.2.2.2.2.2.2) (fun s => I s.1 s.2.1 s.2.2.1 s.2.2.2.1 s.2.2.2.2.1 s.2.2.2.2.2.1 s.2.2.2.2.2.2.1 s.2.2.2.2.2.2.2.1 s.2.2.2.2.2.2.2.2) (fun s => μ s.1 s.2.1 s.2.2.1 s.2.2.2.1 s.2.2.2.2.1 s.2.2.2.2.2.1 s.2.2.2.2.2.2.1 s.2.2.2.2.2.2.2.1 s.2.2.2.2.2.2.2.2) (fun n s hI hk => hs n s.1 s.2.1 s.2.2.1 s.2.2.2.1 s.2.2.2.2.1 s.2.2.2.2.2.1 s.2.2.2.2.2.2.1 s.2.2.2.2.2.2.2.1 s.2.2.2.2.2.2.2.2 hI (fun b1 b2 b3 b4 b5 b6 b7 b8 b9 h9 hm => hk (b1, b2, b3, b4, b5, b6, b7, b8, b9) h9 hm)) (a1, a2, a3, a4, a5, a6, a7, a8, a9) h
theorem lp10 {A1 A2 A3 A4 A5 A6 A7 A8 A9 A10 : Type} (W : Nat → A1 → A2 → A3 → A4 → A5 → A6 → A7 → A8 → A9 → A10 → Prop) (I : A1 → A2 → A3 → A4 → A5 → A6 → A7 → A8 → A9 → A10 → Prop) (μ : A1 → A2 → A3 → A4 → A5 → A6 → A7 → A8 → A9 → A10 → Nat) (hs : ∀ (n : Nat) (a1 : A1) (a2 : A2) (a3 : A3) (a4 : A4) (a5 : A5) (a6 : A6) (a7 : A7) (a8 : A8) (a9 : A9) (a10 : A10), I a1 a2 a3 a4 a5 a6 a7 a8 a9 a10 → (∀ (b1 : A1) (b2 : A2) (b3 : A3) (b4 : A4) (b5 : A5) (b6 : A6) (b7 : A7) (b8 : A8) (b9 : A9) (b10 : A10), I b1 b2 b3 b4 b5 b6 b7 b8 b9 b10 → μ b1 b2 b3 b4 b5 b6 b7 b8 b9 b10 < μ a1 a2 a3 a4 a5 a6 a7 a8 a9 a10 → W n b1 b2 b3 b4 b5 b6 b7 b8 b9 b10) → W (n + 1) a1 a2 a3 a4 a5 a6 a7 a8 a9 a10) (a1 : A1) (a2 : A2) (a3 : A3) (a4 : A4) (a5 : A5) (a6 : A6) (a7 : A7) (a8 : A8) (a9 : A9) (a10 : A10) (h : I a1 a2 a3 a4 a5 a6 a7 a8 a9 a10) : ∃ n, W n a1 a2 a3 a4 a5 a6 a7 a8 a9 a10 :=
  loop_m (σ := A1 × A2 × A3 × A4 × A5 × A6 × A7 × A8 × A9 × A10) (fun n s => W n s.1 s.2.1 s.2.2.1 s.2.2.2.1 s.2.2.2.2.1 s.2.2.2.2.2.1 s.2.2.2.2.2.2.1 s.2.2.2.2.2.2.2.1 s.2.2.2.2.2.2.2.2.1 s.2.2.2.2.2.2.2.2.2) (fun s => I s.1 s.2.1 s.2.2.1 s.2.2.2.1 s.2.2.2.2.1 s.2.2.2.2.2.1 s.2.2.2.2.2.2.1 s.2.2.2.2.2.2.2.1 s.2.2.2.2.2.2.2.2.1 s.2.2.2.2.2.2.2.2.2) (fun s => μ s.1 s.2.1 s.2.2.1 s.2.2.2.1 s.2.2.2.2.1 s.2.2.2.2.2.1 s.2.2.2.2.2.2.1 s.2.2.2.2.2.2.2.1 s.2.2.2.2.2.2.2.2.1 s.2.2.2.2.2.2.2.2.2) (fun n s hI hk => hs n s.1 s.2.1 s.2.2.1 s.2.2.2.1 s.2.2.2.2.1 s.2.2.2.2.2.1 s.2.2.2.2.2.2.1 s.2.2.2.2.2.2.2.1 s.2.2.2.2.2.2.2.2.1 s.2.2.2.2.2.2.2.2.2 hI (fun b1 b2 b3 b4 b5 b6 b7 b8 b9 b10 h9 hm => hk (b1, b2, b3, b4, b5, b6, b7, b8, b9, b10) h9 hm)) (a1, a2, a3, a4, a5, a6, a7, a8, a9, a10) h
theorem lp11 {A1 A2 A3 A4 A5 A6 A7 A8 A9 A10 A11 : Type} (W : Nat → A1 → A2 → A3 → A4 → A5 → A6 → A7 → A8 → A9 → A10 → A11 → Prop) (I : A1 → A2 → A3 → A4 → A5 → A6 → A7 → A8 → A9 → A10 → A11 → Prop) (μ : A1 → A2 → A3 → A4 → A5 → A6 → A7 → A8 → A9 → A10 → A11 → Nat) (hs : ∀ (n : Nat) (a1 : A1) (a2 : A2) (a3 : A3) (a4 : A4) (a5 : A5) (a6 : A6) (a7 : A7) (a8 : A8) (a9 : A9) (a10 : A10) (a11 : A11), I a1 a2 a3 a4 a5 a6 a7 a8 a9 a10 a11 → (∀ (b1 : A1) (b2 : A2) (b3 : A3) (b4 : A4) (b5 : A5) (b6 : A6) (b7 : A7) (b8 : A8) (b9 : A9) (b10 : A10) (b11 : A11), I b1 b2 b3 b4 b5 b6 b7 b8 b9 b10 b11 → μ b1 b2 b3 b4 b5 b6 b7 b8 b9 b10 b11 < μ a1 a2 a3 a4 a5 a6 a7 a8 a9 a10 a11 → W n b1 b2 b3 b4 b5 b6 b7 b8 b9 b10 b11) → W (n + 1) a1 a2 a3 a4 a5 a6 a7 a8 a9 a10 a11) (a1 : A1) (a2 : A2) (a3 : A3) (a4 : A4) (a5 : A5) (a6 : A6) (a7 : A7) (a8 : A8) (a9 : A9) (a10 : A10) (a11 : A11) (h : I a1 a2 a3 a4 a5 a6 a7 a8 a9 a10 a11) : ∃ n, W n a1 a2 a3 a4 a5 a6 a7 a8 a9 a10 a11 :=
  loop_m (σ := A1 × A2 × A3 × A4 × A5 × A6 × A7 × A8 × A9 × A10 × A11) (fun n s => W n s.1 s.2.1 s.2.2.1 s.2.2.2.1 s.2.2.2.2.1 s.2.2.2.2.2.1 s.2.2.2.2.2.2.1 s.2.2.2.2.2.2.2.1 s.2.2.2.2.2.2.2.2.1 s.2.2.2.2.2.2.2.2.2.1 s.2.2.2.2.2.2.2.2.2.2) (fun s => I s.1 s.2.1 s.2.2.1 s.2.2.2.1 s.2.2.2.2.1 s.2.2.2.2.2.1 s.2.2.2.2.2.2.1 s.2.2.2.2.2.2.2.1 s.2.2.2.2.2.2.2.2.1 s.2.2.2.2.2.2.2.2.2.1 s.2.2.2.2.2.2.2.2.2.2) (fun s => μ s.1 s.2.1 s.2.2.1 s.2.2.2.1 s.2.2.2.2.1 s.2.2.2.2.2.1 s.2.2.2.2.2.2.1 s.2.2.2.2.2.2.2.1 s.2.2.2.2.2.2.2.2.1 s.2.2.2.2.2.2.2.2.2.1 s.2.2.2.2.2.2.2.2.2.2) (fun n s hI hk => hs n s.1 s.2.1 s.2.2.1 s.2.2.2.1 s.2.2.2.2.1 s.2.2.2.2.2.1 s.2.2.2.2.2.2.1 s.2.2.2.2.2.2.2.1 s.2.2.2.2.2.2.2.2.1 s.2.2.2.2.2.2.2.2.2.1 s.2.2.2.2.2.2.2.2.2.2 hI (fun b1 b2 b3 b4 b5 b6 b7 b8 b9 b10 b11 h9 hm => hk (b1, b2, b3, b4, b5, b6, b7, b8, b9, b10, b11) h9 hm)) (a1, a2, a3, a4, a5, a6, a7, a8, a9, a10, a11) h
theorem lp12 {A1 A2 A3 A4 A5 A6 A7 A8 A9 A10 A11 A12 : Type} (W : Nat → A1 → A2 → A3 → A4 → A5 → A6 → A7 → A8 → A9 → A10 → A11 → A12 → Prop) (I : A1 → A2 → A3 → A4 → A5 → A6 → A7 → A8 → A9 → A10 → A11 → A12 → Prop) (μ : A1 → A2 → A3 → A4 → A5 → A6 → A7 → A8 → A9 → A10 → A11 → A12 → Nat) (hs : ∀ (n : Nat) (a1 : A1) (a2 : A2) (a3 : A3) (a4 : A4) (a5 : A5) (a6 : A6) (a7 : A7) (a8 : A8) (a9 : A9) (a10 : A10) (a11 : A11) (a12 : A12), I a1 a2 a3 a4 a5 a6 a7 a8 a9 a10 a11 a12 → (∀ (b1 : A1) (b2 : A2) (b3 : A3) (b4 : A4) (b5 : A5) (b6 : A6) (b7 : A7) (b8 : A8) (b9 : A9) (b10 : A10) (b11 : A11) (b12 : A12), I b1 b2 b3 b4 b5 b6 b7 b8 b9 b10 b11 b12 → μ b1 b2 b3 b4 b5 b6 b7 b8 b9 b10 b11 b12 < μ a1 a2 a3 a4 a5 a6 a7 a8 a9 a10 a11 a12 → W n b1 b2 b3 b4 b5 b6 b7 b8 b9 b10 b11 b12) → W (n + 1) a1 a2 a3 a4 a5 a6 a7 a8 a9 a10 a11 a12) (a1 : A1) (a2 : A2) (a3 : A3) (a4 : A4) (a5 : A5) (a6 : A6) (a7 : A7) (a8 : A8) (a9 : A9) (a10 : A10) (a11 : A11) (a12 : A12) (h : I a1 a2 a3 a4 a5 a6 a7 a8 a9 a10 a11 a12) : ∃ n, W n a1 a2 a3 a4 a5 a6 a7 a8 a9 a10 a11 a12 :=
  loop_m (σ := A1 × A2 × A3 × A4 × A5 × A6 × A7 × A8 × A9 × A10 × A11 × A12) (fun n s => W n s.1 s.2.1 s.2.2.1 s.2.2.2.1 s.2.2.2.2.1 s.2.2.2.2.2.1 s.2.2.2.2.2.2.1 s.2.2.2.2.2.2.2.1 s.2.2.2.2.2.2.2.2.1 s.2.2.2.2.2.2.2.2.2.1 s.2.2.2.2.2.2.2.2.2.2.1 s.2.2.2.2.2.2.2.2.2.2.2) (fun s => I s.1 s.2.1 s.2.2.1 s.2.2.2.1 s.2.2.2.2.1 s.2.2.2.2.2.1 s.2.2.2.2.2.2.1 s.2.2.2.2.2.2.2.1 s.2.2.2.2.2.2.2.2.1 s.2.2.2.2.2.2.2.2.2.1 s.2.2.2.2.2.2.2.2.2.2.1 s.2.2.2.2.2.2.2.2.2.2.2) (fun s => μ s.1 s.2.1 s.2.2.1 s.2.2.2.1 s.2.2.2.2.1 s.2.2.2.2.2.1 s.2.2.2.2.2.2.1 s.2.2.2.2.2.2.2.1 s.2.2.2.2.2.2.2.2.1 s.2.2.2.2.2.2.2.2.2.1 s.2.2.2.2.2.2.2.2.2.2.1 s.2.2.2.2.2.2.2.2.2.2.2) (fun n s hI hk => hs n s.1 s.2.1 s.2.2.1 s.2.2.2.1 s.2.2.2.2.1 s.2.2.2.2.2.1 s.2.2.2.2.2.2.1 s.2.2.2.2.2.2.2.1 s.2.2.2.2.2.2.2.2.1 s.2.2.2.2.2.2.2.2.2.1 s.2.2.2.2.2.2.2.2.2.2.1 s.2.2.2.2.2.2.2.2.2.2.2 hI (fun b1 b2 b3 b4 b5 b6 b7 b8 b9 b10 b11 b12 h9 hm => hk (b1, b2, b3, b4, b5, b6, b7, b8, b9, b10, b11, b12) h9 hm)) (a1, a2, a3, a4, a5, a6, a7, a8, a9, a10, a11, a12) h
theorem lp13 {A1 A2 A3 A4 A5 A6 A7 A8 A9 A10 A11 A12 A13 : Type} (W : Nat → A1 → A2 → A3 → A4 → A5 → A6 → A7 → A8 → A9 → A10 → A11 → A12 → A13 → Prop) (I : A1 → A2 → A3 → A4 → A5 → A6 → A7 → A8 → A9 → A10 → A11 → A12 → A13 → Prop) (μ : A1 → A2 → A3 → A4 → A5 → A6 → A7 → A8 → A9 → A10 → A11 → A12 → A13 → Nat) (hs : ∀ (n : Nat) (a1 : A1) (a2 : A2) (a3 : A3) (a4 : A4) (a5 : A5) (a6 : A6) (a7 : A7) (a8 : A8) (a9 : A9) (a10 : A10) (a11 : A11) (a12 : A12) (a13 : A13), I a1 a2 a3 a4 a5 a6 a7 a8 a9 a10 a11 a12 a13 → (∀ (b1 : A1) (b2 : A2) (b3 : A3) (b4 : A4) (b5 : A5) (b6 : A6) (b7 : A7) (b8 : A8) (b9 : A9) (b10 : A10) (b11 : A11) (b12 : A12) (b13 : A13), I b1 b2 b3 b4 b5 b6 b7 b8 b9 b10 b11 b12 b13 → μ b1 b2 b3 b4 b5 b6 b7 b8 b9 b10 b11 b12 b13 < μ a1 a2 a3 a4 a5 a6 a7 a8 a9 a10 a11 a12 a13 → W n b1 b2 b3 b4 b5 b6 b7 b8 b9 b10 b11 b12 b13) → W (n + 1) a1 a2 a3 a4 a5 a6 a7 a8 a9 a10 a11 a12 a13) (a1 : A1) (a2 : A2) (a3 : A3) (a4 : A4) (a5 : A5) (a6 : A6) (a7 : A7) (a8 : A8) (a9 : A9) (a10 : A10) (a11 : A11) (a12 : A12) (a13 : A13) (h : I a1 a2 a3 a4 a5 a6 a7 a8 a9 a10 a11 a12 a13) : ∃ n, W n a1 a2 a3 a4 a5 a6 a7 a8 a9 a10 a11 a12 a13 :=
  loop_m (σ := A1 × A2 × A3 × A4 × A5 × A6 × A7 × A8 × A9 × A10 × A11 × A12 × A13) (fun n s => W n s.1 s.2.1 s.2.2.1 s.2.2.2.1 s.2.2.2.2.1 s.2.2.2.2.2.1 s.2.2.2.2.2.2.1 s.2.2.2.2.2.2.2.1 s.2.2.2.2.2.2.2.2.1 s.2.2.2.2.2.2.2.2.2.1 s.2.2.2.2.2.2.2.2.2.2.1 s.2.2.2.2.2.2.2.2.2.2.2.1 s.2.2.2.2.2.2.2.2.2.2.2.2) (fun s => I s.1 s.2.1 s.2.2.1 s.2.2.2.1 s.2.2.2.2.1 s.2.2.2.2.2.1 s.2.2.2.2.2.2.1 s.2.2.2.2.2.2.2.1 s.2.2.2.2.2.2.2.2.1 s.2.2.2.2.2.2.2.2.2.1 s.2.2.2.2.2.2.2.2.2.2.1 s.2.2.2.2.2.2.2.2.2.2.2.1 s.2.2.2.2.2.2.2.2.2.2.2.2) (fun s => μ s.1 s.2.1 s.2.2.1 s.2.2.2.1 s.2.2.2.2.1 s.2.2.2.2.2.1 s.2.2.2.2.2.2.1 s.2.2.2.2.2.2.2.1 s.2.2.2.2.2.2.2.2.1 s.2.2.2.2.2.2.2.2.2.1 s.2.2.2.2.2.2.2.2.2.2.1 s.2.2.2.2.2.2.2.2.2.2.2.1 s.2.2.2.2.2.2.2.2.2.2.2.2) (fun n s hI hk => hs n s.1 s.2.1 s.2.2.1 s.2.2.2.1 s.2.2.2.2.1 s.2.2.2.2.2.1 s.2.2.2.2.2.2.1 s.2.2.2.2.2.2.2.1 s.2.2.2.2.2.2.2.2.1 s.2.2.2.2.2.2.2.2.2.1 s.2.2.2.2.2.2.2.2.2.2.1 s.2.2.2.2.2.2.2.2.2.2.2.1 s.2.2.2.2.2.2.2.2.2.2.2.2 hI (fun b1 b2 b3 b4 b5 b6 b7 b8 b9 b10 b11 b12 b13 h9 hm => hk (b1, b2, b3, b4, b5, b6, b7, b8, b9, b10, b11, b12, b13) h9 hm)) (a1, a2, a3, a4, a5, a6, a7, a8, a9, a10, a11, a12, a13) h
theorem lp14 {A1 A2 A3 A4 A5 A6 A7 A8 A9 A10 A11 A12 A13 A14 : Type} (W : Nat → A1 → A2 → A3 → A4 → A5 → A6 → A7 → A8 → A9 → A10 → A11 → A12 → A13 → A14 → Prop) (I : A1 → A2 → A3 → A4 → A5 → A6 → A7 → A8 → A9 → A10 → A11 → A12 → A13 → A14 → Prop) (μ : A1 → A2 → A3 → A4 → A5 → A6 → A7 → A8 → A9 → A10 → A11 → A12 → A13 → A14 → Nat) (hs : ∀ (n : Nat) (a1 : A1) (a2 : A2) (a3 : A3) (a4 : A4) (a5 : A5) (a6 : A6) (a7 : A7) (a8 : A8) (a9 : A9) (a10 : A10) (a11 : A11) (a12 : A12) (a13 : A13) (a14 : A14), I a1 a2 a3 a4 a5 a6 a7 a8 a9 a10 a11 a12 a13 a14 → (∀ (b1 : A1) (b2 : A2) (b3 : A3) (b4 : A4) (b5 : A5) (b6 : A6) (b7 : A7) (b8 : A8) (b9 : A9) (b10 : A10) (b11 : A11) (b12 : A12) (b13 : A13) (b14 : A14), I b1 b2 b3 b4 b5 b6 b7 b8 b9 b10 b11 b12 b13 b14 → μ b1 b2 b3 b4 b5 b6 b7 b8 b9 b10 b11 b12 b13 b14 < μ a1 a2 a3 a4 a5 a6 a7 a8 a9 a10 a11 a12 a13 a14 → W n b1 b2 b3 b4 b5 b6 b7 b8 b9 b10 b11 b12 b13 b14) → W (n + 1) a1 a2 a3 a4 a5 a6 a7 a8 a9 a10 a11 a12 a13 a14) (a1 : A1) (a2 : A2) (a3 : A3) (a4 : A4) (a5 : A5) (a6 : A6) (a7 : A7) (a8 : A8) (a9 : A9) (a10 : A10) (a11 : A11) (a12 : A12) (a13 : A13) (a14 : A14) (h : I a1 a2 a3 a4 a5 a6 a7 a8 a9 a10 a11 a12 a13 a14) : ∃ n, W n a1 a2 a3 a4 a5 a6 a7 a8 a9 a10 a11 a12 a13 a14 :=
  loop_m (σ := A1 × A2 × A3 × A4 × A5 × A6 × A7 × A8 × A9 × A10 × A11 × A12 × A13 × A14) (fun n s => W n s.1 s.2.1 s.2.2.1 s.2.2.2.1 s.2.2.2.2.1 s.2.2.2.2.2.1 s.2.2.2.2.2.2.1 s.2.2.2.2.2.2.2.1 s.2.2.2.2.2.2.2.2.1 s.2.2.2.2.2.2.2.2.2.1 s.2.2.2.2.2.2.2.2.2.2.1 s.2.2.2.2.2.2.2.2.2.2.2.1 s.2.2.2.2.2.2.2.2.2.2.2.2.1 s.2.2.2.2.2.2.2.2.2.2.2.2.2) (fun s => I s.1 s.2.1 s.2.2.1 s.2.2.2.1 s.2.2.2.2.1 s.2.2.2.2.2.1 s.2.2.2.2.2.2.1 s.2.2.2.2.2.2.2.1 s.2.2.2.2.2.2.2.2.1 s.2.2.2.2.2.2.2.2.2.1 s.2.2.2.2.2.2.2.2.2.2.1 s.2.2.2.2.2.2.2.2.2.2.2.1 s.2.2.2.2.2.2.2.2.2.2.2.2.1 s.2.2.2.2.2.2.2.2.2.2.2.2.2) (fun s => μ s.1 s.2.1 s.2.2.1 s.2.2.2.1 s.2.2.2.2.1 s.2.2.2.2.2.1 s.2.2.2.2.2.2.1 s.2.2.2.2.2.2.2.1 s.2.2.2.2.2.2.2.2.1 s.2.2.2.2.2.2.2.2.2.1 s.2.2.2.2.2.2.2.2.2.2.1 s.2.2.2.2.2.2.2.2.2.2.2.1 s.2.2.2.2.2.2.2.2.2.2.2.2.1 s.2.2.2.2.2.2.2.2.2.2.2.2.2) (fun n s hI hk => hs n s.1 s.2.1 s.2.2.1 s.2.2.2.1 s.2.2.2.2.1 s.2.2.2.2.2.1 s.2.2.2.2.2.2.1 s.2.2.2.2.2.2.2.1 s.2.2.2.2.2.2.2.2.1 s.2.2.2.2.2.2.2.2.2.1 s.2.2.2.2.2.2.2.2.2.2.1 s.2.2.2.2.2.2.2.2.2.2.2.1 s.2.2.2.2.2.2.2.2.2.2.2.2.1 s.2.2.2.2.2.2.2.2.2.2.2.2.2 hI (fun b1 b2 b3 b4 b5 b6 b7 b8 b9 b10 b11 b12 b13 b14 h9 hm => hk (b1, b2, b3, b4, b5, b6, b7, b8, b9, b10, b11, b12, b13, b14) h9 hm)) (a1, a2, a3, a4, a5, a6, a7, a8, a9, a10, a11, a12, a13, a14) h
theorem lp15 {A1 A2 A3 A4 A5 A6 A7 A8 A9 A10 A11 A12 A13 A14 A15 : Type} (W : Nat → A1 → A2 → A3 → A4 → A5 → A6 → A7 → A8 → A9 → A10 → A11 → A12 → A13 → A14 → A15 → Prop) (I : A1 → A2 → A3 → A4 → A5 → A6 → A7 → A8 → A9 → A10 → A11 → A12 → A13 → A14 → A15 → Prop) (μ : A1 → A2 → A3 → A4 → A5 → A6 → A7 → A8 → A9 → A10 → A11 → A12 → A13 → A14 → A15 → Nat) (hs : ∀ (n : Nat) (a1 : A1) (a2 : A2) (a3 : A3) (a4 : A4) (a5 : A5) (a6 : A6) (a7 : A7) (a8 : A8) (a9 : A9) (a10 : A10) (a11 : A11) (a12 : A12) (a13 : A13) (a14 : A14) (a15 : A15), I a1 a2 a3 a4 a5 a6 a7 a8 a9 a10 a11 a12 a13 a14 a15 → (∀ (b1 : A1) (b2 : A2) (b3 : A3) (b4 : A4) (b5 : A5) (b6 : A6) (b7 : A7) (b8 : A8) (b9 : A9) (b10 : A10) (b11 : A11) (b12 : A12) (b13 : A13) (b14 : A14) (b15 : A15), I b1 b2 b3 b4 b5 b6 b7 b8 b9 b10 b11 b12 b13 b14 b15 → μ b1 b2 b3 b4 b5 b6 b7 b8 b9 b10 b11 b12 b13 b14 b15 < μ a1 a2 a3 a4 a5 a6 a7 a8 a9 a10 a11 a12 a13 a14 a15 → W n b1 b2 b3 b4 b5 b6 b7 b8 b9 b10 b11 b12 b13 b14 b15) → W (n + 1) a1 a2 a3 a4 a5 a6 a7 a8 a9 a10 a11 a12 a13 a14 a15) (a1 : A1) (a2 : A2) (a3 : A3) (a4 : A4) (a5 : A5) (a6 : A6) (a7 : A7) (a8 : A8) (a9 : A9) (a10 : A10) (a11 : A11) (a12 : A12) (a13 : A13) (a14 : A14) (a15 : A15) (h : I a1 a2 a3 a4 a5 a6 a7 a8 a9 a10 a11 a12 a13 a14 a15) : ∃ n, W n a1 a2 a3 a4 a5 a6 a7 a8 a9 a10 a11 a12 a13 a14 a15 :=
  loop_m (σ := A1 × A2 × A3 × A4 × A5 × A6 × A7 × A8 × A9 × A10 × A11 × A12 × A13 × A14 × A15) (fun n s => W n s.1 s.2.1 s.2.2.1 s.2.2.2.1 s.2.2.2.2.1 s.2.2.2.2.2.1 s.2.2.2.2.2.2.1 s.2.2.2.2.2.2.2.1 s.2.2.2.2.2.2.2.2.1 s.2.2.2.2.2.2.2.2.2.1 s.2.2.2.2.2.2.2.2.2.2.1 s.2.2.2.2.2.2.2.2.2.2.2.1 s.2.2.2.2.2.2.2.2.2.2.2.2.1 s.2.2.2.2.2.2.2.2.2.2.2.2.2.1 s.2.2.2.2.2.2.2.2.2.2.2.2.2.2) (fun s => I s.1 s.2.1 s.2.2.1 s.2.2.2.1 s.2.2.2.2.1 s.2.2.2.2.2.1 s.2.2.2.2.2.2.1 s.2.2.2.2.2.2.2.1 s.2.2.2.2.2.2.2.2.1 s.2.2.2.2.2.2.2.2.2.1 s.2.2.2.2.2.2.2.2.2.2.1 s.2.2.2.2.2.2.2.2.2.2.2.1 s.2.2.2.2.2.2.2.2.2.2.2.2.1 s.2.2.2.2.2.2.2.2.2.2.2.2.2.1 s.2.2.2.2.2.2.2.2.2.2.2.2.2.2) (fun s => μ s.1 s.2.1 s.2.2.1 s.2.2.2.1 s.2.2.2.2.1 s.2.2.2.2.2.1 s.2.2.2.2.2.2.1 s.2.2.2.2.2.2.2.1 s.2.2.2.2.2.2.2.2.1 s.2.2.2.2.2.2.2.2.2.1 s.2.2.2.2.2.2.2.2.2.2.1 s.2.2.2.2.2.2.2.2.2.2.2.1 s.2.2.2.2.2.2.2.2.2.2.2.2.1 s.2.2.2.2.2.2.2.2.2.2.2.2.2.1 s.2.2.2.2.2.2.2.2.2.2.2.2.2.2) (fun n s hI hk => hs n s.1 s.2.1 s.2.2.1 s.2.2.2.1 s.2.2.2.2.1 s.2.2.2.2.2.1 s.2.2.2.2.2.2.1 s.2.2.2.2.2.2.2.1 s.2.2.2.2.2.2.2.2.1 s.2.2.2.2.2.2.2.2.2.1 s.2.2.2.2.2.2.2.2.2.2.1 s.2.2.2.2.2.2.2.2.2.2.2.1 s.2.2.2.2.2.2.2.2.2.2.2.2.1 s.2.2.2.2.2.2.2.2.2.2.2.2.2.1 s.2.2.2.2.2.2.2.2.2.2.2.2.2.2 hI (fun b1 b2 b3 b4 b5 b6 b7 b8 b9 b10 b11 b12 b13 b14 b15 h9 hm => hk (b1, b2, b3, b4, b5, b6, b7, b8, b9, b10, b11, b12, b13, b14, b15) h9 hm)) (a1, a2, a3, a4, a5, a6, a7, a8, a9, a10, a11, a12, a13, a14, a15) h
theorem lp16 {A1 A2 A3 A4 A5 A6 A7 A8 A9 A10 A11 A12 A13 A14 A15 A16 : Type} (W : Nat → A1 → A2 → A3 → A4 → A5 → A6 → A7 → A8 → A9 → A10 → A11 → A12 → A13 → A14 → A15 → A16 → Prop) (I : A1 → A2 → A3 → A4 → A5 → A6 → A7 → A8 → A9 → A10 → A11 → A12 → A13 → A14 → A15 → A16 → Prop) (μ : A1 → A2 → A3 → A4 → A5 → A6 → A7 → A8 → A9 → A10 → A11 → A12 → A13 → A14 → A15 → A16 → Nat) (hs : ∀ (n : Nat) (a1 : A1) (a2 : A2) (a3 : A3) (a4 : A4) (a5 : A5) (a6 : A6) (a7 : A7) (a8 : A8) (a9 : A9) (a10 : A10) (a11 : A11) (a12 : A12) (a13 : A13) (a14 : A14) (a15 : A15) (a16 : A16), I a1 a2 a3 a4 a5 a6 a7 a8 a9 a10 a11 a12 a13 a14 a15 a16 → (∀ (b1 : A1) (b2 : A2) (b3 : A3) (b4 : A4) (b5 : A5) (b6 : A6) (b7 : A7) (b8 : A8) (b9 : A9) (b10 : A10) (b11 : A11) (b12 : A12) (b13 : A13) (b14 : A14) (b15 : A15) (b16 : A16), I b1 b2 b3 b4 b5 b6 b7 b8 b9 b10 b11 b12 b13 b14 b15 b16 → μ b1 b2 b3 b4 b5 b6 b7 b8 b9 b10 b11 b12 b13 b14 b15 b16 < μ a1 a2 a3 a4 a5 a6 a7 a8 a9 a10 a11 a12 a13 a14 a15 a16 → W n b1 b2 b3 b4 b5 b6 b7 b8 b9 b10 b11 b12 b13 b14 b15 b16) → W (n + 1) a1 a2 a3 a4 a5 a6 a7 a8 a9 a10 a11 a12 a13 a14 a15 a16) (a1 : A1) (a2 : A2) (a3 : A3) (a4 : A4) (a5 : A5) (a6 : A6) (a7 : A7) (a8 : A8) (a9 : A9) (a10 : A10) (a11 : A11) (a12 : A12) (a13 : A13) (a14 : A14) (a15 : A15) (a16 : A16) (h : I a1 a2 a3 a4 a5 a6 a7 a8 a9 a10 a11 a12 a13 a14 a15 a16) : ∃ n, W n a1 a2 a3 a4 a5 a6 a7 a8 a9 a10 a11 a12 a13 a14 a15 a16 :=
  loop_m (σ := A1 × A2 × A3 × A4 × A5 × A6 × A7 × A8 × A9 × A10 × A11 × A12 × A13 × A14 × A15 × A16) (fun n s => W n s.1 s.2.1 s.2.2.1 s.2.2.2.1 s.2.2.2.2.1 s.2.2.2.2.2.1 s.2.2.2.2.2.2.1 s.2.2.2.2.2.2.2.1 s.2.2.2.2.2.2.2.2.1 s.2.2.2.2.2.2.2.2.2.1 s.2.2.2.2.2.2.2.2.2.2.1 s.2.2.2.2.2.2.2.2.2.2.2.1 s.2.2.2.2.2.2.2.2.2.2.2.2.1 s.2.2.2.2.2.2.2.2.2.2.2.2.2.1 s.2.2.2.2.2.2.2.2.2.2.2.2.2.2.1 s.2.2.2.2.2.2.2.2.2.2.2.2.2.2.2) (fun s => I s.1 s.2.1 s.2.2.1 s.2.2.2.1 s.2.2.2.2.1 s.2.2.2.2.2.1 s.2.2.2.2.2.2.1 s.2.2.2.2.2.2.2.1 s.2.2.2.2.2.2.2.2.1 s.2.2.2.2.2.2.2.2.2.1 s.2.2.2.2.2.2.2.2.2.2.1 s.2.2.2.2.2.2.2.2.2.2.2.1 s.2.2.2.2.2.2.2.2.2.2.2.2.1 s.2.2.2.2.2.2.2.2.2.2.2.2.2.1 s.2.2.2.2.2.2.2.2.2.2.2.2.2.2.1 s.2.2.2.2.2.2.2.2.2.2.2.2.2.2.2) (fun s => μ s.1 s.2.1 s.2.2.1 s.2.2.2.1 s.2.2.2.2.1 s.2.2.2.2.2.1 s.2.2.2.2.2.2.1 s.2.2.2.2.2.2.2.1 s.2.2.2.2.2.2.2.2.1 s.2.2.2.2.2.2.2.2.2.1 s.2.2.2.2.2.2.2.2.2.2.1 s.2.2.2.2.2.2.2.2.2.2.2.1 s.2.2.2.2.2.2.2.2.2.2.2.2.1 s.2.2.2.2.2.2.2.2.2.2.2.2.2.1 s.2.2.2.2.2.2.2.2.2.2.2.2.2.2.1 s.2.2.2.2.2.2.2.2.2.2.2.2.2.2.2) (fun n s hI hk => hs n s.1 s.2.1 s.2.2.1 s.2.2.2.1 s.2.2.2.2.1 s.2.2.2.2.2.1 s.2.2.2.2.2.2.1 s.2.2.2.2.2.2.2.1 s.2.2.2.2.2.2.2.2.1 s.2.2.2.2.2.2.2.2.2.1 s.2.2.2.2.2.2.2.2.2.2.1 s.2.2.2.2.2.2.2.2.2.2.2.1 s.2.2.2.2.2.2.2.2.2.2.2.2.1 s.2.2.2.2.2.2.2.2.2.2.2.2.2.1 s.2.2.2.2.2.2.2.2.2.2.2.2.2.2.1 s.2.2.2.2.2.2.2.2.2.2.2.2.2.2.2 hI (fun b1 b2 b3 b4 b5 b6 b7 b8 b9 b10 b11 b12 b13 b14 b15 b16 h9 hm => hk (b1, b2, b3, b4, b5, b6, b7, b8, b9, b10, b11, b12, b13, b14, b15, b16) h9 hm)) (a1, a2, a3, a4, a5, a6, a7, a8, a9, a10, a11, a12, a13, a14, a15, a16) h
theorem pk_least (P : Nat → Prop) (h : ∃ k, P k) : ∃ k, P k ∧ ∀ j, j < k → ¬ P j := by
  obtain ⟨k, hk⟩ := h
  induction k using Nat.strongRecOn with
  | ind k ih =>
    by_cases e : ∃ j, j < k ∧ P j
    · obtain ⟨j, hj, pj⟩ := e
      exact ih j hj pj
    · exact ⟨k, hk, fun j hj pj => e ⟨j, hj, pj⟩⟩
theorem rp1 {ρ A1 : Type} (W : Nat → (ρ → Prop) → A1 → Prop) (ok : A1 → Prop) (μ : A1 → Nat) (val : A1 → ρ)
    (hs : ∀ (d : Nat) (post : ρ → Prop) (a1 : A1), ok a1 → post (val a1) → (∀ (post' : ρ → Prop) (b1 : A1), ok b1 → μ b1 < μ a1 → post' (val b1) → W d post' b1) → W (d + 1) post a1) :
    ∀ (d : Nat) (post : ρ → Prop) (a1 : A1), ok a1 → μ a1 < d → post (val a1) → W d post a1 := by
  intro d
  induction d with
  | zero => intro post a1 _ h; omega
  | succ d ih =>
    intro post a1 ho hm hp
    exact hs d post a1 ho hp (fun post' b1 ho' hm' hp' => ih post' b1 ho' (by omega) hp')
theorem rp2 {ρ A1 A2 : Type} (W : Nat → (ρ → Prop) → A1 → A2 → Prop) (ok : A1 → A2 → Prop) (μ : A1 → A2 → Nat) (val : A1 → A2 → ρ)
    (hs : ∀ (d : Nat) (post : ρ → Prop) (a1 : A1) (a2 : A2), ok a1 a2 → post (val a1 a2) → (∀ (post' : ρ → Prop) (b1 : A1) (b2 : A2), ok b1 b2 → μ b1 b2 < μ a1 a2 → post' (val b1 b2) → W d post' b1 b2) → W (d + 1) post a1 a2) :
    ∀ (d : Nat) (post : ρ → Prop) (a1 : A1) (a2 : A2), ok a1 a2 → μ a1 a2 < d → post (val a1 a2) → W d post a1 a2 := by
  intro d
  induction d with
  | zero => intro post a1 a2 _ h; omega
  | succ d ih =>
    intro post a1 a2 ho hm hp
    exact hs d post a1 a2 ho hp (fun post' b1 b2 ho' hm' hp' => ih post' b1 b2 ho' (by omega) hp')
theorem rp3 {ρ A1 A2 A3 : Type} (W : Nat → (ρ → Prop) → A1 → A2 → A3 → Prop) (ok : A1 → A2 → A3 → Prop) (μ : A1 → A2 → A3 → Nat) (val : A1 → A2 → A3 → ρ)
    (hs : ∀ (d : Nat) (post : ρ → Prop) (a1 : A1) (a2 : A2) (a3 : A3), ok a1 a2 a3 → post (val a1 a2 a3) → (∀ (post' : ρ → Prop) (b1 : A1) (b2 : A2) (b3 : A3), ok b1 b2 b3 → μ b1 b2 b3 < μ a1 a2 a3 → post' (val b1 b2 b3) → W d post' b1 b2 b3) → W (d + 1) post a1 a2 a3) :
    ∀ (d : Nat) (post : ρ → Prop) (a1 : A1) (a2 : A2) (a3 : A3), ok a1 a2 a3 → μ a1 a2 a3 < d → post (val a1 a2 a3) → W d post a1 a2 a3 := by
  intro d
  induction d with
  | zero => intro post a1 a2 a3 _ h; omega
  | succ d ih =>
    intro post a1 a2 a3 ho hm hp
    exact hs d post a1 a2 a3 ho hp (fun post' b1 b2 b3 ho' hm' hp' => ih post' b1 b2 b3 ho' (by omega) hp')
theorem rp4 {ρ A1 A2 A3 A4 : Type} (W : Nat → (ρ → Prop) → A1 → A2 → A3 → A4 → Prop) (ok : A1 → A2 → A3 → A4 → Prop) (μ : A1 → A2 → A3 → A4 → Nat) (val : A1 → A2 → A3 → A4 → ρ)
    (hs : ∀ (d : Nat) (post : ρ → Prop) (a1 : A1) (a2 : A2) (a3 : A3) (a4 : A4), ok a1 a2 a3 a4 → post (val a1 a2 a3 a4) → (∀ (post' : ρ → Prop) (b1 : A1) (b2 : A2) (b3 : A3) (b4 : A4), ok b1 b2 b3 b4 → μ b1 b2 b3 b4 < μ a1 a2 a3 a4 → post' (val b1 b2 b3 b4) → W d post' b1 b2 b3 b4) → W (d + 1) post a1 a2 a3 a4) :
    ∀ (d : Nat) (post : ρ → Prop) (a1 : A1) (a2 : A2) (a3 : A3) (a4 : A4), ok a1 a2 a3 a4 → μ a1 a2 a3 a4 < d → post (val a1 a2 a3 a4) → W d post a1 a2 a3 a4 := by
  intro d
  induction d with
  | zero => intro post a1 a2 a3 a4 _ h; omega
  | succ d ih =>
    intro post a1 a2 a3 a4 ho hm hp
    exact hs d post a1 a2 a3 a4 ho hp (fun post' b1 b2 b3 b4 ho' hm' hp' => ih post' b1 b2 b3 b4 ho' (by omega) hp')
theorem rp5 {ρ A1 A2 A3 A4 A5 : Type} (W : Nat → (ρ → Prop) → A1 → A2 → A3 → A4 → A5 → Prop) (ok : A1 → A2 → A3 → A4 → A5 → Prop) (μ : A1 → A2 → A3 → A4 → A5 → Nat) (val : A1 → A2 → A3 → A4 → A5 → ρ)
    (hs : ∀ (d : Nat) (post : ρ → Prop) (a1 : A1) (a2 : A2) (a3 : A3) (a4 : A4) (a5 : A5), ok a1 a2 a3 a4 a5 → post (val a1 a2 a3 a4 a5) → (∀ (post' : ρ → Prop) (b1 : A1) (b2 : A2) (b3 : A3) (b4 : A4) (b5 : A5), ok b1 b2 b3 b4 b5 → μ b1 b2 b3 b4 b5 < μ a1 a2 a3 a4 a5 → post' (val b1 b2 b3 b4 b5) → W d post' b1 b2 b3 b4 b5) → W (d + 1) post a1 a2 a3 a4 a5) :
    ∀ (d : Nat) (post : ρ → Prop) (a1 : A1) (a2 : A2) (a3 : A3) (a4 : A4) (a5 : A5), ok a1 a2 a3 a4 a5 → μ a1 a2 a3 a4 a5 < d → post (val a1 a2 a3 a4 a5) → W d post a1 a2 a3 a4 a5 := by
  intro d
  induction d with
  | zero => intro post a1 a2 a3 a4 a5 _ h; omega
  | succ d ih =>
    intro post a1 a2 a3 a4 a5 ho hm hp
    exact hs d post a1 a2 a3 a4 a5 ho hp (fun post' b1 b2 b3 b4 b5 ho' hm' hp' => ih post' b1 b2 b3 b4 b5 ho' (by omega) hp')
theorem rp6 {ρ A1 A2 A3 A4 A5 A6 : Type} (W : Nat → (ρ → Prop) → A1 → A2 → A3 → A4 → A5 → A6 → Prop) (ok : A1 → A2 → A3 → A4 → A5 → A6 → Prop) (μ : A1 → A2 → A3 → A4 → A5 → A6 → Nat) (val : A1 → A2 → A3 → A4 → A5 → A6 → ρ)
    (hs : ∀ (d : Nat) (post : ρ → Prop) (a1 : A1) (a2 : A2) (a3 : A3) (a4 : A4) (a5 : A5) (a6 : A6), ok a1 a2 a3 a4 a5 a6 → post (val a1 a2 a3 a4 a5 a6) → (∀ (post' : ρ → Prop) (b1 : A1) (b2 : A2) (b3 : A3) (b4 : A4) (b5 : A5) (b6 : A6), ok b1 b2 b3 b4 b5 b6 → μ b1 b2 b3 b4 b5 b6 < μ a1 a2 a3 a4 a5 a6 → post' (val b1 b2 b3 b4 b5 b6) → W d post' b1 b2 b3 b4 b5 b6) → W (d + 1) post a1 a2 a3 a4 a5 a6) :
    ∀ (d : Nat) (post : ρ → Prop) (a1 : A1) (a2 : A2) (a3 : A3) (a4 : A4) (a5 : A5) (a6 : A6), ok a1 a2 a3 a4 a5 a6 → μ a1 a2 a3 a4 a5 a6 < d → post (val a1 a2 a3 a4 a5 a6) → W d post a1 a2 a3 a4 a5 a6 := by
  intro d
  induction d with
  | zero => intro post a1 a2 a3 a4 a5 a6 _ h; omega
  | succ d ih =>
    intro post a1 a2 a3 a4 a5 a6 ho hm hp
    exact hs d post a1 a2 a3 a4 a5 a6 ho hp (fun post' b1 b2 b3 b4 b5 b6 ho' hm' hp' => ih post' b1 b2 b3 b4 b5 b6 ho' (by omega) hp')
theorem rec_p {σ ρ : Type} (W : Nat → (ρ → Prop) → σ → Prop) (ok : σ → Prop) (μ : σ → Nat) (val : σ → ρ)
    (hs : ∀ d s post, ok s → post (val s) → (∀ s' post', ok s' → μ s' < μ s → post' (val s') → W d post' s') → W (d + 1) post s) :
    ∀ d s post, ok s → μ s < d → post (val s) → W d post s := by
  intro d
  induction d with
  | zero => intro s post _ h; omega
  | succ d ih =>
    intro s post ho hm hp
    exact hs d s post ho hp (fun s' post' ho' hm' hp' => ih s' post' ho' (by omega) hp')
theorem rec_q {σ ρ : Type} (W : Nat → (ρ → Prop) → σ → Prop) (ok : σ → Prop) (μ : σ → Nat) (Q : σ → ρ → Prop)
    (hs : ∀ d s post, ok s → (∀ r, Q s r → post r) → (∀ s' post', ok s' → μ s' < μ s → (∀ r, Q s' r → post' r) → W d post' s') → W (d + 1) post s) :
    ∀ d s post, ok s → μ s < d → (∀ r, Q s r → post r) → W d post s := by
  intro d
  induction d with
  | zero => intro s post _ h; omega
  | succ d ih =>
    intro s post ho hm hp
    exact hs d s post ho hp (fun s' post' ho' hm' hp' => ih s' post' ho' (by omega) hp')
def bx_sum (f : Nat → Int32) : Nat → Int32
  | 0 => 0
  | n + 1 => bx_sum f n + f n
theorem ek_u {A : Prop} {B : Nat → Prop} {k N : Nat} (hk : k < N) (h : B k) : (some k = none → A) ∧ (∀ y : Nat, some k = some y → (y < N ∧ B y)) :=
  ⟨fun z => absurd z (Option.some_ne_none k), fun _ e => (by cases e; exact ⟨hk, h⟩)⟩
theorem ek_nu {A : Prop} {B : Nat → Prop} (h : A) : ((none : Option Nat) = none → A) ∧ (∀ y : Nat, (none : Option Nat) = some y → B y) :=
  ⟨fun _ => h, fun _ e => (by cases e)⟩
theorem ek_if {c d A B : Prop} (e : c ↔ d) (f : d → A) (g : ¬ d → B) : (c → A) ∧ (¬ c → B) :=
  ⟨fun z => f (e.mp z), fun z => g (fun y => z (e.mpr y))⟩
theorem ek_v {α : Sort _} {P : α → Prop} {a b : α} (e : a = b) (h : P b) : P a := e ▸ h
theorem co_some {x : Option Nat} {A : Prop} {B : Nat → Prop} (i : Nat) (h : B i) (hx : x = some i := by rfl) : (x = none → A) ∧ (∀ y : Nat, x = some y → B y) := by
  subst hx
  exact ⟨fun e => (nomatch e), fun y e => Option.some.inj e ▸ h⟩
theorem co_none {x : Option Nat} {A : Prop} {B : Nat → Prop} (h : A) (hx : x = none := by rfl) : (x = none → A) ∧ (∀ y : Nat, x = some y → B y) := by
  subst hx
  exact ⟨fun _ => h, fun y e => (nomatch e)⟩
theorem co_any {x : Option Nat} {A : Prop} {B : Nat → Prop} (hn : x = none → A) (hs : ∀ i : Nat, x = some i → B i) : (x = none → A) ∧ (∀ y : Nat, x = some y → B y) := ⟨hn, hs⟩
theorem co_2 {P : Nat → Prop} (h0 : P 0) (h1 : P 1) {i : Nat} (hi : i < 2) : P i :=
  match i, hi with
  | 0, _ => h0
  | 1, _ => h1
theorem co_3 {P : Nat → Prop} (h0 : P 0) (h1 : P 1) (h2 : P 2) {i : Nat} (hi : i < 3) : P i :=
  match i, hi with
  | 0, _ => h0
  | 1, _ => h1
  | 2, _ => h2
theorem co_4 {P : Nat → Prop} (h0 : P 0) (h1 : P 1) (h2 : P 2) (h3 : P 3) {i : Nat} (hi : i < 4) : P i :=
  match i, hi with
  | 0, _ => h0
  | 1, _ => h1
  | 2, _ => h2
  | 3, _ => h3
theorem co_dec {N : Nat} {P : Nat → Prop} [DecidablePred P] (h : (List.range N).all (fun i => decide (P i)) = true) {i : Nat} (hi : i < N) : P i := by
  have := List.all_eq_true.mp h i (List.mem_range.mpr hi)
  exact of_decide_eq_true this
theorem co_tab {α : Type} {l : List α} {d : α} {P : α → Prop} (h : ∀ a, a ∈ l → P a) {i : Nat} (hi : i < l.length) : P (l.getD i d) := by
  rw [List.getD_eq_getElem?_getD, List.getElem?_eq_getElem hi]
  exact h _ (List.getElem_mem hi)
theorem pk_mu {x : Int32} {L : Nat} (h0 : ¬ x < 0) (h : ¬ nI L ≤ x) (hL : L < 2 ^ 31) : ∃ j : Nat, j < L ∧ x = nI j ∧ x + 1 = nI (j + 1) ∧ x.toNatClampNeg = j ∧ L - (x + 1).toNatClampNeg < L - x.toNatClampNeg := by
  obtain ⟨j, hj, rfl⟩ := nI_of h0
  have hl : j < L := Nat.not_le.mp fun q => h (nI_le q hj)
  refine ⟨j, hl, rfl, nI_1 j, nI_clamp hj, ?_⟩
  rw [nI_1, nI_clamp (by omega), nI_clamp hj]
  omega
theorem op_s {α : Type} {r : Option α} {A : Prop} {B : α → Prop} {y : α} (h : r = some y) (b : B y) : (r = none → A) ∧ ∀ z, r = some z → B z :=
  ⟨fun e => (by rw [h] at e; cases e), fun z e => (by rw [h] at e; cases e; exact b)⟩
def l_holds {α : Type} (a : Nat → Option Nat) (LP : List Nat) (p : Nat → α) (c : Nat) (b : Nat → α) : Prop :=
  ∀ j, j < c → ∃ y, a j = some y ∧ y ∈ LP ∧ p y = b j
theorem l_holds_0 {α : Type} {a : Nat → Option Nat} {LP : List Nat} {p b : Nat → α} : l_holds a LP p 0 b := fun j h => absurd h (Nat.not_lt_zero j)
theorem l_in_new (LP : List Nat) (q : Nat) : q ∈ LP ++ [q] := List.mem_append.mpr (Or.inr (List.mem_singleton.mpr rfl))
def l_sum (b : Nat → Int32) : Nat → Int32
  | 0 => 0
  | k + 1 => l_sum b k + b k
theorem sb_shr0 (x : Int32) : x >>> ((0 : Int32) &&& 31) = x := by
  rw [show ((0 : Int32) &&& 31) = 0 by decide]
  simp
theorem sb_shl0 (x : Int32) : x <<< ((0 : Int32) &&& 31) = x := by
  rw [show ((0 : Int32) &&& 31) = 0 by decide]
  simp
theorem sb_cl0 : (0 : Int32).toNatClampNeg = 0 := by decide
theorem sb_m1 {p : Nat} (h : 0 < p) : nI p + (-1) = nI (p - 1) := by
  obtain ⟨q, rfl⟩ : ∃ q, p = q + 1 := ⟨p - 1, by omega⟩
  exact pk_m1 q
def sb_b (c : Nat) : Int32 := (nI c).toInt8.toInt32
theorem sb_byte : ∀ c, c < 256 → sb_b c &&& 255 = nI c ∧ ((nI c).toUInt32 % 65536).toInt32 = nI c ∧ nI c ≤ 255 := by decide +kernel
def sb_Fit (a : Nat → Int32) : Prop := ∀ j, fits .byte (.int (a j)) = true
def sb_Lat (t : Nat → Nat) (n : Nat) (a : Nat → Int32) : Prop := ∀ j, j < n → t j < 256 ∧ a j = sb_b (t j)
theorem sb_fitB (c : Nat) : fits .byte (.int (sb_b c)) = true := pk_fb _
theorem sb_fit0 : sb_Fit (fun _ => 0) := fun _ => by
  show fits .byte (.int 0) = true
  decide
theorem sb_fitU {a : Nat → Int32} {k : Nat} {x : Int32} (h : sb_Fit a) (hx : fits .byte (.int x) = true) : sb_Fit (upd a k x) := by
  intro j
  by_cases e : j = k
  · subst e
    rw [pk_us]
    exact hx
  · rw [pk_un e]
    exact h j
def sb_cat (t : Nat → Nat) (n : Nat) (s : Nat → Nat) : Nat → Nat := fun j => if j < n then t j else s (j - n)
theorem sb_cat_lo {t s : Nat → Nat} {n j : Nat} (h : j < n) : sb_cat t n s j = t j := if_pos h
theorem sb_cat_hi {t s : Nat → Nat} {n j : Nat} : sb_cat t n s (n + j) = s j := by
  show (if n + j < n then t (n + j) else s (n + j - n)) = s j
  rw [if_neg (by omega), Nat.add_sub_cancel_left]
theorem sb_latPut {t s : Nat → Nat} {n w : Nat} {a a' : Nat → Int32} (h : sb_Lat t n a) (hk : ∀ j, j < n → a' j = a j) (hs : ∀ i, i < w → s i < 256 ∧ a' (n + i) = sb_b (s i)) : sb_Lat (sb_cat t n s) (n + w) a' := by
  intro j hj
  by_cases e : j < n
  · rw [sb_cat_lo e, hk j e]
    exact h j e
  · obtain ⟨i, rfl⟩ : ∃ i, j = n + i := ⟨j - n, by omega⟩
    rw [sb_cat_hi]
    exact hs i (by omega)
theorem sb_latKeep {t : Nat → Nat} {n : Nat} {a a' : Nat → Int32} (h : sb_Lat t n a) (hk : ∀ j, j < n → a' j = a j) : sb_Lat t n a' := fun j hj => by
  rw [hk j hj]
  exact h j hj
def sb_cap (q m : Nat) : Nat := if q ≤ m then m else if 2 * m + 2 < q then q else 2 * m + 2
def sb_Room (q m mc ms : Nat) : Prop := q ≤ m ∨ (1 ≤ mc ∧ sb_cap q m ≤ ms ∧ sb_cap q m ≤ 65536)
theorem sb_cap_ge (q m : Nat) : q ≤ sb_cap q m := by
  unfold sb_cap
  split
  · omega
  · split <;> omega
theorem sb_cap_gem (q m : Nat) : m ≤ sb_cap q m := by
  unfold sb_cap
  split
  · omega
  · split <;> omega
theorem sb_cap_le {q m mc ms : Nat} (hm : m ≤ 65536) (hr : sb_Room q m mc ms) : sb_cap q m ≤ 65536 := by
  rcases hr with h | h
  · rw [sb_cap, if_pos h]
    exact hm
  · exact h.2.2
theorem sb_at {P : Int32 → Prop} {x y : Int32} (e : x = y) (h : P y) : P x := e ▸ h
def sb_dg (w : Nat) : Nat := if w < 10 then 1 else if w < 100 then 2 else if w < 1000 then 3 else if w < 10000 then 4 else if w < 100000 then 5 else if w < 1000000 then 6 else if w < 10000000 then 7 else if w < 100000000 then 8 else if w < 1000000000 then 9 else 10
def sb_dec (v : Nat) : Nat → Nat := fun i => 48 + v / 10 ^ (sb_dg v - 1 - i) % 10
theorem sb_dg_in (w : Nat) : 1 ≤ sb_dg w ∧ sb_dg w ≤ 10 := by
  unfold sb_dg
  constructor <;> (repeat' split) <;> omega
theorem sb_dg100 {w : Nat} (h : 100 ≤ w) (hw : w < 2 ^ 31) : sb_dg w = sb_dg (w / 100) + 2 := by
  rw [sb_dg, sb_dg, if_neg (show ¬ w < 10 by omega), if_neg (show ¬ w < 100 by omega)]
  by_cases h3 : w < 1000
  · rw [if_pos h3, if_pos (show w / 100 < 10 by omega)]
  rw [if_neg h3, if_neg (show ¬ w / 100 < 10 by omega)]
  by_cases h4 : w < 10000
  · rw [if_pos h4, if_pos (show w / 100 < 100 by omega)]
  rw [if_neg h4, if_neg (show ¬ w / 100 < 100 by omega)]
  by_cases h5 : w < 100000
  · rw [if_pos h5, if_pos (show w / 100 < 1000 by omega)]
  rw [if_neg h5, if_neg (show ¬ w / 100 < 1000 by omega)]
  by_cases h6 : w < 1000000
  · rw [if_pos h6, if_pos (show w / 100 < 10000 by omega)]
  rw [if_neg h6, if_neg (show ¬ w / 100 < 10000 by omega)]
  by_cases h7 : w < 10000000
  · rw [if_pos h7, if_pos (show w / 100 < 100000 by omega)]
  rw [if_neg h7, if_neg (show ¬ w / 100 < 100000 by omega)]
  by_cases h8 : w < 100000000
  · rw [if_pos h8, if_pos (show w / 100 < 1000000 by omega)]
  rw [if_neg h8, if_neg (show ¬ w / 100 < 1000000 by omega)]
  by_cases h9 : w < 1000000000
  · rw [if_pos h9, if_pos (show w / 100 < 10000000 by omega)]
  rw [if_neg h9, if_neg (show ¬ w / 100 < 10000000 by omega)]
  rw [if_pos (show w / 100 < 100000000 by omega)]
theorem sb_negT {w : Nat} (h : w < 2 ^ 31) : (-nI w).toInt = -(w : Int) := by
  rw [Int32.toInt_neg, nI_toInt h]
  exact Int.bmod_eq_of_le (by omega) (by omega)
theorem sb_nle {a b : Nat} (ha : a < 2 ^ 31) (hb : b < 2 ^ 31) : -nI a ≤ -nI b ↔ b ≤ a := by
  rw [Int32.le_iff_toInt_le, sb_negT ha, sb_negT hb]
  omega
theorem sb_nlt {a b : Nat} (ha : a < 2 ^ 31) (hb : b < 2 ^ 31) : -nI a < -nI b ↔ b < a := by
  rw [Int32.lt_iff_toInt_lt, sb_negT ha, sb_negT hb]
  omega
theorem sb_cmp {A B : Prop} {x : Int32} (v c : Nat) (f : c ≤ v → A) (g : v < c → B) (hv : v < 2 ^ 31) (hx : x = -nI c := by rfl) (hc : c < 2 ^ 31 := by omega) : (-nI v ≤ x → A) ∧ (¬ -nI v ≤ x → B) := by
  subst hx
  rw [sb_nle hv hc]
  exact ⟨f, fun z => g (by omega)⟩
theorem sb_ndiv {w : Nat} (hw : w < 2 ^ 31) : (-nI w) / 100 = -nI (w / 100) := by
  apply Int32.toInt_inj.mp
  have h100 : (100 : Int32).toInt = 100 := by decide
  rw [Int32.toInt_div, sb_negT hw, h100, sb_negT (by omega), Int.neg_tdiv, Int.tdiv_eq_ediv_of_nonneg (by omega), Int.bmod_eq_of_le (by omega) (by omega)]
  omega
theorem sb_nrem {w : Nat} (hw : w < 2 ^ 31) : (-nI (w / 100)) * 100 - (-nI w) = nI (w % 100) := by
  have h := pk_rem (a := w) (d := 100) hw (by decide) (by decide)
  rw [pk_div hw (by decide) (by decide)] at h
  rw [← h]
  show (-nI (w / 100)) * nI 100 - (-nI w) = nI w - nI (w / 100) * nI 100
  rw [Int32.neg_mul, Int32.sub_neg, Int32.add_comm, ← Int32.sub_eq_add_neg]
/-! ===== Int32 by its bits: bt x i ===== -/
def bt (x : Int32) (i : Nat) : Bool := x.toBitVec.getLsbD i
theorem b_ext {x y : Int32} (h : ∀ i, i < 32 → bt x i = bt y i) : x = y := Int32.toBitVec_inj.mp (BitVec.eq_of_getLsbD_eq (fun i hi => h i hi))
theorem b_or (x y : Int32) (i : Nat) : bt (x ||| y) i = (bt x i || bt y i) := by unfold bt; rw [Int32.toBitVec_or, BitVec.getLsbD_or]
theorem b_and (x y : Int32) (i : Nat) : bt (x &&& y) i = (bt x i && bt y i) := by unfold bt; rw [Int32.toBitVec_and, BitVec.getLsbD_and]
theorem b_xor (x y : Int32) (i : Nat) : bt (x ^^^ y) i = (bt x i ^^ bt y i) := by unfold bt; rw [Int32.toBitVec_xor, BitVec.getLsbD_xor]
theorem b_big {x : Int32} {i : Nat} (h : 32 ≤ i) : bt x i = false := BitVec.getLsbD_of_ge _ _ h
theorem b_255 (i : Nat) : bt 255 i = decide (i < 8) := by
  rcases Nat.lt_or_ge i 32 with h | h
  · exact (by decide +kernel : ∀ i, i < 32 → bt 255 i = decide (i < 8)) i h
  · rw [b_big h, decide_eq_false (by omega)]
theorem b_65535 (i : Nat) : bt 65535 i = decide (i < 16) := by
  rcases Nat.lt_or_ge i 32 with h | h
  · exact (by decide +kernel : ∀ i, i < 32 → bt 65535 i = decide (i < 16)) i h
  · rw [b_big h, decide_eq_false (by omega)]
theorem b_m1 : ∀ i, i < 32 → bt (-1) i = true := by decide +kernel
theorem b_0 (i : Nat) : bt 0 i = false := BitVec.getLsbD_zero
theorem s_l : ∀ n, n < 32 → ((nI n &&& 31).toBitVec.smod 32).toNat = n := by decide +kernel
theorem s_u : ∀ n, n < 32 → (((nI n).toUInt32 &&& Int32.toUInt32 31).toBitVec % 32).toNat = n := by decide +kernel
theorem b_shl (n : Nat) (hn : n < 32) (x : Int32) {i : Nat} (hi : i < 32) : bt (x <<< (nI n &&& 31)) i = (decide (n ≤ i) && bt x (i - n)) := by
  unfold bt
  rw [Int32.toBitVec_shiftLeft]
  show (x.toBitVec <<< ((nI n &&& 31).toBitVec.smod 32).toNat).getLsbD i = _
  rw [s_l n hn, BitVec.getLsbD_shiftLeft]
  rcases Nat.lt_or_ge i n with h | h
  · simp [h, Nat.not_le.mpr h]
  · simp [hi, h, Nat.not_lt.mpr h]
theorem b_ushr (n : Nat) (hn : n < 32) (x : Int32) (i : Nat) : bt ((x.toUInt32 >>> ((nI n).toUInt32 &&& Int32.toUInt32 31)).toInt32) i = bt x (n + i) := by
  show (x.toUInt32 >>> ((nI n).toUInt32 &&& Int32.toUInt32 31)).toBitVec.getLsbD i = x.toUInt32.toBitVec.getLsbD (n + i)
  rw [UInt32.toBitVec_shiftRight]
  show (x.toUInt32.toBitVec >>> (((nI n).toUInt32 &&& Int32.toUInt32 31).toBitVec % 32).toNat).getLsbD i = _
  rw [s_u n hn, BitVec.getLsbD_ushiftRight]
theorem b_sshr (n : Nat) (hn : n < 32) (x : Int32) {i : Nat} (hi : i < 32) : bt (x >>> (nI n &&& 31)) i = if n + i < 32 then bt x (n + i) else bt x 31 := by
  unfold bt
  rw [Int32.toBitVec_shiftRight]
  show (x.toBitVec.sshiftRight ((nI n &&& 31).toBitVec.smod 32).toNat).getLsbD i = _
  rw [s_l n hn, BitVec.getLsbD_sshiftRight, BitVec.msb_eq_getLsbD_last]
  simp [hi]
theorem b_shl8 (x : Int32) {i : Nat} (hi : i < 32) : bt (x <<< ((8 : Int32) &&& 31)) i = (decide (8 ≤ i) && bt x (i - 8)) := b_shl 8 (by omega) x hi
theorem b_shl16 (x : Int32) {i : Nat} (hi : i < 32) : bt (x <<< ((16 : Int32) &&& 31)) i = (decide (16 ≤ i) && bt x (i - 16)) := b_shl 16 (by omega) x hi
theorem b_shl24 (x : Int32) {i : Nat} (hi : i < 32) : bt (x <<< ((24 : Int32) &&& 31)) i = (decide (24 ≤ i) && bt x (i - 24)) := b_shl 24 (by omega) x hi
theorem b_sshr8 (x : Int32) {i : Nat} (hi : i < 32) : bt (x >>> ((8 : Int32) &&& 31)) i = if 8 + i < 32 then bt x (8 + i) else bt x 31 := b_sshr 8 (by omega) x hi
end
section
def za_F (f : Nat → Nat) : Nat → Int32 := fun j => nI (f j)
def za_U (f : Nat → Nat) (k v : Nat) : Nat → Nat := fun j => if j = k then v else f j
theorem za_Fa (f : Nat → Nat) (j : Nat) : za_F f j = nI (f j) := rfl
theorem za_Us {f : Nat → Nat} {k v : Nat} : za_U f k v k = v := if_pos rfl
theorem za_Un {f : Nat → Nat} {k v j : Nat} (h : j ≠ k) : za_U f k v j = f j := if_neg h
theorem za_Fu (f : Nat → Nat) (k v : Nat) : upd (za_F f) k (nI v) = za_F (za_U f k v) := by
  funext j
  by_cases h : j = k
  · subst h; rw [pk_us]; show _ = nI (za_U f j v j); rw [za_Us]
  · rw [pk_un h]; show nI (f j) = nI (za_U f k v j); rw [za_Un h]
theorem za_b8 : ∀ v, v < 128 → (nI v).toInt8.toInt32 = nI v := by decide +kernel
theorem za_nb {v : Nat} (h : v < 128) : vp_nar .byte (nI v) = nI v := by rw [vp_nar_byte]; exact za_b8 v h
theorem za_nb2 {v : Nat} (h : v < 128) : vp_nar .byte (nI v).toInt8.toInt32 = nI v := by rw [za_b8 v h]; exact za_nb h
theorem za_bm : (-1 : Int32).toInt8.toInt32 = -1 := by decide
theorem za_nbm : vp_nar .byte (-1) = -1 := by rw [vp_nar_byte]; exact za_bm
theorem za_nbm2 : vp_nar .byte (-1 : Int32).toInt8.toInt32 = -1 := by rw [za_bm]; exact za_nbm
theorem za_s16 : ∀ v, v < 2400 → (nI v).toInt16.toInt32 = nI v := by decide +kernel
theorem za_ns {v : Nat} (h : v < 2400) : vp_nar .short (nI v).toInt16.toInt32 = nI v := by rw [za_s16 v h, vp_nar_short]; exact za_s16 v h
theorem za_ns0 : vp_nar .short 0 = 0 := by rw [vp_nar_short]; decide
/-- a value that is none or a character -/
def za_o (x : Int32) : Prop := x = -1 ∨ ∃ m, m < 48 ∧ x = nI m
theorem za_o8 {x : Int32} (h : za_o x) : x.toInt8.toInt32 = x := by
  rcases h with rfl | ⟨m, hm, rfl⟩
  · exact za_bm
  · exact za_b8 m (by omega)
theorem za_on {x : Int32} (h : za_o x) : vp_nar .byte x = x := by rw [vp_nar_byte]; exact za_o8 h
theorem za_on2 {x : Int32} (h : za_o x) : vp_nar .byte x.toInt8.toInt32 = x := by rw [za_o8 h]; exact za_on h
theorem za_m1neg : (-1 : Int32) < 0 := by decide
theorem za_m1n : ¬ (0 : Int32) ≤ -1 := by decide
theorem za_mul (k a : Nat) : nI k * nI a = nI (k * a) := pk_mul k a
theorem za_x16 (t i : Nat) : 16 * nI t + nI i = nI (16 * t + i) := by
  rw [show (16 : Int32) * nI t = nI (16 * t) from pk_mul 16 t, nI_add]
theorem za_x64 (t i : Nat) : 64 * nI t + nI i = nI (64 * t + i) := by
  rw [show (64 : Int32) * nI t = nI (64 * t) from pk_mul 64 t, nI_add]
theorem za_x4 (t i : Nat) : 4 * nI t + nI i = nI (4 * t + i) := by
  rw [show (4 : Int32) * nI t = nI (4 * t) from pk_mul 4 t, nI_add]
theorem za_x3 (t i : Nat) : 3 * nI t + nI i = nI (3 * t + i) := by
  rw [show (3 : Int32) * nI t = nI (3 * t) from pk_mul 3 t, nI_add]
theorem za_p1 {n : Nat} (h : 0 < n) : nI n - 1 = nI (n - 1) := by
  obtain ⟨m, rfl⟩ : ∃ m, n = m + 1 := ⟨n - 1, by omega⟩
  rw [nI_pred]; rfl
theorem za_q1 {n : Nat} (h : 0 < n) : nI n + (-1) = nI (n - 1) := by
  obtain ⟨m, rfl⟩ : ∃ m, n = m + 1 := ⟨n - 1, by omega⟩
  rw [pk_m1]; rfl
/-- a list lies in an array from a place on -/
def za_h (a : Nat → Int32) : Nat → List Nat → Prop
  | _, [] => True
  | b, x :: xs => a b = nI x ∧ za_h a (b + 1) xs
theorem za_h_app (a : Nat → Int32) : ∀ (L1 L2 : List Nat) (b : Nat), za_h a b (L1 ++ L2) ↔ za_h a b L1 ∧ za_h a (b + L1.length) L2
  | [], L2, b => by simp [za_h]
  | x :: xs, L2, b => by
    simp only [List.cons_append, za_h, List.length_cons, za_h_app a xs L2 (b + 1)]
    rw [show b + 1 + xs.length = b + (xs.length + 1) by omega]
    exact and_assoc.symm
theorem za_h_get (a : Nat → Int32) : ∀ (L : List Nat) (b i : Nat), za_h a b L → i < L.length → a (b + i) = nI (L.getD i 0)
  | [], _, i, _, h => absurd h (Nat.not_lt_zero _)
  | x :: xs, b, 0, h, _ => h.1
  | x :: xs, b, i + 1, h, hi => by
    have h2 := za_h_get a xs (b + 1) i h.2 (by simpa using hi)
    rw [show b + (i + 1) = b + 1 + i by omega, h2]
    rfl
theorem za_h_ext (a : Nat → Int32) : ∀ (L : List Nat) (b : Nat), (∀ i, i < L.length → a (b + i) = nI (L.getD i 0)) → za_h a b L
  | [], _, _ => trivial
  | x :: xs, b, h => ⟨h 0 (by simp), za_h_ext a xs (b + 1) (fun i hi => by
      have h2 := h (i + 1) (by simpa using hi)
      rw [show b + (i + 1) = b + 1 + i by omega] at h2
      rw [h2]; rfl)⟩
theorem za_h_cg {a a' : Nat → Int32} : ∀ (L : List Nat) (b : Nat), (∀ j, b ≤ j → j < b + L.length → a' j = a j) → za_h a b L → za_h a' b L
  | [], _, _, _ => trivial
  | x :: xs, b, h, g => ⟨by rw [h b (Nat.le_refl _) (by simp)]; exact g.1,
      za_h_cg xs (b + 1) (fun j h1 h2 => h j (by omega) (by simp only [List.length_cons]; omega)) g.2⟩
theorem za_h_snoc {a : Nat → Int32} {L : List Nat} {b c : Nat} (h : za_h a b L) : za_h (upd a (b + L.length) (nI c)) b (L ++ [c]) := by
  rw [za_h_app]
  refine ⟨za_h_cg L b (fun j h1 h2 => pk_un (by omega)) h, pk_us, trivial⟩
theorem za_h_set {a : Nat → Int32} {L : List Nat} {b i c : Nat} (h : za_h a b L) (hi : i < L.length) : za_h (upd a (b + i) (nI c)) b (L.set i c) := by
  refine za_h_ext _ _ _ (fun k hk => ?_)
  rw [List.length_set] at hk
  by_cases e : k = i
  · subst e
    rw [pk_us, List.getD_eq_getElem?_getD, List.getElem?_set_self hk]; rfl
  · rw [pk_un (by omega), za_h_get a L b k h hk, List.getD_eq_getElem?_getD, List.getD_eq_getElem?_getD, List.getElem?_set_ne (by omega)]
theorem za_h_up {a : Nat → Int32} {L : List Nat} {b k : Nat} {x : Int32} (h : za_h a b L) (hk : k < b ∨ b + L.length ≤ k) : za_h (upd a k x) b L :=
  za_h_cg L b (fun j h1 h2 => pk_un (by omega)) h
theorem za_h_inj {a : Nat → Int32} : ∀ {L M : List Nat} {b : Nat}, L.length = M.length → (∀ x ∈ L, x < 2 ^ 31) → (∀ x ∈ M, x < 2 ^ 31) → za_h a b L → za_h a b M → L = M
  | [], [], _, _, _, _, _, _ => rfl
  | [], _ :: _, _, h, _, _, _, _ => by simp at h
  | _ :: _, [], _, h, _, _, _, _ => by simp at h
  | x :: xs, y :: ys, b, h, hx, hy, g, k => by
    have e : x = y := (nI_eq (hx x (by simp)) (hy y (by simp))).mp (g.1.symm.trans k.1)
    have e2 := za_h_inj (by simpa using h) (fun z hz => hx z (by simp [hz])) (fun z hz => hy z (by simp [hz])) g.2 k.2
    rw [e, e2]
theorem za_gm {L : List Nat} {i : Nat} (h : i < L.length) : L.getD i 0 ∈ L := by
  rw [List.getD_eq_getElem?_getD, List.getElem?_eq_getElem h]
  exact List.getElem_mem h
end
section
/-! the canonical order: insertion (reversed rows) and bubble passes -/
def zo_i (O : Nat → Nat) (c : Nat) : List Nat → List Nat
  | [] => [c]
  | x :: xs => if 0 < O c ∧ O c < O x then x :: zo_i O c xs else c :: x :: xs
def zo_f (O : Nat → Nat) : List Nat → List Nat → List Nat
  | r, [] => r
  | r, c :: cs => zo_f O (zo_i O c r) cs
def zo_p (O : Nat → Nat) : Nat → List Nat → List Nat
  | x, [] => [x]
  | x, y :: ys => if O y < O x ∧ 0 < O y then y :: zo_p O x ys else x :: zo_p O y ys
def zo_s (O : Nat → Nat) : Nat → List Nat → Bool
  | _, [] => false
  | x, y :: ys => if O y < O x ∧ 0 < O y then true else zo_s O y ys
def zo_m (O : Nat → Nat) : Nat → List Nat → Nat
  | _, [] => 0
  | i, x :: xs => i * (9 - O x) + zo_m O (i + 1) xs
theorem zo_i_len (O : Nat → Nat) (c : Nat) : ∀ L, (zo_i O c L).length = L.length + 1
  | [] => rfl
  | x :: xs => by
    unfold zo_i
    split
    · simp [zo_i_len O c xs]
    · rfl
theorem zo_i_mem {O : Nat → Nat} {c z : Nat} : ∀ {L : List Nat}, z ∈ zo_i O c L → z = c ∨ z ∈ L
  | [], h => by simp [zo_i] at h; exact Or.inl h
  | x :: xs, h => by
    unfold zo_i at h
    split at h
    · rcases List.mem_cons.mp h with h | h
      · exact Or.inr (by simp [h])
      · rcases zo_i_mem h with h | h
        · exact Or.inl h
        · exact Or.inr (by simp [h])
    · rcases List.mem_cons.mp h with h | h
      · exact Or.inl h
      · exact Or.inr h
theorem zo_i_lt {O : Nat → Nat} {c : Nat} {L : List Nat} (hc : c < 48) (h : ∀ x ∈ L, x < 48) : ∀ x ∈ zo_i O c L, x < 48 := fun x hx => by
  rcases zo_i_mem hx with rfl | hx
  · exact hc
  · exact h x hx
theorem zo_f_len (O : Nat → Nat) : ∀ (L r : List Nat), (zo_f O r L).length = r.length + L.length
  | [], r => rfl
  | c :: cs, r => by
    show (zo_f O (zo_i O c r) cs).length = _
    rw [zo_f_len O cs, zo_i_len, List.length_cons]; omega
theorem zo_f_app (O : Nat → Nat) : ∀ (L M r : List Nat), zo_f O r (L ++ M) = zo_f O (zo_f O r L) M
  | [], M, r => rfl
  | c :: cs, M, r => zo_f_app O cs M (zo_i O c r)
theorem zo_f_lt {O : Nat → Nat} : ∀ {L r : List Nat}, (∀ x ∈ L, x < 48) → (∀ x ∈ r, x < 48) → ∀ x ∈ zo_f O r L, x < 48
  | [], r, _, h => h
  | c :: cs, r, hL, h => zo_f_lt (L := cs) (fun x hx => hL x (by simp [hx])) (zo_i_lt (hL c (by simp)) h)
theorem zo_comm {O : Nat → Nat} {x y : Nat} (h : O y < O x) (h0 : 0 < O y) : ∀ r, zo_i O y (zo_i O x r) = zo_i O x (zo_i O y r)
  | [] => by
    have n1 : ¬ (0 < O x ∧ O x < O y) := by omega
    simp [zo_i, h, h0, n1]
  | z :: zs => by
    have ih := zo_comm h h0 zs
    have h0x : 0 < O x := by omega
    have n1 : ¬ O x < O y := by omega
    by_cases hz : O x < O z
    · have hzy : O y < O z := by omega
      simp [zo_i, hz, hzy, h0, h0x, ih]
    · by_cases hzy : O y < O z
      · simp [zo_i, hz, hzy, h0, h0x, h]
      · simp [zo_i, hz, hzy, h0, h0x, h, n1]
theorem zo_p_nf (O : Nat → Nat) : ∀ (ys : List Nat) (x : Nat) (r : List Nat), zo_f O r (zo_p O x ys) = zo_f O r (x :: ys)
  | [], x, r => rfl
  | y :: ys, x, r => by
    unfold zo_p
    split
    · rename_i h
      show zo_f O (zo_i O y r) (zo_p O x ys) = zo_f O (zo_i O y (zo_i O x r)) ys
      rw [zo_p_nf O ys x, zo_comm h.1 h.2]; rfl
    · show zo_f O (zo_i O x r) (zo_p O y ys) = zo_f O (zo_i O x r) (y :: ys)
      exact zo_p_nf O ys y _
theorem zo_p_len (O : Nat → Nat) : ∀ (ys : List Nat) (x : Nat), (zo_p O x ys).length = ys.length + 1
  | [], x => rfl
  | y :: ys, x => by
    unfold zo_p
    split
    · simp [zo_p_len O ys x]
    · simp [zo_p_len O ys y]
theorem zo_p_mem {O : Nat → Nat} {z : Nat} : ∀ {ys : List Nat} {x : Nat}, z ∈ zo_p O x ys → z = x ∨ z ∈ ys
  | [], x, h => by simp [zo_p] at h; exact Or.inl h
  | y :: ys, x, h => by
    unfold zo_p at h
    split at h
    · rcases List.mem_cons.mp h with h | h
      · exact Or.inr (by simp [h])
      · rcases zo_p_mem h with h | h
        · exact Or.inl h
        · exact Or.inr (by simp [h])
    · rcases List.mem_cons.mp h with h | h
      · exact Or.inl h
      · rcases zo_p_mem h with h | h
        · exact Or.inr (by simp [h])
        · exact Or.inr (by simp [h])
theorem zo_s_id {O : Nat → Nat} : ∀ {ys : List Nat} {x : Nat}, zo_s O x ys = false → zo_p O x ys = x :: ys
  | [], x, _ => rfl
  | y :: ys, x, h => by
    unfold zo_s at h
    split at h
    · cases h
    · rename_i g
      unfold zo_p
      rw [if_neg g, zo_s_id h]
theorem zo_s_nf {O : Nat → Nat} : ∀ {ys : List Nat} {x : Nat} {r : List Nat}, zo_s O x ys = false → zo_f O (x :: r) ys = ys.reverse ++ x :: r
  | [], x, r, _ => rfl
  | y :: ys, x, r, h => by
    unfold zo_s at h
    split at h
    · cases h
    · rename_i g
      have e : zo_i O y (x :: r) = y :: x :: r := by
        unfold zo_i; rw [if_neg]; exact fun q => g ⟨q.2, q.1⟩
      show zo_f O (zo_i O y (x :: r)) ys = _
      rw [e, zo_s_nf h, List.reverse_cons, List.append_assoc]; rfl
theorem zo_p_m {O : Nat → Nat} : ∀ {ys : List Nat} {x i : Nat}, O x ≤ 9 → (∀ y ∈ ys, O y ≤ 9) → zo_m O i (zo_p O x ys) ≤ zo_m O i (x :: ys) ∧ (zo_s O x ys = true → zo_m O i (zo_p O x ys) < zo_m O i (x :: ys))
  | [], x, i, _, _ => ⟨Nat.le_refl _, fun h => by cases h⟩
  | y :: ys, x, i, hx, hy => by
    have hy1 : O y ≤ 9 := hy y (by simp)
    have hy2 : ∀ z ∈ ys, O z ≤ 9 := fun z hz => hy z (by simp [hz])
    unfold zo_p zo_s
    split
    · rename_i g
      have h := (zo_p_m (O := O) (ys := ys) (x := x) (i := i + 1) hx hy2).1
      simp only [zo_m, Nat.succ_mul] at h ⊢
      have e : 9 - O x < 9 - O y := by omega
      generalize i * (9 - O x) = a at h ⊢
      generalize i * (9 - O y) = b at h ⊢
      generalize zo_m O (i + 1 + 1) ys = d at h ⊢
      generalize zo_m O (i + 1) (zo_p O x ys) = f at h ⊢
      constructor
      · omega
      · intro; omega
    · have h := zo_p_m (O := O) (ys := ys) (x := y) (i := i + 1) hy1 hy2
      constructor
      · have h1 := h.1
        simp only [zo_m] at h1 ⊢; omega
      · intro hs
        have h1 := h.2 hs
        simp only [zo_m] at h1 ⊢; omega
end
section
/-! full decompositions: m = 1 the canonical ones, m = 2 all -/
def zd_D (W A B : Nat → Nat) (m : Nat) : Nat → Nat → List Nat
  | 0, c => [c]
  | f + 1, c => if W c = 0 ∨ m < W c then [c] else zd_D W A B m f (A c) ++ (if B c = 0 then [] else zd_D W A B m f (B c - 1))
def zd_d (W A B : Nat → Nat) (m c : Nat) : List Nat := zd_D W A B m 48 c
def zd_W (W A B : Nat → Nat) : Prop := ∀ c, c < 48 → W c ≠ 0 → A c < c ∧ B c ≤ c
theorem zd_fuel {W A B : Nat → Nat} {m : Nat} (h : zd_W W A B) : ∀ (f c f' : Nat), c < 48 → c < f → c < f' → zd_D W A B m f c = zd_D W A B m f' c
  | 0, c, f', _, hf, _ => by omega
  | f + 1, c, 0, _, _, hf' => by omega
  | f + 1, c, f' + 1, hc, hf, hf' => by
    unfold zd_D
    split
    · rfl
    · rename_i g
      have hw := h c hc (by omega)
      rw [zd_fuel h f (A c) f' (by omega) (by omega) (by omega)]
      split
      · rfl
      · rw [zd_fuel h f (B c - 1) f' (by omega) (by omega) (by omega)]
theorem zd_no {W A B : Nat → Nat} {m c : Nat} (h : W c = 0 ∨ m < W c) : zd_d W A B m c = [c] := by
  unfold zd_d zd_D; rw [if_pos h]
theorem zd_yes {W A B : Nat → Nat} {m c : Nat} (hW : zd_W W A B) (hc : c < 48) (h0 : W c ≠ 0) (hm : W c ≤ m) :
    zd_d W A B m c = zd_d W A B m (A c) ++ (if B c = 0 then [] else zd_d W A B m (B c - 1)) := by
  have hw := hW c hc h0
  have e : zd_D W A B m 48 c = zd_D W A B m 49 c := zd_fuel hW 48 c 49 hc hc (by omega)
  unfold zd_d
  rw [e]
  conv => lhs; unfold zd_D
  rw [if_neg (by omega)]
theorem zd_pos {W A B : Nat → Nat} {m : Nat} : ∀ (f c : Nat), 0 < (zd_D W A B m f c).length
  | 0, c => by simp [zd_D]
  | f + 1, c => by
    unfold zd_D
    split
    · simp
    · have := zd_pos (W := W) (A := A) (B := B) (m := m) f (A c)
      rw [List.length_append]; omega
theorem zd_dpos {W A B : Nat → Nat} {m c : Nat} : 0 < (zd_d W A B m c).length := zd_pos 48 c
theorem zd_lt {W A B : Nat → Nat} {m : Nat} (hW : zd_W W A B) : ∀ (f c : Nat), c < 48 → ∀ x ∈ zd_D W A B m f c, x < 48
  | 0, c, hc, x, hx => by simp [zd_D] at hx; omega
  | f + 1, c, hc, x, hx => by
    unfold zd_D at hx
    split at hx
    · simp at hx; omega
    · rename_i g
      have hw := hW c hc (by omega)
      rcases List.mem_append.mp hx with hx | hx
      · exact zd_lt hW f (A c) (by omega) x hx
      · split at hx
        · simp at hx
        · exact zd_lt hW f (B c - 1) (by omega) x hx
theorem zd_dlt {W A B : Nat → Nat} {m c : Nat} (hW : zd_W W A B) (hc : c < 48) : ∀ x ∈ zd_d W A B m c, x < 48 := zd_lt hW 48 c hc
theorem zd_12 {W A B : Nat → Nat} : ∀ (f c : Nat), (zd_D W A B 1 f c).length ≤ (zd_D W A B 2 f c).length
  | 0, c => Nat.le_refl _
  | f + 1, c => by
    have ha := zd_12 (W := W) (A := A) (B := B) f (A c)
    have hb := zd_12 (W := W) (A := A) (B := B) f (B c - 1)
    have hp := zd_pos (W := W) (A := A) (B := B) (m := 2) f (A c)
    unfold zd_D
    by_cases h1 : W c = 0 ∨ 1 < W c
    · rw [if_pos h1]
      split
      · exact Nat.le_refl _
      · simp only [List.length_append, List.length_cons, List.length_nil]; omega
    · rw [if_neg h1, if_neg (show ¬ (W c = 0 ∨ 2 < W c) by omega)]
      simp only [List.length_append]
      by_cases hb0 : B c = 0
      · rw [if_pos hb0, if_pos hb0]; omega
      · rw [if_neg hb0, if_neg hb0]; omega
theorem zd_d12 {W A B : Nat → Nat} {c : Nat} : (zd_d W A B 1 c).length ≤ (zd_d W A B 2 c).length := zd_12 48 c
/-- no full decomposition is too long -/
def zd_G (W A B : Nat → Nat) : Prop := ∀ c, c < 48 → (zd_d W A B 2 c).length ≤ 4
theorem zd_G4 {W A B : Nat → Nat} {m c : Nat} (h : zd_G W A B) (hm : m = 1 ∨ m = 2) (hc : c < 48) : (zd_d W A B m c).length ≤ 4 := by
  rcases hm with rfl | rfl
  · exact Nat.le_trans zd_d12 (h c hc)
  · exact h c hc
/-- only what is said of decomposing characters counts -/
theorem zd_cg {W A B A' B' : Nat → Nat} {m : Nat} (hW : zd_W W A B) (h : ∀ c, c < 48 → W c ≠ 0 → A' c = A c ∧ B' c = B c) : ∀ (f c : Nat), c < 48 → zd_D W A' B' m f c = zd_D W A B m f c
  | 0, c, _ => rfl
  | f + 1, c, hc => by
    unfold zd_D
    by_cases g : W c = 0 ∨ m < W c
    · rw [if_pos g, if_pos g]
    · rw [if_neg g, if_neg g]
      have e := h c hc (by omega)
      have hw := hW c hc (by omega)
      rw [e.1, e.2, zd_cg hW h f (A c) (by omega)]
      split
      · rfl
      · rw [zd_cg hW h f (B c - 1) (by omega)]
/-- a row decomposed -/
def zd_R (W A B : Nat → Nat) (m : Nat) (L : List Nat) : List Nat := L.flatMap (zd_d W A B m)
theorem zd_R_nil {W A B : Nat → Nat} {m : Nat} : zd_R W A B m [] = [] := rfl
theorem zd_R_cons {W A B : Nat → Nat} {m c : Nat} {L : List Nat} : zd_R W A B m (c :: L) = zd_d W A B m c ++ zd_R W A B m L := by
  unfold zd_R; rw [List.flatMap_cons]
theorem zd_R_len {W A B : Nat → Nat} {m : Nat} : ∀ (L : List Nat), L.length ≤ (zd_R W A B m L).length
  | [] => Nat.le_refl _
  | c :: cs => by
    have h1 := zd_R_len (W := W) (A := A) (B := B) (m := m) cs
    have h2 := zd_dpos (W := W) (A := A) (B := B) (m := m) (c := c)
    rw [zd_R_cons, List.length_append, List.length_cons]; omega
theorem zd_R_le {W A B : Nat → Nat} {m : Nat} (hG : zd_G W A B) (hm : m = 1 ∨ m = 2) : ∀ (L : List Nat), (∀ x ∈ L, x < 48) → (zd_R W A B m L).length ≤ 4 * L.length
  | [], _ => Nat.le_refl _
  | c :: cs, h => by
    have h1 := zd_R_le hG hm cs (fun x hx => h x (by simp [hx]))
    have h2 := zd_G4 hG hm (h c (by simp))
    rw [zd_R_cons, List.length_append, List.length_cons]; omega
theorem zd_R_lt {W A B : Nat → Nat} {m : Nat} (hW : zd_W W A B) : ∀ {L : List Nat}, (∀ x ∈ L, x < 48) → ∀ x ∈ zd_R W A B m L, x < 48
  | [], _, x, hx => by simp [zd_R] at hx
  | c :: cs, h, x, hx => by
    rw [zd_R_cons] at hx
    rcases List.mem_append.mp hx with hx | hx
    · exact zd_dlt hW (h c (by simp)) x hx
    · exact zd_R_lt hW (fun y hy => h y (by simp [hy])) x hx
/-- how many steps a row of characters may still take -/
def zd_M : List Nat → Nat
  | [] => 0
  | c :: cs => 3 ^ c + zd_M cs
theorem zd_M1 {c : Nat} {cs : List Nat} : zd_M cs < zd_M (c :: cs) := by
  have := Nat.pow_pos (n := c) (show 0 < 3 by omega)
  show zd_M cs < 3 ^ c + zd_M cs
  omega
theorem zd_3 {a c : Nat} (h : a < c) : 3 * 3 ^ a ≤ 3 ^ c := by
  have := Nat.pow_le_pow_right (show 0 < 3 by omega) (show a + 1 ≤ c from h)
  rw [Nat.pow_succ] at this; omega
theorem zd_M2 {a c : Nat} {cs : List Nat} (h : a < c) : zd_M (a :: cs) < zd_M (c :: cs) := by
  have h1 := zd_3 h
  have h2 := Nat.pow_pos (n := a) (show 0 < 3 by omega)
  show 3 ^ a + zd_M cs < 3 ^ c + zd_M cs
  omega
theorem zd_M3 {a b c : Nat} {cs : List Nat} (h : a < c) (h' : b < c) : zd_M (a :: b :: cs) < zd_M (c :: cs) := by
  have h1 := zd_3 h
  have h2 := zd_3 h'
  have h3 := Nat.pow_pos (n := c) (show 0 < 3 by omega)
  simp only [zd_M]; omega
end
section
/-! composition: what is kept, what comes; CO a b: 0 or the composite + 1 -/
def zc_l (O : Nat → Nat) (K : List Nat) : Nat → Nat
  | 0 => 0
  | n + 1 => if O (K.getD n 0) = 0 then n + 1 else zc_l O K n
def zc_r (O : Nat → Nat) (K : List Nat) (p s : Nat) : Nat → Bool
  | 0 => true
  | n + 1 => if s ≤ n then (decide (O (K.getD n 0) < p) && zc_r O K p s n) else true
/-- made: 0 or what the starter becomes, + 1 -/
def zc_m (O : Nat → Nat) (CO : Nat → Nat → Nat) (K : List Nat) (x : Nat) : Nat :=
  if zc_l O K K.length ≠ 0 ∧ zc_r O K (O x) (zc_l O K K.length) K.length = true then CO (K.getD (zc_l O K K.length - 1) 0) x else 0
def zc_t (O : Nat → Nat) (CO : Nat → Nat → Nat) (K : List Nat) (x : Nat) : List Nat :=
  if zc_m O CO K x = 0 then K ++ [x] else K.set (zc_l O K K.length - 1) (zc_m O CO K x - 1)
def zc_f (O : Nat → Nat) (CO : Nat → Nat → Nat) : List Nat → List Nat → List Nat
  | K, [] => K
  | K, x :: xs => zc_f O CO (zc_t O CO K x) xs
def zc_c (O : Nat → Nat) (CO : Nat → Nat → Nat) : List Nat → List Nat
  | [] => []
  | x :: xs => zc_f O CO [x] xs
theorem zc_l_le (O : Nat → Nat) (K : List Nat) : ∀ n, zc_l O K n ≤ n
  | 0 => Nat.le_refl _
  | n + 1 => by
    have := zc_l_le O K n
    unfold zc_l; split <;> omega
theorem zc_l_cg {O : Nat → Nat} {K K' : List Nat} : ∀ {n : Nat}, (∀ i, i < n → K'.getD i 0 = K.getD i 0) → zc_l O K' n = zc_l O K n
  | 0, _ => rfl
  | n + 1, h => by
    unfold zc_l
    rw [h n (by omega), zc_l_cg (fun i hi => h i (by omega))]
theorem zc_t_len {O : Nat → Nat} {CO : Nat → Nat → Nat} {K : List Nat} {x : Nat} : (zc_t O CO K x).length ≤ K.length + 1 := by
  unfold zc_t; split <;> simp
theorem zc_t_pos {O : Nat → Nat} {CO : Nat → Nat → Nat} {K : List Nat} {x : Nat} (h : 0 < K.length) : 0 < (zc_t O CO K x).length := by
  unfold zc_t; split <;> simp <;> omega
theorem zc_t_lt {O : Nat → Nat} {CO : Nat → Nat → Nat} {K : List Nat} {x : Nat} (hC : ∀ a b, CO a b ≤ 48) (hK : ∀ z ∈ K, z < 48) (hx : x < 48) : ∀ z ∈ zc_t O CO K x, z < 48 := by
  intro z hz
  unfold zc_t at hz
  split at hz
  · rcases List.mem_append.mp hz with hz | hz
    · exact hK z hz
    · simp at hz; omega
  · rename_i h
    rcases List.mem_or_eq_of_mem_set hz with hz | hz
    · exact hK z hz
    · have hm : zc_m O CO K x ≤ 48 := by
        unfold zc_m; split
        · exact hC _ _
        · omega
      omega
theorem zc_f_len {O : Nat → Nat} {CO : Nat → Nat → Nat} : ∀ {xs K : List Nat}, (zc_f O CO K xs).length ≤ K.length + xs.length
  | [], K => Nat.le_refl _
  | x :: xs, K => by
    have h1 := zc_f_len (O := O) (CO := CO) (xs := xs) (K := zc_t O CO K x)
    have h2 := zc_t_len (O := O) (CO := CO) (K := K) (x := x)
    show (zc_f O CO (zc_t O CO K x) xs).length ≤ _
    rw [List.length_cons]; omega
theorem zc_f_lt {O : Nat → Nat} {CO : Nat → Nat → Nat} (hC : ∀ a b, CO a b ≤ 48) : ∀ {xs K : List Nat}, (∀ z ∈ K, z < 48) → (∀ z ∈ xs, z < 48) → ∀ z ∈ zc_f O CO K xs, z < 48
  | [], K, hK, _ => hK
  | x :: xs, K, hK, hx => zc_f_lt hC (xs := xs) (zc_t_lt hC hK (hx x (by simp))) (fun z hz => hx z (by simp [hz]))
theorem zc_c_len {O : Nat → Nat} {CO : Nat → Nat → Nat} : ∀ {L : List Nat}, (zc_c O CO L).length ≤ L.length
  | [] => Nat.le_refl _
  | x :: xs => by
    have h := zc_f_len (O := O) (CO := CO) (xs := xs) (K := [x])
    show (zc_f O CO [x] xs).length ≤ _
    rw [List.length_cons]; simp at h; omega
theorem zc_c_lt {O : Nat → Nat} {CO : Nat → Nat → Nat} (hC : ∀ a b, CO a b ≤ 48) : ∀ {L : List Nat}, (∀ z ∈ L, z < 48) → ∀ z ∈ zc_c O CO L, z < 48
  | [], h => h
  | x :: xs, h => zc_f_lt hC (fun z hz => h z (by simp at hz; simp [hz])) (fun z hz => h z (by simp [hz]))
/-- the first composite of a pair among the first n characters: 0 or it + 1 -/
def zc_o (W A B : Nat → Nat) (E : Nat → Int32) (a b : Nat) : Nat → Nat
  | 0 => 0
  | n + 1 => if zc_o W A B E a b n ≠ 0 then zc_o W A B E a b n else if W n = 1 ∧ A n = a ∧ B n = b + 1 ∧ E n = 0 then n + 1 else 0
theorem zc_o_le {W A B : Nat → Nat} {E : Nat → Int32} {a b : Nat} : ∀ n, zc_o W A B E a b n ≤ n
  | 0 => Nat.le_refl _
  | n + 1 => by
    have := zc_o_le (W := W) (A := A) (B := B) (E := E) (a := a) (b := b) n
    unfold zc_o; split
    · omega
    · split <;> omega
theorem zc_o_st {W A B : Nat → Nat} {E : Nat → Int32} {a b : Nat} {n : Nat} (h : zc_o W A B E a b n ≠ 0) : ∀ m, n ≤ m → zc_o W A B E a b m = zc_o W A B E a b n
  | 0, hm => by
    have : n = 0 := by omega
    rw [this]
  | m + 1, hm => by
    by_cases e : n = m + 1
    · rw [e]
    · have ih := zc_o_st h m (by omega)
      rw [zc_o, ih, if_pos h]
theorem zc_o_cg {W A B A' B' : Nat → Nat} {E : Nat → Int32} {a b : Nat} (h : ∀ c, c < 48 → W c ≠ 0 → A' c = A c ∧ B' c = B c) : ∀ n, n ≤ 48 → zc_o W A' B' E a b n = zc_o W A B E a b n
  | 0, _ => rfl
  | n + 1, hn => by
    rw [zc_o, zc_o, zc_o_cg h n (by omega)]
    by_cases g : W n = 1
    · have e := h n (by omega) (by omega)
      rw [e.1, e.2]
    · rw [if_neg (c := W n = 1 ∧ A' n = a ∧ B' n = b + 1 ∧ E n = 0) (fun q => g q.1), if_neg (c := W n = 1 ∧ A n = a ∧ B n = b + 1 ∧ E n = 0) (fun q => g q.1)]
end
section
/-! the table of pairs -/
def zh_C (pf : Nat → Nat) : Nat → Nat
  | 0 => 0
  | n + 1 => zh_C pf n + (if pf n = 0 then 0 else 1)
theorem zh_free {pf : Nat → Nat} : ∀ n, zh_C pf n < n → ∃ j, j < n ∧ pf j = 0
  | 0, h => by omega
  | n + 1, h => by
    by_cases e : pf n = 0
    · exact ⟨n, by omega, e⟩
    · unfold zh_C at h
      rw [if_neg e] at h
      obtain ⟨j, hj, ej⟩ := zh_free (pf := pf) n (by omega)
      exact ⟨j, by omega, ej⟩
theorem zh_C_cg {pf pg : Nat → Nat} : ∀ n, (∀ j, j < n → pg j = pf j) → zh_C pg n = zh_C pf n
  | 0, _ => rfl
  | n + 1, h => by
    unfold zh_C
    rw [zh_C_cg n (fun j hj => h j (by omega)), h n (by omega)]
theorem zh_C_set {pf : Nat → Nat} {k v : Nat} (h0 : pf k = 0) (hv : v ≠ 0) : ∀ n, k < n → zh_C (za_U pf k v) n = zh_C pf n + 1
  | 0, h => by omega
  | n + 1, h => by
    unfold zh_C
    by_cases e : k = n
    · subst e
      rw [za_Us, if_neg hv, h0, if_pos rfl, zh_C_cg k (fun j hj => za_Un (by omega))]
    · rw [zh_C_set h0 hv n (by omega), za_Un (by omega)]; omega
def zh_q (a b : Nat) : Nat := 48 * a + b + 1
def zh_k (q d : Nat) : Nat := (q * 37 % 128 + d) % 128
theorem zh_k_lt (q d : Nat) : zh_k q d < 128 := Nat.mod_lt _ (by omega)
theorem zh_q_inj {a b a' b' : Nat} (hb : b < 48) (hb' : b' < 48) (h : zh_q a b = zh_q a' b') : a = a' ∧ b = b' := by
  unfold zh_q at h; omega
theorem zh_q_lt {a b : Nat} (ha : a < 48) (hb : b < 48) : zh_q a b < 2400 := by unfold zh_q; omega
/-- the table holds F: pf are its cells, at most c of them taken -/
def zh_P (pf : Nat → Nat) (wh : Nat → Int32) (c : Nat) (F : Nat → Nat → Nat) : Prop :=
  zh_C pf 128 ≤ c ∧
  (∀ j, j < 128 → pf j ≠ 0 → ∃ a b, a < 48 ∧ b < 48 ∧ pf j = zh_q a b ∧ F a b ≠ 0 ∧ wh j = nI (F a b - 1)) ∧
  (∀ a b, a < 48 → b < 48 → F a b ≠ 0 → ∃ d, pf (zh_k (zh_q a b) d) = zh_q a b ∧ ∀ e, e < d → pf (zh_k (zh_q a b) e) ≠ 0)
def zh_T (pr wh : Nat → Int32) (c : Nat) (F : Nat → Nat → Nat) : Prop :=
  ∃ pf : Nat → Nat, (∀ j, j < 128 → pr j = nI (pf j)) ∧ zh_P pf wh c F
theorem zh_P_lt {pf : Nat → Nat} {wh : Nat → Int32} {c : Nat} {F : Nat → Nat → Nat} (h : zh_P pf wh c F) : ∀ j, j < 128 → pf j < 2400 := by
  intro j hj
  by_cases e : pf j = 0
  · omega
  · obtain ⟨a, b, ha, hb, e1, _⟩ := h.2.1 j hj e
    rw [e1]; exact zh_q_lt ha hb
theorem zh_none {pf : Nat → Nat} {wh : Nat → Int32} {c d a b : Nat} {F : Nat → Nat → Nat} (h : zh_P pf wh c F) (ha : a < 48) (hb : b < 48)
    (h0 : pf (zh_k (zh_q a b) d) = 0) (hd : ∀ e, e < d → pf (zh_k (zh_q a b) e) ≠ zh_q a b) : F a b = 0 := by
  apply Classical.byContradiction
  intro hF
  obtain ⟨d', e1, e2⟩ := h.2.2 a b ha hb hF
  rcases Nat.lt_trichotomy d d' with g | g | g
  · exact e2 d g h0
  · subst g
    rw [e1] at h0; unfold zh_q at h0; omega
  · exact hd d' g e1
theorem zh_some {pf : Nat → Nat} {wh : Nat → Int32} {c j a b : Nat} {F : Nat → Nat → Nat} (h : zh_P pf wh c F) (hb : b < 48)
    (hj : j < 128) (hq : pf j = zh_q a b) : F a b ≠ 0 ∧ wh j = nI (F a b - 1) := by
  obtain ⟨a', b', ha', hb', e1, e2, e3⟩ := h.2.1 j hj (by rw [hq]; unfold zh_q; omega)
  obtain ⟨rfl, rfl⟩ := zh_q_inj hb hb' (hq.symm.trans e1)
  exact ⟨e2, e3⟩
theorem zh_ins {pf : Nat → Nat} {wh : Nat → Int32} {c d a b v : Nat} {F F' : Nat → Nat → Nat} (h : zh_P pf wh c F) (ha : a < 48) (hb : b < 48)
    (h0 : pf (zh_k (zh_q a b) d) = 0) (hd : ∀ e, e < d → pf (zh_k (zh_q a b) e) ≠ 0)
    (hF : F a b = 0) (hF' : F' a b = v + 1) (hF2 : ∀ a' b', a' < 48 → b' < 48 → ¬ (a' = a ∧ b' = b) → F' a' b' = F a' b') :
    zh_P (za_U pf (zh_k (zh_q a b) d) (zh_q a b)) (upd wh (zh_k (zh_q a b) d) (nI v)) (c + 1) F' := by
  have hne : zh_q a b ≠ 0 := by unfold zh_q; omega
  refine ⟨?_, ?_, ?_⟩
  · rw [zh_C_set h0 hne 128 (zh_k_lt _ _)]
    exact Nat.succ_le_succ h.1
  · intro j hj hj0
    by_cases e : j = zh_k (zh_q a b) d
    · subst e
      rw [za_Us, pk_us]
      exact ⟨a, b, ha, hb, rfl, by omega, by rw [hF']; rfl⟩
    · rw [za_Un e] at hj0 ⊢
      rw [pk_un e]
      obtain ⟨a', b', ha', hb', e1, e2, e3⟩ := h.2.1 j hj hj0
      have hn : ¬ (a' = a ∧ b' = b) := by
        rintro ⟨rfl, rfl⟩; exact e2 hF
      refine ⟨a', b', ha', hb', e1, ?_, ?_⟩
      · rw [hF2 a' b' ha' hb' hn]; exact e2
      · rw [hF2 a' b' ha' hb' hn]; exact e3
  · intro a' b' ha' hb' hF0
    by_cases hn : a' = a ∧ b' = b
    · obtain ⟨rfl, rfl⟩ := hn
      refine ⟨d, za_Us, fun e he => ?_⟩
      by_cases g : zh_k (zh_q a' b') e = zh_k (zh_q a' b') d
      · rw [g, za_Us]; exact hne
      · rw [za_Un g]; exact hd e he
    · rw [hF2 a' b' ha' hb' hn] at hF0
      obtain ⟨d', e1, e2⟩ := h.2.2 a' b' ha' hb' hF0
      refine ⟨d', ?_, fun e he => ?_⟩
      · rw [za_Un]
        · exact e1
        · intro g
          rw [g, h0] at e1
          unfold zh_q at e1; omega
      · by_cases g : zh_k (zh_q a' b') e = zh_k (zh_q a b) d
        · rw [g, za_Us]; exact hne
        · rw [za_Un g]; exact e2 e he
theorem zh_P_cg {pf : Nat → Nat} {wh : Nat → Int32} {c c' : Nat} {F F' : Nat → Nat → Nat} (h : zh_P pf wh c F) (hc : c ≤ c') (hF : ∀ a b, a < 48 → b < 48 → F' a b = F a b) : zh_P pf wh c' F' := by
  refine ⟨Nat.le_trans h.1 hc, ?_, ?_⟩
  · intro j hj h0
    obtain ⟨a, b, ha, hb, e1, e2, e3⟩ := h.2.1 j hj h0
    exact ⟨a, b, ha, hb, e1, by rw [hF a b ha hb]; exact e2, by rw [hF a b ha hb]; exact e3⟩
  · intro a b ha hb h0
    rw [hF a b ha hb] at h0
    exact h.2.2 a b ha hb h0
theorem zh_P0 {pf : Nat → Nat} {wh : Nat → Int32} {F : Nat → Nat → Nat} (h : ∀ j, j < 128 → pf j = 0) (hF : ∀ a b, F a b = 0) : zh_P pf wh 0 F := by
  refine ⟨?_, fun j hj h0 => absurd (h j hj) h0, fun a b _ _ h0 => absurd (hF a b) h0⟩
  have : ∀ n, n ≤ 128 → zh_C pf n = 0 := by
    intro n
    induction n with
    | zero => intro _; rfl
    | succ n ih =>
      intro hn
      unfold zh_C
      rw [ih (by omega), h n (by omega), if_pos rfl]
  rw [this 128 (Nat.le_refl _)]
  exact Nat.le_refl _
/-- the free cell is within reach of every start -/
theorem zh_reach {pf : Nat → Nat} {wh : Nat → Int32} {c : Nat} {F : Nat → Nat → Nat} (h : zh_P pf wh c F) (hc : c < 128) (q : Nat) : ∃ d, d < 128 ∧ pf (zh_k q d) = 0 := by
  obtain ⟨j, hj, e⟩ := zh_free 128 (Nat.lt_of_le_of_lt h.1 hc)
  refine ⟨(j + 128 - q * 37 % 128) % 128, Nat.mod_lt _ (by omega), ?_⟩
  have hq : q * 37 % 128 < 128 := Nat.mod_lt _ (by omega)
  have e2 : zh_k q ((j + 128 - q * 37 % 128) % 128) = j := by
    unfold zh_k
    generalize q * 37 % 128 = x at hq ⊢
    omega
  rw [e2]; exact e
end
section
/-! the order on the page: turns, and what a range holds -/
def zp_t (lev : Nat → Nat) (l : Nat) : List Nat → List Nat → List Nat
  | acc, [] => acc
  | acc, p :: ps => if l ≤ lev p then zp_t lev l (p :: acc) ps else acc ++ p :: zp_t lev l [] ps
/-- after k turns, from level 9 down -/
def zp_V (lev : Nat → Nat) (s : List Nat) : Nat → List Nat
  | 0 => s
  | k + 1 => zp_t lev (9 - k) [] (zp_V lev s k)
/-- what a range of level l shows, from left to right -/
def zp_F (lev : Nat → Nat) (l : Nat) (s : List Nat) : List Nat :=
  if l % 2 = 0 then zp_V lev s (9 - l) else (zp_V lev s (9 - l)).reverse
theorem zp_t_sep {lev : Nat → Nat} {l p : Nat} (h : lev p < l) : ∀ (s1 s2 acc : List Nat), zp_t lev l acc (s1 ++ p :: s2) = zp_t lev l acc s1 ++ p :: zp_t lev l [] s2
  | [], s2, acc => by
    show zp_t lev l acc (p :: s2) = acc ++ p :: zp_t lev l [] s2
    rw [zp_t, if_neg (by omega)]
  | x :: xs, s2, acc => by
    show zp_t lev l acc (x :: (xs ++ p :: s2)) = zp_t lev l acc (x :: xs) ++ p :: zp_t lev l [] s2
    rw [zp_t, zp_t]
    split
    · exact zp_t_sep h xs s2 _
    · rw [zp_t_sep h xs s2 [], List.append_assoc]; rfl
theorem zp_t_all {lev : Nat → Nat} {l : Nat} : ∀ (s acc : List Nat), (∀ q ∈ s, l ≤ lev q) → zp_t lev l acc s = s.reverse ++ acc
  | [], acc, _ => rfl
  | x :: xs, acc, h => by
    rw [zp_t, if_pos (h x (by simp)), zp_t_all xs (x :: acc) (fun q hq => h q (by simp [hq])), List.reverse_cons, List.append_assoc]; rfl
theorem zp_t_perm {lev : Nat → Nat} {l : Nat} : ∀ (s acc : List Nat), (zp_t lev l acc s).Perm (acc ++ s)
  | [], acc => by rw [zp_t, List.append_nil]
  | x :: xs, acc => by
    rw [zp_t]
    split
    · exact (zp_t_perm xs (x :: acc)).trans List.perm_middle.symm
    · exact List.Perm.append_left acc (List.Perm.cons x (zp_t_perm xs []))
theorem zp_V_perm {lev : Nat → Nat} {s : List Nat} : ∀ k, (zp_V lev s k).Perm s
  | 0 => List.Perm.refl _
  | k + 1 => (zp_t_perm _ []).trans (zp_V_perm k)
theorem zp_F_perm {lev : Nat → Nat} {l : Nat} {s : List Nat} : (zp_F lev l s).Perm s := by
  unfold zp_F
  split
  · exact zp_V_perm _
  · exact (List.reverse_perm _).trans (zp_V_perm _)
theorem zp_F_mem {lev : Nat → Nat} {l q : Nat} {s : List Nat} : q ∈ zp_F lev l s ↔ q ∈ s := zp_F_perm.mem_iff
theorem zp_V_sep {lev : Nat → Nat} {p : Nat} {s1 s2 : List Nat} : ∀ k, lev p + k ≤ 9 → zp_V lev (s1 ++ p :: s2) k = zp_V lev s1 k ++ p :: zp_V lev s2 k
  | 0, _ => rfl
  | k + 1, h => by
    rw [zp_V, zp_V_sep k (by omega), zp_t_sep (by omega)]; rfl
theorem zp_F_up {lev : Nat → Nat} {l : Nat} {s : List Nat} (hl : l < 9) (h : ∀ q ∈ s, l + 1 ≤ lev q) : zp_F lev l s = zp_F lev (l + 1) s := by
  have e : zp_V lev s (9 - l) = (zp_V lev s (9 - (l + 1))).reverse := by
    rw [show 9 - l = (9 - (l + 1)) + 1 by omega, zp_V, zp_t_all]
    · rw [List.append_nil]
    · intro q hq
      have := h q ((zp_V_perm _).mem_iff.mp hq)
      omega
  unfold zp_F
  rw [e]
  by_cases g : l % 2 = 0
  · rw [if_pos g, if_neg (by omega)]
  · rw [if_neg g, if_pos (by omega), List.reverse_reverse]
theorem zp_F_ups {lev : Nat → Nat} {s : List Nat} {l : Nat} : ∀ d, l + d ≤ 9 → (∀ q ∈ s, l + d ≤ lev q) → zp_F lev l s = zp_F lev (l + d) s
  | 0, _, _ => rfl
  | d + 1, h, g => by
    rw [zp_F_ups d (by omega) (fun q hq => by have := g q hq; omega)]
    exact zp_F_up (by omega) g
theorem zp_F_to {lev : Nat → Nat} {s : List Nat} {l m : Nat} (hm : l ≤ m) (h9 : m ≤ 9) (h : ∀ q ∈ s, m ≤ lev q) : zp_F lev l s = zp_F lev m s := by
  have := zp_F_ups (lev := lev) (s := s) (l := l) (m - l) (by omega) (fun q hq => by have := h q hq; omega)
  rw [this, show l + (m - l) = m by omega]
theorem zp_F_cut {lev : Nat → Nat} {l q : Nat} {s1 s2 : List Nat} (hl : l ≤ 8) (hq : lev q = l) : zp_F lev l (s1 ++ q :: s2) = if l % 2 = 0 then zp_F lev l (s1 ++ [q]) ++ zp_F lev l s2 else zp_F lev l s2 ++ zp_F lev l (s1 ++ [q]) := by
  have e1 : zp_V lev (s1 ++ q :: s2) (9 - l) = zp_V lev s1 (9 - l) ++ q :: zp_V lev s2 (9 - l) := zp_V_sep _ (by omega)
  have e2 : zp_V lev (s1 ++ [q]) (9 - l) = zp_V lev s1 (9 - l) ++ q :: zp_V lev [] (9 - l) := zp_V_sep _ (by omega)
  have e3 : zp_V lev [] (9 - l) = [] := List.perm_nil.mp (zp_V_perm (lev := lev) (s := []) (9 - l))
  unfold zp_F
  rw [e1, e2, e3]
  split
  · simp
  · simp
theorem zp_F_one {lev : Nat → Nat} {l p : Nat} : zp_F lev l [p] = [p] := List.perm_singleton.mp zp_F_perm
theorem zp_F_nil {lev : Nat → Nat} {l : Nat} : zp_F lev l [] = [] := List.perm_nil.mp zp_F_perm
/-- a place of level l is put to a range -/
theorem zp_F_put {lev : Nat → Nat} {m l p : Nat} {s : List Nat} (hl : l ≤ m) (hm : m ≤ 8) (h : ∀ q ∈ s, m ≤ lev q) (hp : lev p = l) : zp_F lev l (s ++ [p]) = if l % 2 = 0 then zp_F lev m s ++ [p] else p :: zp_F lev m s := by
  have e1 : zp_V lev (s ++ [p]) (9 - l) = zp_V lev s (9 - l) ++ p :: zp_V lev [] (9 - l) := zp_V_sep _ (by omega)
  have e3 : zp_V lev [] (9 - l) = [] := List.perm_nil.mp (zp_V_perm (lev := lev) (s := []) (9 - l))
  rw [← zp_F_to hl (by omega) h]
  unfold zp_F
  rw [e1, e3]
  split
  · rfl
  · simp
/-- two ranges become one -/
theorem zp_F_join {lev : Nat → Nat} {m l q : Nat} {s1 s2 : List Nat} (hl : l ≤ m) (hm : m ≤ 8) (hq : lev q = l) (h : ∀ z ∈ s2, m ≤ lev z) : zp_F lev l ((s1 ++ [q]) ++ s2) = if l % 2 = 0 then zp_F lev l (s1 ++ [q]) ++ zp_F lev m s2 else zp_F lev m s2 ++ zp_F lev l (s1 ++ [q]) := by
  rw [← zp_F_to hl (by omega) h, List.append_assoc]
  exact zp_F_cut (by omega) hq
/-- chains, their ends -/
def zp_c (bh : Nat → Int32) : List Nat → Prop
  | [] => True
  | [_] => True
  | x :: y :: r => bh x = nI y ∧ zp_c bh (y :: r)
def zp_b : List Nat → Nat
  | [] => 0
  | x :: _ => x
def zp_e : List Nat → Nat
  | [] => 0
  | [x] => x
  | _ :: y :: r => zp_e (y :: r)
theorem zp_e_mem : ∀ (L : List Nat), L ≠ [] → zp_e L ∈ L
  | [], h => absurd rfl h
  | [x], _ => by simp [zp_e]
  | x :: y :: r, _ => List.mem_cons_of_mem _ (zp_e_mem (y :: r) (by simp))
theorem zp_b_mem : ∀ (L : List Nat), L ≠ [] → zp_b L ∈ L
  | [], h => absurd rfl h
  | x :: _, _ => by simp [zp_b]
theorem zp_e_app : ∀ (L M : List Nat), M ≠ [] → zp_e (L ++ M) = zp_e M
  | [], M, _ => rfl
  | [x], [], h => absurd rfl h
  | [x], y :: r, _ => rfl
  | x :: y :: r, M, h => zp_e_app (y :: r) M h
theorem zp_b_app : ∀ (L M : List Nat), L ≠ [] → zp_b (L ++ M) = zp_b L
  | [], M, h => absurd rfl h
  | x :: _, M, _ => rfl
theorem zp_c_cg {bh bh' : Nat → Int32} : ∀ (L : List Nat), (∀ q ∈ L, bh' q = bh q) → zp_c bh L → zp_c bh' L
  | [], _, _ => trivial
  | [x], _, _ => trivial
  | x :: y :: r, h, g => ⟨by rw [h x (by simp)]; exact g.1, zp_c_cg (y :: r) (fun q hq => h q (List.mem_cons_of_mem _ hq)) g.2⟩
theorem zp_c_app {bh : Nat → Int32} : ∀ (L M : List Nat), L ≠ [] → M ≠ [] → (L ++ M).Nodup → zp_c bh L → zp_c bh M → zp_c (upd bh (zp_e L) (nI (zp_b M))) (L ++ M)
  | [], _, h, _, _, _, _ => absurd rfl h
  | [x], [], _, h, _, _, _ => absurd rfl h
  | [x], y :: r, _, _, hn, _, hM => by
    refine ⟨pk_us, zp_c_cg (y :: r) (fun q hq => pk_un ?_) hM⟩
    rintro rfl
    exact (List.nodup_cons.mp hn).1 hq
  | x :: y :: r, M, _, h, hn, hL, hM => by
    have hn' := List.nodup_cons.mp hn
    refine ⟨?_, zp_c_app (y :: r) M (by simp) h hn'.2 hL.2 hM⟩
    rw [pk_un]
    · exact hL.1
    · intro e
      apply hn'.1
      rw [e]
      exact List.mem_append_left _ (zp_e_mem (y :: r) (by simp))
theorem zp_c_get {bh : Nat → Int32} : ∀ (L : List Nat) (i : Nat), zp_c bh L → i + 1 < L.length → bh (L.getD i 0) = nI (L.getD (i + 1) 0)
  | [], i, _, h => by simp at h
  | [x], i, _, h => by simp at h
  | x :: y :: r, 0, g, _ => g.1
  | x :: y :: r, i + 1, g, h => zp_c_get (y :: r) i g.2 (by simpa using h)
/-- the ranges, the last one first -/
def zp_cat : List (List Nat × Nat) → List Nat
  | [] => []
  | (s, _) :: r => zp_cat r ++ s
def zp_K (lev : Nat → Nat) (bh rl rr rv : Nat → Int32) : List (List Nat × Nat) → Prop
  | [] => True
  | (s, l) :: r => (rl r.length = nI (zp_b (zp_F lev l s)) ∧ rr r.length = nI (zp_e (zp_F lev l s)) ∧ rv r.length = nI l ∧ zp_c bh (zp_F lev l s) ∧ s ≠ [] ∧ (∀ q ∈ s, l ≤ lev q) ∧ l ≤ 8) ∧ zp_K lev bh rl rr rv r
def zp_A (lev : Nat → Nat) : List (List Nat × Nat) → Prop
  | [] => True
  | [_] => True
  | (_, l) :: (s', l') :: r => (l' < l ∧ lev (zp_e s') = l') ∧ zp_A lev ((s', l') :: r)
theorem zp_K_cg {lev : Nat → Nat} {bh rl rr rv bh' rl' rr' rv' : Nat → Int32} : ∀ (r : List (List Nat × Nat)), (∀ q ∈ zp_cat r, bh' q = bh q) → (∀ i, i < r.length → rl' i = rl i ∧ rr' i = rr i ∧ rv' i = rv i) → zp_K lev bh rl rr rv r → zp_K lev bh' rl' rr' rv' r
  | [], _, _, _ => trivial
  | (s, l) :: r, h, g, k => by
    have e := g r.length (by simp)
    refine ⟨⟨by rw [e.1]; exact k.1.1, by rw [e.2.1]; exact k.1.2.1, by rw [e.2.2]; exact k.1.2.2.1, ?_, k.1.2.2.2.2⟩, ?_⟩
    · exact zp_c_cg _ (fun q hq => h q (List.mem_append_right _ (zp_F_mem.mp hq))) k.1.2.2.2.1
    · exact zp_K_cg r (fun q hq => h q (List.mem_append_left _ hq)) (fun i hi => g i (by simp only [List.length_cons]; omega)) k.2
theorem zp_ne {lev : Nat → Nat} {l : Nat} {s : List Nat} (h : s ≠ []) : zp_F lev l s ≠ [] := by
  intro e
  have := zp_F_perm (lev := lev) (l := l) (s := s)
  rw [e] at this
  exact h (List.nil_perm.mp this)
theorem zp_last : ∀ (s : List Nat), s ≠ [] → ∃ t, s = t ++ [zp_e s]
  | [], h => absurd rfl h
  | [x], _ => ⟨[], rfl⟩
  | x :: y :: r, _ => by
    obtain ⟨t, e⟩ := zp_last (y :: r) (by simp)
    exact ⟨x :: t, congrArg (List.cons x) e⟩
end
section
/-! rows, parts of a text -/
def zx_row (ro sz : Nat → Int32) (r : Nat) (L : List Nat) : Prop := za_h ro (64 * r) L ∧ sz r = nI L.length
def zx_rf (r : Nat) (ro ro' sz sz' : Nat → Int32) : Prop := (∀ j, j < 64 * r ∨ 64 * r + 64 ≤ j → ro' j = ro j) ∧ (∀ j, j ≠ r → sz' j = sz j)
theorem zx_rf_r {r : Nat} {ro sz : Nat → Int32} : zx_rf r ro ro sz sz := ⟨fun _ _ => rfl, fun _ _ => rfl⟩
theorem zx_rf_t {r : Nat} {ro ro' ro'' sz sz' sz'' : Nat → Int32} (h : zx_rf r ro ro' sz sz') (g : zx_rf r ro' ro'' sz' sz'') : zx_rf r ro ro'' sz sz'' :=
  ⟨fun j hj => by rw [g.1 j hj, h.1 j hj], fun j hj => by rw [g.2 j hj, h.2 j hj]⟩
theorem zx_row_k {r q : Nat} {ro ro' sz sz' : Nat → Int32} {L : List Nat} (h : zx_rf r ro ro' sz sz') (hq : q ≠ r) (hL : L.length ≤ 64) (g : zx_row ro sz q L) : zx_row ro' sz' q L :=
  ⟨za_h_cg L _ (fun j h1 h2 => h.1 j (by omega)) g.1, by rw [h.2 q hq]; exact g.2⟩
/-- k characters of a text from a place on -/
def zt_s (T : Nat → Nat) : Nat → Nat → List Nat
  | _, 0 => []
  | i, k + 1 => T i :: zt_s T (i + 1) k
theorem zt_s_len (T : Nat → Nat) : ∀ k i, (zt_s T i k).length = k
  | 0, i => rfl
  | k + 1, i => by show (zt_s T (i + 1) k).length + 1 = _; rw [zt_s_len T k]
theorem zt_s_lt {T : Nat → Nat} : ∀ {k i : Nat}, (∀ j, i ≤ j → j < i + k → T j < 48) → ∀ x ∈ zt_s T i k, x < 48
  | 0, i, _, x, hx => by simp [zt_s] at hx
  | k + 1, i, h, x, hx => by
    rcases List.mem_cons.mp hx with hx | hx
    · rw [hx]; exact h i (by omega) (by omega)
    · exact zt_s_lt (k := k) (i := i + 1) (fun j h1 h2 => h j (by omega) (by omega)) x hx
theorem zt_s_get (T : Nat → Nat) : ∀ k i j, j < k → (zt_s T i k).getD j 0 = T (i + j)
  | 0, _, _, h => by omega
  | k + 1, i, 0, _ => rfl
  | k + 1, i, j + 1, h => by
    show (zt_s T (i + 1) k).getD j 0 = _
    rw [zt_s_get T k (i + 1) j (by omega)]
    exact congrArg T (by omega)
theorem zt_s_cg {T T' : Nat → Nat} : ∀ {k i : Nat}, (∀ j, i ≤ j → j < i + k → T' j = T j) → zt_s T' i k = zt_s T i k
  | 0, _, _ => rfl
  | k + 1, i, h => by
    unfold zt_s
    rw [h i (by omega) (by omega), zt_s_cg (k := k) (i := i + 1) (fun j h1 h2 => h j (by omega) (by omega))]
/-- the decomposed and ordered form -/
def zn_f (O W A B : Nat → Nat) (m : Nat) (S : List Nat) : List Nat := (zo_f O [] (zd_R W A B m S)).reverse
theorem zn_f_len {O W A B : Nat → Nat} {m : Nat} {S : List Nat} : (zn_f O W A B m S).length = (zd_R W A B m S).length := by
  unfold zn_f; rw [List.length_reverse, zo_f_len, List.length_nil, Nat.zero_add]
theorem zn_f_le {O W A B : Nat → Nat} {m : Nat} {S : List Nat} (hG : zd_G W A B) (hm : m = 1 ∨ m = 2) (hS : ∀ x ∈ S, x < 48) (hl : S.length ≤ 16) : (zn_f O W A B m S).length ≤ 64 := by
  rw [zn_f_len]
  have := zd_R_le hG hm S hS
  omega
theorem zn_f_lt {O W A B : Nat → Nat} {m : Nat} {S : List Nat} (hW : zd_W W A B) (hS : ∀ x ∈ S, x < 48) : ∀ x ∈ zn_f O W A B m S, x < 48 := by
  intro x hx
  unfold zn_f at hx
  rw [List.mem_reverse] at hx
  exact zo_f_lt (zd_R_lt hW hS) (fun y hy => by simp at hy) x hx
theorem zc_r_iff {O : Nat → Nat} {K : List Nat} {p s : Nat} : ∀ n, zc_r O K p s n = true ↔ ∀ i, s ≤ i → i < n → O (K.getD i 0) < p
  | 0 => by
    constructor
    · intro _ i _ h; omega
    · intro _; rfl
  | n + 1 => by
    unfold zc_r
    by_cases h : s ≤ n
    · rw [if_pos h, Bool.and_eq_true, decide_eq_true_iff, zc_r_iff n]
      constructor
      · intro g i h1 h2
        by_cases e : i = n
        · rw [e]; exact g.1
        · exact g.2 i h1 (by omega)
      · intro g
        exact ⟨g n h (by omega), fun i h1 h2 => g i h1 (by omega)⟩
    · rw [if_neg h]
      constructor
      · intro _ i h1 h2; omega
      · intro _; rfl
end
section
section
variable {cn : Nat} {rg : Int32} {O W LO UA KI F1 F2 F3 DI CA CB CT T LN : Nat → Nat} {E UB LA EA dA dB eB fu fz pr wh ro sz em hg lv bh rl rr rv ou nx sl : Nat → Int32}
theorem zx_ex68 {post : Int32 → SX → Prop} {J : Int32 → Int32 → (Nat → Int32) → (Nat → Int32) → (Nat → Int32) → (Nat → Int32) → (Nat → Int32) → (Nat → Int32) → (Nat → Int32) → (Nat → Int32) → (Nat → Int32) → (Nat → Int32) → (Nat → Int32) → (Nat → Int32) → (Nat → Int32) → (Nat → Int32) → (Nat → Int32) → (Nat → Int32) → (Nat → Int32) → (Nat → Int32) → (Nat → Int32) → (Nat → Int32) → (Nat → Int32) → (Nat → Int32) → (Nat → Int32) → (Nat → Int32) → (Nat → Int32) → (Nat → Int32) → (Nat → Int32) → (Nat → Int32) → (Nat → Int32) → (Nat → Int32) → (Nat → Int32) → (Nat → Int32) → (Nat → Int32) → (Nat → Int32) → (Nat → Int32) → (Nat → Int32) → (Nat → Int32) → Prop} {c d st pt : Nat} {Ld : List Nat} (hst : st ≤ 48) (hc : c < 48) (hdc : d < c) (hL : ∀ x ∈ Ld, x < 48) (hz : fz (st + d) = nI Ld.length) (hL4 : Ld.length ≤ 4) :
    ∀ (rest pre acc : List Nat) (fu : Nat → Int32) (n : Nat), rest.length < n → Ld = pre ++ rest → acc.length ≤ 4 → za_h fu (4 * (st + c)) acc → za_h fu (4 * (st + d)) Ld →
    (acc.length + rest.length ≤ 4 → ∀ fu', za_h fu' (4 * (st + c)) (acc ++ rest) → (∀ j, j < 4 * (st + c) ∨ 4 * (st + c) + 4 ≤ j → fu' j = fu j) → J (nI (acc.length + rest.length)) (nI (pt + 1)) (za_F O) (za_F W) dA dB E (za_F LO) (za_F UA) UB LA (za_F KI) (za_F F1) (za_F F2) (za_F F3) (za_F DI) EA eB (za_F CA) (za_F CB) (za_F CT) fu' fz pr wh (za_F T) (za_F LN) ro sz em hg lv bh rl rr rv ou nx sl) →
    (4 < acc.length + rest.length → ∀ fu', (∀ j, j < 4 * (st + c) ∨ 4 * (st + c) + 4 ≤ j → fu' j = fu j) → post 0 ((nI cn), rg, (za_F O), (za_F W), dA, dB, E, (za_F LO), (za_F UA), UB, LA, (za_F KI), (za_F F1), (za_F F2), (za_F F3), (za_F DI), EA, eB, (za_F CA), (za_F CB), (za_F CT), fu', fz, pr, wh, (za_F T), (za_F LN), ro, sz, em, hg, lv, bh, rl, rr, rv, ou, nx, sl)) →
    wX_expand_68 post J (nI c) (nI st) (nI (4 * (st + c))) (nI pt) (nI d) (nI cn) rg n (nI acc.length) (nI pre.length) (za_F O) (za_F W) dA dB E (za_F LO) (za_F UA) UB LA (za_F KI) (za_F F1) (za_F F2) (za_F F3) (za_F DI) EA eB (za_F CA) (za_F CB) (za_F CT) fu fz pr wh (za_F T) (za_F LN) ro sz em hg lv bh rl rr rv ou nx sl := by
  have e1 : nI st + nI d = nI (st + d) := nI_add _ _
  have hzz : fz (nI st + nI d).toNatClampNeg = nI Ld.length := by rw [e1, nI_clamp (by omega)]; exact hz
  intro rest
  induction rest with
  | nil =>
    intro pre acc fu n hn hp ha h1 h2 hok hno
    obtain ⟨n, rfl⟩ : ∃ k, n = k + 1 := ⟨n - 1, by omega⟩
    have hpl : Ld.length = pre.length := by rw [hp, List.append_nil]
    refine br_f (nI_pos (by omega)) ⟨by rw [e1]; exact vp_in_nI (by omega) (by decide), ?_⟩
    refine pk_le Ld.length pre.length (fun h => ?_) (fun h => by omega) hzz rfl
    refine nm_r (nI_1 pt) ?_
    exact hok ha fu (by rw [List.append_nil]; exact h1) (fun j _ => rfl)
  | cons x xs ih =>
    intro pre acc fu n hn hp ha h1 h2 hok hno
    rw [List.length_cons] at hn
    obtain ⟨n, rfl⟩ : ∃ k, n = k + 1 := ⟨n - 1, by omega⟩
    have hpl : Ld.length = pre.length + xs.length + 1 := by rw [hp, List.length_append, List.length_cons]; omega
    have hx : x < 48 := hL x (by rw [hp]; simp)
    refine br_f (nI_pos (by omega)) ⟨by rw [e1]; exact vp_in_nI (by omega) (by decide), ?_⟩
    refine pk_le Ld.length pre.length (fun h => by omega) (fun h => ?_) hzz rfl
    refine pk_eq acc.length 4 (fun h4 => ?_) (fun h4 => ?_)
    · exact hno (by rw [List.length_cons]; omega) fu (fun j _ => rfl)
    · refine nm_r (e' := nI (acc ++ [x]).length) (by rw [nI_1, List.length_append]; rfl) ?_
      have e2 : 4 * (nI st + nI d) + nI pre.length = nI (4 * (st + d) + pre.length) := by rw [e1, za_x4]
      have e3 : nI (4 * (st + c)) + nI acc.length = nI (4 * (st + c) + acc.length) := nI_add _ _
      have e4 : fu (4 * (st + d) + pre.length) = nI x := by
        have := za_h_get fu Ld (4 * (st + d)) pre.length h2 (by omega)
        rw [this, hp, List.getD_eq_getElem?_getD, List.getElem?_append_right (Nat.le_refl _), Nat.sub_self]; rfl
      refine ⟨by rw [e2]; exact vp_in_nI (by omega) (by decide), by rw [e3]; exact vp_in_nI (by omega) (by decide), ?_⟩
      refine nm_r (e' := upd fu (4 * (st + c) + acc.length) (nI x)) (by rw [e2, e3, nI_clamp (by omega), nI_clamp (by omega), e4, za_nb (by omega)]) ?_
      refine nm_r (e' := nI (pre ++ [x]).length) (by rw [nI_1, List.length_append]; rfl) ?_
      have ea : (acc ++ [x]).length = acc.length + 1 := by simp
      have ec : (acc ++ [x]).length + xs.length = acc.length + (x :: xs).length := by rw [ea, List.length_cons]; omega
      refine ih (pre ++ [x]) (acc ++ [x]) _ n (by omega) (by rw [hp, List.append_assoc]; rfl) (by omega) (za_h_snoc h1) (za_h_up h2 (by omega)) ?_ ?_
      · intro h fu' g f
        rw [ec]
        refine hok (by rw [← ec]; exact h) fu' (by rw [List.append_assoc] at g; exact g) (fun j hj => ?_)
        rw [f j hj, pk_un (by omega)]
      · intro h fu' f
        refine hno (by rw [← ec]; exact h) fu' (fun j hj => ?_)
        rw [f j hj, pk_un (by omega)]
theorem zx_expand_no {post : Int32 → SX → Prop} {c st : Nat} (hst : st ≤ 48) (hc : c < 48)
    (H : post 1 ((nI cn), rg, (za_F O), (za_F W), dA, dB, E, (za_F LO), (za_F UA), UB, LA, (za_F KI), (za_F F1), (za_F F2), (za_F F3), (za_F DI), EA, eB, (za_F CA), (za_F CB), (za_F CT), (upd fu (4 * (st + c)) (nI c)), (upd fz (st + c) (nI 1)), pr, wh, (za_F T), (za_F LN), ro, sz, em, hg, lv, bh, rl, rr, rv, ou, nx, sl)) : wpX_expand post ((nI cn), rg, (za_F O), (za_F W), dA, dB, E, (za_F LO), (za_F UA), UB, LA, (za_F KI), (za_F F1), (za_F F2), (za_F F3), (za_F DI), EA, eB, (za_F CA), (za_F CB), (za_F CT), fu, fz, pr, wh, (za_F T), (za_F LN), ro, sz, em, hg, lv, bh, rl, rr, rv, ou, nx, sl) (nI c) (nI st) 0 := by
  have e1 : nI st + nI c = nI (st + c) := nI_add _ _
  have e2 : 4 * (nI st + nI c) = nI (4 * (st + c)) := by rw [e1]; exact pk_mul 4 _
  refine nm_r e2 ?_
  refine br_t rfl ⟨vp_in_nI (by omega) (by decide), ?_⟩
  refine nm_r (e' := upd fu (4 * (st + c)) (nI c)) (by rw [nI_clamp (by omega), za_nb2 (by omega)]) ?_
  refine ⟨by rw [e1]; exact vp_in_nI (by omega) (by decide), ?_⟩
  refine nm_r (e' := upd fz (st + c) (nI 1)) (by rw [e1, nI_clamp (by omega)]; exact congrArg (upd fz (st + c)) (za_nb (v := 1) (by omega))) ?_
  exact H
theorem zx_expand_yes {post : Int32 → SX → Prop} {A B : Nat → Nat} {c st m : Nat} (hst : st ≤ 48) (hc : c < 48) (hW : zd_W W A B) (h0 : W c ≠ 0) (hm : W c ≤ m)
    (hA : dA c = nI (A c)) (hB : dB c = nI (B c) - 1)
    (hT : ∀ d, d < c → za_h fu (4 * (st + d)) (zd_d W A B m d) ∧ fz (st + d) = nI (zd_d W A B m d).length ∧ (zd_d W A B m d).length ≤ 4)
    (Hok : (zd_d W A B m c).length ≤ 4 → ∀ fu', za_h fu' (4 * (st + c)) (zd_d W A B m c) → (∀ j, j < 4 * (st + c) ∨ 4 * (st + c) + 4 ≤ j → fu' j = fu j) → post 1 ((nI cn), rg, (za_F O), (za_F W), dA, dB, E, (za_F LO), (za_F UA), UB, LA, (za_F KI), (za_F F1), (za_F F2), (za_F F3), (za_F DI), EA, eB, (za_F CA), (za_F CB), (za_F CT), fu', (upd fz (st + c) (nI (zd_d W A B m c).length)), pr, wh, (za_F T), (za_F LN), ro, sz, em, hg, lv, bh, rl, rr, rv, ou, nx, sl))
    (Hno : 4 < (zd_d W A B m c).length → ∀ fu', (∀ j, j < 4 * (st + c) ∨ 4 * (st + c) + 4 ≤ j → fu' j = fu j) → post 0 ((nI cn), rg, (za_F O), (za_F W), dA, dB, E, (za_F LO), (za_F UA), UB, LA, (za_F KI), (za_F F1), (za_F F2), (za_F F3), (za_F DI), EA, eB, (za_F CA), (za_F CB), (za_F CT), fu', fz, pr, wh, (za_F T), (za_F LN), ro, sz, em, hg, lv, bh, rl, rr, rv, ou, nx, sl)) : wpX_expand post ((nI cn), rg, (za_F O), (za_F W), dA, dB, E, (za_F LO), (za_F UA), UB, LA, (za_F KI), (za_F F1), (za_F F2), (za_F F3), (za_F DI), EA, eB, (za_F CA), (za_F CB), (za_F CT), fu, fz, pr, wh, (za_F T), (za_F LN), ro, sz, em, hg, lv, bh, rl, rr, rv, ou, nx, sl) (nI c) (nI st) 1 := by
  have hw := hW c hc h0
  have e1 : nI st + nI c = nI (st + c) := nI_add _ _
  have e2 : 4 * (nI st + nI c) = nI (4 * (st + c)) := by rw [e1]; exact pk_mul 4 _
  have hy := zd_yes hW hc h0 hm
  have hvc : vp_in (nI c) 48 := vp_in_nI hc (by decide)
  refine nm_r e2 ?_
  refine br_f (by decide) ⟨3, ?_⟩
  refine br_f (by decide) (br_t rfl ⟨hvc, ?_⟩)
  refine nm_r (e' := nI (A c)) (by rw [nI_clamp (by omega)]; exact hA) ?_
  obtain ⟨t1, t2, t3⟩ := hT (A c) hw.1
  refine ⟨_, zx_ex68 (pt := 0) hst hc hw.1 (zd_dlt hW (by omega)) t2 t3 (zd_d W A B m (A c)) [] [] fu ((zd_d W A B m (A c)).length + 1) (by omega) rfl (by simp) trivial t1 ?_ ?_⟩
  · intro hl fu1 g1 f1
    rw [List.length_nil, Nat.zero_add, List.nil_append] at *
    refine br_f (by decide) (br_f (by decide) ⟨hvc, ?_⟩)
    by_cases hb : B c = 0
    · refine nm_r (e' := -1) (by rw [nI_clamp (by omega), hB, hb]; decide) ?_
      have ey : zd_d W A B m c = zd_d W A B m (A c) := by rw [hy, if_pos hb, List.append_nil]
      refine ⟨1, br_t (by decide) ?_⟩
      refine nm_r (e' := nI 2) rfl ?_
      refine br_t (by decide) ⟨by rw [e1]; exact vp_in_nI (by omega) (by decide), ?_⟩
      refine nm_r (e' := upd fz (st + c) (nI (zd_d W A B m c).length)) (by rw [e1, nI_clamp (by omega), za_nb2 (by omega), ey]) ?_
      exact Hok (by rw [ey]; exact hl) fu1 (by rw [ey]; exact g1) f1
    · refine nm_r (e' := nI (B c - 1)) (by rw [nI_clamp (by omega), hB, za_p1 (by omega)]) ?_
      have ey : zd_d W A B m c = zd_d W A B m (A c) ++ zd_d W A B m (B c - 1) := by rw [hy, if_neg hb]
      have el : (zd_d W A B m c).length = (zd_d W A B m (A c)).length + (zd_d W A B m (B c - 1)).length := by rw [ey, List.length_append]
      obtain ⟨s1, s2, s3⟩ := hT (B c - 1) (by omega)
      have s1' : za_h fu1 (4 * (st + (B c - 1))) (zd_d W A B m (B c - 1)) := za_h_cg _ _ (fun j h1 h2 => f1 j (by omega)) s1
      refine ⟨_, zx_ex68 (pt := 1) hst hc (by omega) (zd_dlt hW (by omega)) s2 s3 (zd_d W A B m (B c - 1)) [] (zd_d W A B m (A c)) fu1 ((zd_d W A B m (B c - 1)).length + 1) (by omega) rfl hl g1 s1' ?_ ?_⟩
      · intro hl2 fu2 g2 f2
        refine br_t (by decide) ⟨by rw [e1]; exact vp_in_nI (by omega) (by decide), ?_⟩
        refine nm_r (e' := upd fz (st + c) (nI (zd_d W A B m c).length)) (by rw [e1, nI_clamp (by omega), za_nb2 (by omega), el]) ?_
        exact Hok (by rw [el]; exact hl2) fu2 (by rw [ey]; exact g2) (fun j hj => by rw [f2 j hj, f1 j hj])
      · intro hl2 fu2 f2
        exact Hno (by rw [el]; exact hl2) fu2 (fun j hj => by rw [f2 j hj, f1 j hj])
  · intro hl fu1 f1
    rw [List.length_nil] at hl
    omega
/-- the cell of a pair -/
theorem zx_cell {post : Int32 → Prop} {pf : Nat → Nat} {q : Nat} (hq0 : 0 < q) (hq : q < 2400) (hp : ∀ j, j < 128 → pr j = nI (pf j)) (hb : ∀ j, j < 128 → pf j < 2400)
    (hf : ∃ d, d < 128 ∧ pf (zh_k q d) = 0)
    (H : ∀ d, (pf (zh_k q d) = 0 ∨ pf (zh_k q d) = q) → (∀ e, e < d → pf (zh_k q e) ≠ 0 ∧ pf (zh_k q e) ≠ q) → post (nI (zh_k q d))) : wpX_cell post ((nI cn), rg, (za_F O), (za_F W), dA, dB, E, (za_F LO), (za_F UA), UB, LA, (za_F KI), (za_F F1), (za_F F2), (za_F F3), (za_F DI), EA, eB, (za_F CA), (za_F CB), (za_F CT), fu, fz, pr, wh, (za_F T), (za_F LN), ro, sz, em, hg, lv, bh, rl, rr, rv, ou, nx, sl) (nI q) := by
  obtain ⟨df, hdf, hf⟩ := hf
  have key : ∀ n d, df < n + d → d ≤ df → (∀ e, e < d → pf (zh_k q e) ≠ 0 ∧ pf (zh_k q e) ≠ q) → wX_cell_8 post (nI q) (nI cn) rg (za_F O) (za_F W) dA dB E (za_F LO) (za_F UA) UB LA (za_F KI) (za_F F1) (za_F F2) (za_F F3) (za_F DI) EA eB (za_F CA) (za_F CB) (za_F CT) fu fz pr wh (za_F T) (za_F LN) ro sz em hg lv bh rl rr rv ou nx sl n (nI (zh_k q d)) := by
    intro n
    induction n with
    | zero => intro d h1 h2; omega
    | succ n ih =>
      intro d h1 h2 hd
      have hk := zh_k_lt q d
      have ep : pr (nI (zh_k q d)).toNatClampNeg = nI (pf (zh_k q d)) := by rw [nI_clamp (by omega)]; exact hp _ hk
      have hbk := hb _ hk
      refine ⟨vp_in_nI hk (by decide), ?_⟩
      refine pk_eq (pf (zh_k q d)) 0 (fun z => H d (Or.inl z) hd) (fun z => ⟨vp_in_nI hk (by decide), ?_⟩) ep rfl
      refine pk_eq (pf (zh_k q d)) q (fun y => H d (Or.inr y) hd) (fun y => ?_) ep rfl
      refine nm_r (e' := nI (zh_k q (d + 1))) ?_ ?_
      · rw [nI_1, pk_andN (by omega) 7 (by decide)]
        refine congrArg nI ?_
        unfold zh_k
        generalize q * 37 % 128 = w
        omega
      · refine ih (d + 1) (by omega) ?_ (lt_s hd ⟨z, y⟩)
        rcases Nat.lt_or_ge d df with g | g
        · omega
        · have : d = df := by omega
          subst this
          exact absurd hf z
  refine nm_r (e' := nI (zh_k q 0)) ?_ ⟨df + 1, key (df + 1) 0 (by omega) (by omega) (fun e he => by omega)⟩
  rw [show nI q * 37 = nI (q * 37) from pk_mul q 37, pk_andN (by omega) 7 (by decide)]
  refine congrArg nI ?_
  unfold zh_k
  omega
theorem zx_note {post : SX → Prop} {c a b v : Nat} {F F' : Nat → Nat → Nat} (hT : zh_T pr wh c F) (hc : c < 127) (ha : a < 48) (hb : b < 48) (hv : v < 48)
    (hF' : F' a b = if F a b = 0 then v + 1 else F a b) (hF2 : ∀ a' b', a' < 48 → b' < 48 → ¬ (a' = a ∧ b' = b) → F' a' b' = F a' b')
    (H : ∀ pr' wh', zh_T pr' wh' (c + 1) F' → post ((nI cn), rg, (za_F O), (za_F W), dA, dB, E, (za_F LO), (za_F UA), UB, LA, (za_F KI), (za_F F1), (za_F F2), (za_F F3), (za_F DI), EA, eB, (za_F CA), (za_F CB), (za_F CT), fu, fz, pr', wh', (za_F T), (za_F LN), ro, sz, em, hg, lv, bh, rl, rr, rv, ou, nx, sl)) : wpX_note post ((nI cn), rg, (za_F O), (za_F W), dA, dB, E, (za_F LO), (za_F UA), UB, LA, (za_F KI), (za_F F1), (za_F F2), (za_F F3), (za_F DI), EA, eB, (za_F CA), (za_F CB), (za_F CT), fu, fz, pr, wh, (za_F T), (za_F LN), ro, sz, em, hg, lv, bh, rl, rr, rv, ou, nx, sl) (nI (zh_q a b)) (nI v) := by
  obtain ⟨pf, hp, hP⟩ := hT
  have hq := zh_q_lt ha hb
  have hq0 : 0 < zh_q a b := by unfold zh_q; omega
  have hlt := zh_P_lt hP
  refine zx_cell (pf := pf) hq0 hq hp hlt (zh_reach hP (by omega) _) (fun d hd he => ?_)
  have hk := zh_k_lt (zh_q a b) d
  have ek : (nI (zh_k (zh_q a b) d)).toNatClampNeg = zh_k (zh_q a b) d := nI_clamp (by omega)
  have hvk : vp_in (nI (zh_k (zh_q a b) d)) 128 := vp_in_nI hk (by decide)
  refine ⟨hvk, pk_eq (pf (zh_k (zh_q a b) d)) 0 (fun z => ⟨hvk, ?_⟩) (fun z => ?_) (by rw [ek]; exact hp _ hk) rfl (by have := hlt _ hk; omega)⟩
  · have hF := zh_none hP ha hb z (fun e h => (he e h).2)
    refine nm_r (e' := upd pr (zh_k (zh_q a b) d) (nI (zh_q a b))) (by rw [ek, za_ns hq]) ⟨hvk, ?_⟩
    refine nm_r (e' := upd wh (zh_k (zh_q a b) d) (nI v)) (by rw [ek, za_nb2 (by omega)]) ?_
    refine H _ _ ⟨za_U pf (zh_k (zh_q a b) d) (zh_q a b), fun j hj => ?_, ?_⟩
    · by_cases e : j = zh_k (zh_q a b) d
      · rw [e, pk_us, za_Us]
      · rw [pk_un e, za_Un e]; exact hp j hj
    · exact zh_ins hP ha hb z (fun e h => (he e h).1) hF (by rw [hF', if_pos hF]) hF2
  · have hs := zh_some hP hb hk (hd.resolve_left z)
    refine H pr wh ⟨pf, hp, zh_P_cg hP (by omega) (fun a' b' ha' hb' => ?_)⟩
    by_cases e : a' = a ∧ b' = b
    · rw [e.1, e.2, hF', if_neg hs.1]
    · exact hF2 a' b' ha' hb' e
theorem zx_composite {post : Int32 → Prop} {c a b : Nat} {F : Nat → Nat → Nat} (hT : zh_T pr wh c F) (hc : c < 128) (ha : a < 48) (hb : b < 48)
    (H : post (nI (F a b) - 1)) : wpX_composite post ((nI cn), rg, (za_F O), (za_F W), dA, dB, E, (za_F LO), (za_F UA), UB, LA, (za_F KI), (za_F F1), (za_F F2), (za_F F3), (za_F DI), EA, eB, (za_F CA), (za_F CB), (za_F CT), fu, fz, pr, wh, (za_F T), (za_F LN), ro, sz, em, hg, lv, bh, rl, rr, rv, ou, nx, sl) (nI a) (nI b) := by
  obtain ⟨pf, hp, hP⟩ := hT
  have hq := zh_q_lt ha hb
  have hq0 : 0 < zh_q a b := by unfold zh_q; omega
  have hlt := zh_P_lt hP
  have e : 48 * nI a + nI b + 1 = nI (zh_q a b) := by
    rw [show (48 : Int32) * nI a = nI (48 * a) from pk_mul 48 a, nI_add, nI_1]; rfl
  show wpX_cell _ ((nI cn), rg, (za_F O), (za_F W), dA, dB, E, (za_F LO), (za_F UA), UB, LA, (za_F KI), (za_F F1), (za_F F2), (za_F F3), (za_F DI), EA, eB, (za_F CA), (za_F CB), (za_F CT), fu, fz, pr, wh, (za_F T), (za_F LN), ro, sz, em, hg, lv, bh, rl, rr, rv, ou, nx, sl) (48 * nI a + nI b + 1)
  rw [e]
  refine zx_cell (pf := pf) hq0 hq hp hlt (zh_reach hP hc _) (fun d hd he => ?_)
  have hk := zh_k_lt (zh_q a b) d
  have ek : (nI (zh_k (zh_q a b) d)).toNatClampNeg = zh_k (zh_q a b) d := nI_clamp (by omega)
  have hvk : vp_in (nI (zh_k (zh_q a b) d)) 128 := vp_in_nI hk (by decide)
  refine ⟨hvk, pk_eq (pf (zh_k (zh_q a b) d)) 0 (fun z => ?_) (fun z => ⟨hvk, ?_⟩) (by rw [ek]; exact hp _ hk) rfl (by have := hlt _ hk; omega)⟩
  · have hF := zh_none hP ha hb z (fun e h => (he e h).2)
    rw [hF] at H; exact H
  · have hs := zh_some hP hb hk (hd.resolve_left z)
    rw [ek, hs.2, ← za_p1 (by omega)]
    exact H
end
end
section
theorem zc_o_s {W A B : Nat → Nat} {E : Nat → Int32} {a b n : Nat} (h : ¬ (W n = 1 ∧ A n = a ∧ B n = b + 1 ∧ E n = 0)) : zc_o W A B E a b (n + 1) = zc_o W A B E a b n := by
  rw [zc_o, if_neg h]
  by_cases g : zc_o W A B E a b n = 0
  · rw [if_neg (by omega), g]
  · rw [if_pos g]
theorem zc_o_t {W A B : Nat → Nat} {E : Nat → Int32} {a b n : Nat} (h : W n = 1 ∧ A n = a ∧ B n = b + 1 ∧ E n = 0) : zc_o W A B E a b (n + 1) = if zc_o W A B E a b n = 0 then n + 1 else zc_o W A B E a b n := by
  rw [zc_o, if_pos h]
  by_cases g : zc_o W A B E a b n = 0
  · rw [if_neg (by omega), if_pos g]
  · rw [if_pos g, if_neg g]
/-- one entry of the table of full decompositions -/
def zx_en (fu fz : Nat → Int32) (st d : Nat) (L : List Nat) : Prop := za_h fu (4 * (st + d)) L ∧ fz (st + d) = nI L.length ∧ L.length ≤ 4
def zx_fr (c : Nat) (fu fu' : Nat → Int32) : Prop := ∀ j, j < 4 * c ∨ 4 * c + 4 ≤ j → fu' j = fu j
theorem zx_en_k {fu fz fu' fz' : Nat → Int32} {st d k : Nat} {L : List Nat} (h : zx_en fu fz st d L) (hk : st + d ≠ k) (hf : zx_fr k fu fu') (hz : ∀ j, j ≠ k → fz' j = fz j) : zx_en fu' fz' st d L := by
  obtain ⟨h1, h2, h3⟩ := h
  exact ⟨za_h_cg L _ (fun j g1 g2 => hf j (by omega)) h1, by rw [hz _ hk]; exact h2, h3⟩
/-- tables right below n -/
def zx_tb (W A B : Nat → Nat) (fu fz : Nat → Int32) (n : Nat) : Prop := ∀ d, d < n → zx_en fu fz 0 d (zd_d W A B 1 d) ∧ zx_en fu fz 48 d (zd_d W A B 2 d)
section
variable {cn : Nat} {rg : Int32} {O W LO UA KI F1 F2 F3 DI CA CB CT T LN : Nat → Nat} {E UB LA EA dA dB eB fu fz pr wh ro sz em hg lv bh rl rr rv ou nx sl : Nat → Int32}
theorem zx_expand {post : Int32 → SX → Prop} {A B : Nat → Nat} {c st m : Nat} {p : Int32} (hst : st ≤ 48) (hc : c < 48) (hW : zd_W W A B)
    (hp : p = if W c = 0 ∨ m < W c then 0 else 1)
    (hA : W c ≠ 0 → dA c = nI (A c) ∧ dB c = nI (B c) - 1)
    (hT : ∀ d, d < c → zx_en fu fz st d (zd_d W A B m d))
    (Hok : ∀ fu' fz', zx_en fu' fz' st c (zd_d W A B m c) → zx_fr (st + c) fu fu' → (∀ j, j ≠ st + c → fz' j = fz j) → post 1 ((nI cn), rg, (za_F O), (za_F W), dA, dB, E, (za_F LO), (za_F UA), UB, LA, (za_F KI), (za_F F1), (za_F F2), (za_F F3), (za_F DI), EA, eB, (za_F CA), (za_F CB), (za_F CT), fu', fz', pr, wh, (za_F T), (za_F LN), ro, sz, em, hg, lv, bh, rl, rr, rv, ou, nx, sl))
    (Hno : 4 < (zd_d W A B m c).length → ∀ fu', zx_fr (st + c) fu fu' → post 0 ((nI cn), rg, (za_F O), (za_F W), dA, dB, E, (za_F LO), (za_F UA), UB, LA, (za_F KI), (za_F F1), (za_F F2), (za_F F3), (za_F DI), EA, eB, (za_F CA), (za_F CB), (za_F CT), fu', fz, pr, wh, (za_F T), (za_F LN), ro, sz, em, hg, lv, bh, rl, rr, rv, ou, nx, sl)) : wpX_expand post ((nI cn), rg, (za_F O), (za_F W), dA, dB, E, (za_F LO), (za_F UA), UB, LA, (za_F KI), (za_F F1), (za_F F2), (za_F F3), (za_F DI), EA, eB, (za_F CA), (za_F CB), (za_F CT), fu, fz, pr, wh, (za_F T), (za_F LN), ro, sz, em, hg, lv, bh, rl, rr, rv, ou, nx, sl) (nI c) (nI st) p := by
  by_cases h : W c = 0 ∨ m < W c
  · rw [if_pos h] at hp
    rw [hp]
    refine zx_expand_no hst hc (Hok _ _ ?_ (fun j hj => pk_un (by omega)) (fun j hj => pk_un hj))
    rw [zd_no h]
    exact ⟨⟨pk_us, trivial⟩, pk_us, by simp⟩
  · rw [if_neg h] at hp
    rw [hp]
    obtain ⟨a1, a2⟩ := hA (by omega)
    refine zx_expand_yes hst hc hW (by omega) (by omega) a1 a2 hT (fun hl fu' g f => ?_) Hno
    exact Hok _ _ ⟨g, pk_us, hl⟩ f (fun j hj => pk_un hj)
theorem zx_l70 {post : Int32 → SX → Prop} {J : Int32 → Int32 → Int32 → (Nat → Int32) → (Nat → Int32) → (Nat → Int32) → (Nat → Int32) → (Nat → Int32) → (Nat → Int32) → (Nat → Int32) → (Nat → Int32) → (Nat → Int32) → (Nat → Int32) → (Nat → Int32) → (Nat → Int32) → (Nat → Int32) → (Nat → Int32) → (Nat → Int32) → (Nat → Int32) → (Nat → Int32) → (Nat → Int32) → (Nat → Int32) → (Nat → Int32) → (Nat → Int32) → (Nat → Int32) → (Nat → Int32) → (Nat → Int32) → (Nat → Int32) → (Nat → Int32) → (Nat → Int32) → (Nat → Int32) → (Nat → Int32) → (Nat → Int32) → (Nat → Int32) → (Nat → Int32) → (Nat → Int32) → (Nat → Int32) → (Nat → Int32) → (Nat → Int32) → (Nat → Int32) → Prop} {A B : Nat → Nat} {c : Nat} {z0 : Int32} (hc : c < 48) (hW : zd_W W A B) (hW2 : W c ≤ 2)
    (hz0 : z0 = if W c = 0 then 0 else 1)
    (hA : W c ≠ 0 → dA c = nI (A c) ∧ dB c = nI (B c) - 1)
    (hT : ∀ d, d < c → zx_en fu fz 48 d (zd_d W A B 2 d))
    (hP : zh_T pr wh c (fun a b => zc_o W A B E a b c))
    (Hok : ∀ fu' fz' pr' wh', zx_en fu' fz' 48 c (zd_d W A B 2 c) → zx_fr (48 + c) fu fu' → (∀ j, j ≠ 48 + c → fz' j = fz j) → zh_T pr' wh' (c + 1) (fun a b => zc_o W A B E a b (c + 1)) → J (nI (c + 1)) (nI cn) rg (za_F O) (za_F W) dA dB E (za_F LO) (za_F UA) UB LA (za_F KI) (za_F F1) (za_F F2) (za_F F3) (za_F DI) EA eB (za_F CA) (za_F CB) (za_F CT) fu' fz' pr' wh' (za_F T) (za_F LN) ro sz em hg lv bh rl rr rv ou nx sl)
    (Hno : 4 < (zd_d W A B 2 c).length → ∀ fu', post 0 ((nI cn), rg, (za_F O), (za_F W), dA, dB, E, (za_F LO), (za_F UA), UB, LA, (za_F KI), (za_F F1), (za_F F2), (za_F F3), (za_F DI), EA, eB, (za_F CA), (za_F CB), (za_F CT), fu', fz, pr, wh, (za_F T), (za_F LN), ro, sz, em, hg, lv, bh, rl, rr, rv, ou, nx, sl)) : wX_learn_70 post J (nI c) z0 48 (nI c) (nI cn) rg (za_F O) (za_F W) dA dB E (za_F LO) (za_F UA) UB LA (za_F KI) (za_F F1) (za_F F2) (za_F F3) (za_F DI) EA eB (za_F CA) (za_F CB) (za_F CT) fu fz pr wh (za_F T) (za_F LN) ro sz em hg lv bh rl rr rv ou nx sl := by
  have hvc : vp_in (nI c) 48 := vp_in_nI hc (by decide)
  have ec : (nI c).toNatClampNeg = c := nI_clamp (by omega)
  refine zx_expand (st := 48) (m := 2) (by omega) hc hW ?_ hA hT (fun fu' fz' h1 h2 h3 => ?_) (fun h4 fu' _ => ?_)
  · rw [hz0]
    by_cases g : W c = 0
    · rw [if_pos g, if_pos (Or.inl g)]
    · rw [if_neg g, if_neg (by omega)]
  · refine br_f (by decide) ⟨hvc, ?_⟩
    refine pk_eq (W c) 1 (fun w1 => ⟨hvc, ?_⟩) (fun w1 => ?_) (by rw [ec]; rfl) rfl
    · have hw := hW c hc (by omega)
      obtain ⟨a1, a2⟩ := hA (by omega)
      by_cases hb : B c = 0
      · refine br_t (by rw [ec, a2, hb]; decide) ?_
        refine nm_r (nI_1 c) (Hok fu' fz' pr wh h1 h2 h3 ?_)
        obtain ⟨pf, g1, g2⟩ := hP
        exact ⟨pf, g1, zh_P_cg g2 (by omega) (fun a b _ _ => zc_o_s (by omega))⟩
      · have eb : dB (nI c).toNatClampNeg = nI (B c - 1) := by rw [ec, a2, za_p1 (by omega)]
        refine br_f (by rw [eb]; exact nI_pos (by omega)) ⟨hvc, ?_⟩
        refine br_c (fun he => ⟨hvc, hvc, ?_⟩) (fun he => ?_)
        · rw [ec] at he
          have eq : 48 * dA (nI c).toNatClampNeg + dB (nI c).toNatClampNeg + 1 = nI (zh_q (A c) (B c - 1)) := by
            rw [eb, ec, a1, show (48 : Int32) * nI (A c) = nI (48 * A c) from pk_mul 48 _, nI_add, nI_1]; rfl
          rw [eq]
          refine zx_note (F' := fun a b => zc_o W A B E a b (c + 1)) hP (by omega) (by omega) (by omega) hc ?_ ?_ (fun pr' wh' h => ?_)
          · exact zc_o_t ⟨w1, rfl, by omega, he⟩
          · intro a' b' _ _ hn
            exact zc_o_s (by omega)
          · exact nm_r (nI_1 c) (Hok fu' fz' pr' wh' h1 h2 h3 h)
        · rw [ec] at he
          refine nm_r (nI_1 c) (Hok fu' fz' pr wh h1 h2 h3 ?_)
          obtain ⟨pf, g1, g2⟩ := hP
          exact ⟨pf, g1, zh_P_cg g2 (by omega) (fun a b _ _ => zc_o_s (fun q => he q.2.2.2))⟩
    · refine nm_r (nI_1 c) (Hok fu' fz' pr wh h1 h2 h3 ?_)
      obtain ⟨pf, g1, g2⟩ := hP
      exact ⟨pf, g1, zh_P_cg g2 (by omega) (fun a b _ _ => zc_o_s (by omega))⟩
  · exact br_t rfl (Hno h4 fu')
theorem zx_l48 {post : Int32 → SX → Prop} {J : Int32 → Int32 → Int32 → (Nat → Int32) → (Nat → Int32) → (Nat → Int32) → (Nat → Int32) → (Nat → Int32) → (Nat → Int32) → (Nat → Int32) → (Nat → Int32) → (Nat → Int32) → (Nat → Int32) → (Nat → Int32) → (Nat → Int32) → (Nat → Int32) → (Nat → Int32) → (Nat → Int32) → (Nat → Int32) → (Nat → Int32) → (Nat → Int32) → (Nat → Int32) → (Nat → Int32) → (Nat → Int32) → (Nat → Int32) → (Nat → Int32) → (Nat → Int32) → (Nat → Int32) → (Nat → Int32) → (Nat → Int32) → (Nat → Int32) → (Nat → Int32) → (Nat → Int32) → (Nat → Int32) → (Nat → Int32) → (Nat → Int32) → (Nat → Int32) → (Nat → Int32) → (Nat → Int32) → (Nat → Int32) → Prop} {A B : Nat → Nat} {c : Nat} {z0 : Int32} (hc : c < 48) (hW : zd_W W A B) (hW2 : W c ≤ 2)
    (hz0 : z0 = if W c = 1 then 1 else 0)
    (hA : W c ≠ 0 → dA c = nI (A c) ∧ dB c = nI (B c) - 1)
    (hT : zx_tb W A B fu fz c)
    (hP : zh_T pr wh c (fun a b => zc_o W A B E a b c))
    (Hok : ∀ fu' fz' pr' wh', zx_tb W A B fu' fz' (c + 1) → zh_T pr' wh' (c + 1) (fun a b => zc_o W A B E a b (c + 1)) → J (nI (c + 1)) (nI cn) rg (za_F O) (za_F W) dA dB E (za_F LO) (za_F UA) UB LA (za_F KI) (za_F F1) (za_F F2) (za_F F3) (za_F DI) EA eB (za_F CA) (za_F CB) (za_F CT) fu' fz' pr' wh' (za_F T) (za_F LN) ro sz em hg lv bh rl rr rv ou nx sl)
    (Hno : 4 < (zd_d W A B 2 c).length → ∀ fu' fz', post 0 ((nI cn), rg, (za_F O), (za_F W), dA, dB, E, (za_F LO), (za_F UA), UB, LA, (za_F KI), (za_F F1), (za_F F2), (za_F F3), (za_F DI), EA, eB, (za_F CA), (za_F CB), (za_F CT), fu', fz', pr, wh, (za_F T), (za_F LN), ro, sz, em, hg, lv, bh, rl, rr, rv, ou, nx, sl)) : wX_learn_48 post J (nI c) z0 0 (nI c) (nI cn) rg (za_F O) (za_F W) dA dB E (za_F LO) (za_F UA) UB LA (za_F KI) (za_F F1) (za_F F2) (za_F F3) (za_F DI) EA eB (za_F CA) (za_F CB) (za_F CT) fu fz pr wh (za_F T) (za_F LN) ro sz em hg lv bh rl rr rv ou nx sl := by
  have hvc : vp_in (nI c) 48 := vp_in_nI hc (by decide)
  have ec : (nI c).toNatClampNeg = c := nI_clamp (by omega)
  refine zx_expand (st := 0) (m := 1) (by omega) hc hW ?_ hA (fun d hd => (hT d hd).1) (fun fu1 fz1 h1 h2 h3 => ?_) (fun h4 fu1 h2 => ?_)
  · rw [hz0]
    by_cases g : W c = 1
    · rw [if_pos g, if_neg (by omega)]
    · rw [if_neg g, if_pos (by omega)]
  · refine ⟨hvc, pk_le (W c) 0 (fun w => ?_) (fun w => ?_) (by rw [ec]; rfl) rfl⟩
    · refine zx_l70 hc hW hW2 (by rw [if_pos (by omega)]) hA (fun d hd => zx_en_k (hT d hd).2 (by omega) h2 h3) hP (fun fu2 fz2 pr' wh' g1 g2 g3 g4 => Hok fu2 fz2 pr' wh' (fun d hd => ?_) g4) (fun h4 fu2 => Hno h4 fu2 fz1)
      by_cases e : d = c
      · subst e
        exact ⟨zx_en_k h1 (by omega) g2 g3, g1⟩
      · have hh := hT d (by omega)
        exact ⟨zx_en_k (zx_en_k hh.1 (by omega) h2 h3) (by omega) g2 g3, zx_en_k (zx_en_k hh.2 (by omega) h2 h3) (by omega) g2 g3⟩
    · refine zx_l70 hc hW hW2 (by rw [if_neg (by omega)]) hA (fun d hd => zx_en_k (hT d hd).2 (by omega) h2 h3) hP (fun fu2 fz2 pr' wh' g1 g2 g3 g4 => Hok fu2 fz2 pr' wh' (fun d hd => ?_) g4) (fun h4 fu2 => Hno h4 fu2 fz1)
      by_cases e : d = c
      · subst e
        exact ⟨zx_en_k h1 (by omega) g2 g3, g1⟩
      · have hh := hT d (by omega)
        exact ⟨zx_en_k (zx_en_k hh.1 (by omega) h2 h3) (by omega) g2 g3, zx_en_k (zx_en_k hh.2 (by omega) h2 h3) (by omega) g2 g3⟩
  · have h5 : 4 < (zd_d W A B 2 c).length := Nat.lt_of_lt_of_le h4 zd_d12
    have h48 : ∀ d, d < c → zx_en fu1 fz 48 d (zd_d W A B 2 d) := fun d hd => zx_en_k (hT d hd).2 (by omega) h2 (fun j _ => rfl)
    refine ⟨hvc, pk_le (W c) 0 (fun w => ?_) (fun w => ?_) (by rw [ec]; rfl) rfl⟩
    · exact zx_l70 hc hW hW2 (by rw [if_pos (by omega)]) hA h48 hP (fun fu2 fz2 pr' wh' g1 _ _ _ => by have := g1.2.2; omega) (fun h4 fu2 => Hno h4 fu2 fz)
    · exact zx_l70 hc hW hW2 (by rw [if_neg (by omega)]) hA h48 hP (fun fu2 fz2 pr' wh' g1 _ _ _ => by have := g1.2.2; omega) (fun h4 fu2 => Hno h4 fu2 fz)
/-- learn: the tables are worked out, or something is too long -/
theorem zx_learn {post : Int32 → SX → Prop} {A B : Nat → Nat} (hW : zd_W W A B) (hW2 : ∀ c, c < 48 → W c ≤ 2)
    (hA : ∀ c, c < 48 → W c ≠ 0 → dA c = nI (A c) ∧ dB c = nI (B c) - 1)
    (Hok : zd_G W A B → ∀ fu fz pr wh, zx_tb W A B fu fz 48 → zh_T pr wh 48 (fun a b => zc_o W A B E a b 48) → post 1 ((nI cn), rg, (za_F O), (za_F W), dA, dB, E, (za_F LO), (za_F UA), UB, LA, (za_F KI), (za_F F1), (za_F F2), (za_F F3), (za_F DI), EA, eB, (za_F CA), (za_F CB), (za_F CT), fu, fz, pr, wh, (za_F T), (za_F LN), ro, sz, em, hg, lv, bh, rl, rr, rv, ou, nx, sl))
    (Hno : ¬ zd_G W A B → ∀ fu fz pr wh, post 0 ((nI cn), rg, (za_F O), (za_F W), dA, dB, E, (za_F LO), (za_F UA), UB, LA, (za_F KI), (za_F F1), (za_F F2), (za_F F3), (za_F DI), EA, eB, (za_F CA), (za_F CB), (za_F CT), fu, fz, pr, wh, (za_F T), (za_F LN), ro, sz, em, hg, lv, bh, rl, rr, rv, ou, nx, sl)) : wpX_learn post ((nI cn), rg, (za_F O), (za_F W), dA, dB, E, (za_F LO), (za_F UA), UB, LA, (za_F KI), (za_F F1), (za_F F2), (za_F F3), (za_F DI), EA, eB, (za_F CA), (za_F CB), (za_F CT), fu, fz, pr, wh, (za_F T), (za_F LN), ro, sz, em, hg, lv, bh, rl, rr, rv, ou, nx, sl) := by
  have l24 : ∀ n c fu fz pr wh, 48 < n + c → c ≤ 48 → zx_tb W A B fu fz c → zh_T pr wh c (fun a b => zc_o W A B E a b c) → wX_learn_24 post n (nI c) (nI cn) rg (za_F O) (za_F W) dA dB E (za_F LO) (za_F UA) UB LA (za_F KI) (za_F F1) (za_F F2) (za_F F3) (za_F DI) EA eB (za_F CA) (za_F CB) (za_F CT) fu fz pr wh (za_F T) (za_F LN) ro sz em hg lv bh rl rr rv ou nx sl := by
    intro n
    induction n with
    | zero => intro c fu fz pr wh h1 h2; omega
    | succ n ih =>
      intro c fu fz pr wh h1 h2 hT hP
      refine pk_le 48 c (fun h => ?_) (fun h => ⟨vp_in_nI h (by decide), ?_⟩)
      · have : c = 48 := by omega
        subst this
        refine Hok (fun d hd => (hT d hd).2.2.2) fu fz pr wh hT hP
      · have ec : (nI c).toNatClampNeg = c := nI_clamp (by omega)
        have hw := hW2 c h
        refine pk_eq (W c) 1 (fun w => ?_) (fun w => ?_) (by rw [ec]; rfl) rfl
        · exact zx_l48 h hW hw (by rw [if_pos w]) (hA c h) hT hP (fun fu' fz' pr' wh' g1 g2 => ih (c + 1) fu' fz' pr' wh' (by omega) (by omega) g1 g2) (fun h4 fu' fz' => Hno (fun q => by have := q c h; omega) fu' fz' pr wh)
        · exact zx_l48 h hW hw (by rw [if_neg w]) (hA c h) hT hP (fun fu' fz' pr' wh' g1 g2 => ih (c + 1) fu' fz' pr' wh' (by omega) (by omega) g1 g2) (fun h4 fu' fz' => Hno (fun q => by have := q c h; omega) fu' fz' pr wh)
  have l2 : ∀ n i pr, 128 < n + i → i ≤ 128 → (∀ j, j < i → pr j = 0) → wX_learn_2 post (nI cn) rg n (nI i) (za_F O) (za_F W) dA dB E (za_F LO) (za_F UA) UB LA (za_F KI) (za_F F1) (za_F F2) (za_F F3) (za_F DI) EA eB (za_F CA) (za_F CB) (za_F CT) fu fz pr wh (za_F T) (za_F LN) ro sz em hg lv bh rl rr rv ou nx sl := by
    intro n
    induction n with
    | zero => intro i pr h1 h2; omega
    | succ n ih =>
      intro i pr h1 h2 hp
      refine pk_le 128 i (fun h => ⟨49, ?_⟩) (fun h => ⟨vp_in_nI h (by decide), ?_⟩)
      · refine l24 49 0 fu fz pr wh (by omega) (by omega) (fun d hd => by omega) ?_
        exact ⟨fun _ => 0, fun j hj => hp j (by omega), zh_P0 (fun _ _ => rfl) (fun _ _ => rfl)⟩
      · refine nm_r (e' := upd pr i 0) (by rw [nI_clamp (by omega), za_ns0]) ?_
        refine nm_r (nI_1 i) (ih (i + 1) _ (by omega) (by omega) (fun j hj => ?_))
        by_cases e : j = i
        · rw [e, pk_us]
        · rw [pk_un e]; exact hp j (by omega)
  exact ⟨129, l2 129 0 pr (by omega) (by omega) (fun j hj => by omega)⟩
end
end
section
section
variable {cn : Nat} {rg : Int32} {O W LO UA KI F1 F2 F3 DI CA CB CT T LN : Nat → Nat} {E UB LA EA dA dB eB fu fz pr wh ro sz em hg lv bh rl rr rv ou nx sl : Nat → Int32}
theorem zx_wr {ro : Nat → Int32} {b c : Nat} {R L2 : List Nat} (h : za_h ro b R.reverse) (g : za_h ro (b + R.length + 1) L2) : za_h (upd ro (b + R.length) (nI c)) b ((c :: R).reverse ++ L2) := by
  rw [List.reverse_cons, List.append_assoc, za_h_app]
  have e : R.reverse.length = R.length := List.length_reverse
  refine ⟨za_h_up h (by omega), ?_⟩
  rw [e]
  exact ⟨pk_us, za_h_up g (by omega)⟩
theorem zx_put26 {post : SX → Prop} {r c : Nat} (hr : r < 4) (hc : c < 48) (hO : ∀ x, x < 48 → O x < 10) :
    ∀ (R L2 : List Nat) (ro : Nat → Int32) (n : Nat), R.length < n → R.length + L2.length < 64 → za_h ro (64 * r) R.reverse → za_h ro (64 * r + R.length + 1) L2 → (∀ x ∈ R, x < 48) →
    (∀ ro', za_h ro' (64 * r) ((zo_i O c R).reverse ++ L2) → (∀ j, j < 64 * r ∨ 64 * r + 64 ≤ j → ro' j = ro j) → post ((nI cn), rg, (za_F O), (za_F W), dA, dB, E, (za_F LO), (za_F UA), UB, LA, (za_F KI), (za_F F1), (za_F F2), (za_F F3), (za_F DI), EA, eB, (za_F CA), (za_F CB), (za_F CT), fu, fz, pr, wh, (za_F T), (za_F LN), ro', sz, em, hg, lv, bh, rl, rr, rv, ou, nx, sl)) →
    wX_put_26 post (nI r) (nI c) (nI (O c)) (nI cn) rg n (nI (64 * r + R.length)) (za_F O) (za_F W) dA dB E (za_F LO) (za_F UA) UB LA (za_F KI) (za_F F1) (za_F F2) (za_F F3) (za_F DI) EA eB (za_F CA) (za_F CB) (za_F CT) fu fz pr wh (za_F T) (za_F LN) ro sz em hg lv bh rl rr rv ou nx sl := by
  have e64 : 64 * nI r = nI (64 * r) := pk_mul 64 r
  have hOc := hO c hc
  intro R
  induction R with
  | nil =>
    intro L2 ro n hn hl h1 h2 hR H
    obtain ⟨n, rfl⟩ : ∃ k, n = k + 1 := ⟨n - 1, by omega⟩
    have hw : (vp_in (nI (64 * r + ([] : List Nat).length)) 256 ∧ ∀ a, a = upd ro (nI (64 * r + ([] : List Nat).length)).toNatClampNeg (vp_nar .byte (nI c).toInt8.toInt32) → post ((nI cn), rg, (za_F O), (za_F W), dA, dB, E, (za_F LO), (za_F UA), UB, LA, (za_F KI), (za_F F1), (za_F F2), (za_F F3), (za_F DI), EA, eB, (za_F CA), (za_F CB), (za_F CT), fu, fz, pr, wh, (za_F T), (za_F LN), a, sz, em, hg, lv, bh, rl, rr, rv, ou, nx, sl)) := by
      refine ⟨vp_in_nI (by simp; omega) (by decide), ?_⟩
      refine nm_r (e' := upd ro (64 * r + ([] : List Nat).length) (nI c)) (by rw [nI_clamp (by simp; omega), za_nb2 (by omega)]) ?_
      exact H _ (zx_wr h1 h2) (fun j hj => pk_un (by simp; omega))
    refine pk_le (O c) 0 (fun _ => hw) (fun _ => ?_)
    exact pk_le (64 * r + ([] : List Nat).length) (64 * r) (fun _ => hw) (fun h => by simp at h) rfl e64 (by simp; omega)
  | cons x xs ih =>
    intro L2 ro n hn hl h1 h2 hR H
    rw [List.length_cons] at hn hl
    obtain ⟨n, rfl⟩ : ∃ k, n = k + 1 := ⟨n - 1, by omega⟩
    have el : (x :: xs).length = xs.length + 1 := rfl
    have hx : x < 48 := hR x (by simp)
    have hOx := hO x hx
    have hw : zo_i O c (x :: xs) = c :: x :: xs → (vp_in (nI (64 * r + (x :: xs).length)) 256 ∧ ∀ a, a = upd ro (nI (64 * r + (x :: xs).length)).toNatClampNeg (vp_nar .byte (nI c).toInt8.toInt32) → post ((nI cn), rg, (za_F O), (za_F W), dA, dB, E, (za_F LO), (za_F UA), UB, LA, (za_F KI), (za_F F1), (za_F F2), (za_F F3), (za_F DI), EA, eB, (za_F CA), (za_F CB), (za_F CT), fu, fz, pr, wh, (za_F T), (za_F LN), a, sz, em, hg, lv, bh, rl, rr, rv, ou, nx, sl)) := by
      intro e
      refine ⟨vp_in_nI (by omega) (by decide), ?_⟩
      refine nm_r (e' := upd ro (64 * r + (x :: xs).length) (nI c)) (by rw [nI_clamp (by omega), za_nb2 (by omega)]) ?_
      exact H _ (by rw [e]; exact zx_wr h1 h2) (fun j hj => pk_un (by omega))
    refine pk_le (O c) 0 (fun h => hw ?_) (fun h0 => ?_)
    · unfold zo_i; rw [if_neg (by omega)]
    refine pk_le (64 * r + (x :: xs).length) (64 * r) (fun h => by omega) (fun _ => ?_) rfl e64 (by omega)
    have e1 : nI (64 * r + (x :: xs).length) - 1 = nI (64 * r + xs.length) := by rw [za_p1 (by omega)]; exact congrArg nI (by omega)
    rw [List.reverse_cons, za_h_app] at h1
    have ex : ro (64 * r + xs.length) = nI x := by
      have := h1.2.1
      rw [List.length_reverse] at this
      exact this
    have ex' : ro (nI (64 * r + (x :: xs).length) - 1).toNatClampNeg = nI x := by rw [e1, nI_clamp (by omega)]; exact ex
    have hv1 : vp_in (nI (64 * r + (x :: xs).length) - 1) 256 := by rw [e1]; exact vp_in_nI (by omega) (by decide)
    refine ⟨hv1, by rw [ex']; exact vp_in_nI hx (by decide), ?_⟩
    refine pk_le (O x) (O c) (fun h => hw ?_) (fun h => ⟨hv1, vp_in_nI (by omega) (by decide), ?_⟩) (by rw [ex', nI_clamp (by omega)]; rfl) rfl
    · unfold zo_i; rw [if_neg (by omega)]
    refine nm_r (e' := upd ro (64 * r + (x :: xs).length) (nI x)) (by rw [ex', nI_clamp (by omega), za_nb (by omega)]) ?_
    refine nm_r (e' := nI (64 * r + xs.length)) (by rw [za_q1 (by omega)]; exact congrArg nI (by omega)) ?_
    have ei : zo_i O c (x :: xs) = x :: zo_i O c xs := by
      conv => lhs; unfold zo_i
      rw [if_pos ⟨h0, h⟩]
    refine ih (x :: L2) _ n (by omega) (by rw [List.length_cons]; omega) (za_h_up h1.1 (by rw [List.length_reverse]; omega)) ?_ (fun z hz => hR z (by simp [hz])) ?_
    · refine ⟨?_, za_h_up h2 (by omega)⟩
      rw [show 64 * r + xs.length + 1 = 64 * r + (x :: xs).length by omega]
      exact pk_us
    · intro ro' g1 g2
      refine H ro' ?_ (fun j hj => by rw [g2 j hj, pk_un (by omega)])
      rw [ei, List.reverse_cons, List.append_assoc]
      exact g1
theorem zx_put {post : SX → Prop} {r c : Nat} {R : List Nat} (hr : r < 4) (hc : c < 48) (hO : ∀ x, x < 48 → O x < 10) (hR : zx_row ro sz r R.reverse) (hl : R.length < 64) (hR2 : ∀ x ∈ R, x < 48)
    (H : ∀ ro' sz', zx_row ro' sz' r (zo_i O c R).reverse → zx_rf r ro ro' sz sz' → post ((nI cn), rg, (za_F O), (za_F W), dA, dB, E, (za_F LO), (za_F UA), UB, LA, (za_F KI), (za_F F1), (za_F F2), (za_F F3), (za_F DI), EA, eB, (za_F CA), (za_F CB), (za_F CT), fu, fz, pr, wh, (za_F T), (za_F LN), ro', sz', em, hg, lv, bh, rl, rr, rv, ou, nx, sl)) : wpX_put post ((nI cn), rg, (za_F O), (za_F W), dA, dB, E, (za_F LO), (za_F UA), UB, LA, (za_F KI), (za_F F1), (za_F F2), (za_F F3), (za_F DI), EA, eB, (za_F CA), (za_F CB), (za_F CT), fu, fz, pr, wh, (za_F T), (za_F LN), ro, sz, em, hg, lv, bh, rl, rr, rv, ou, nx, sl) (nI r) (nI c) := by
  have hv : vp_in (nI r) 4 := vp_in_nI hr (by decide)
  have er : (nI r).toNatClampNeg = r := nI_clamp (by omega)
  have hs : sz (nI r).toNatClampNeg = nI R.length := by rw [er, hR.2, List.length_reverse]
  refine ⟨hv, hv, ?_⟩
  refine nm_r (e' := upd sz r (nI (R.length + 1))) (by rw [hs, er, nI_1, za_nb2 (by omega)]) ?_
  refine nm_r (e' := nI (64 * r + R.length)) (by rw [hs, za_x64]) ?_
  refine ⟨vp_in_nI hc (by decide), ?_⟩
  refine nm_r (e' := nI (O c)) (by rw [nI_clamp (by omega)]; rfl) ?_
  refine ⟨R.length + 1, zx_put26 hr hc hO R [] ro (R.length + 1) (by omega) (by simp; omega) hR.1 trivial hR2 (fun ro' g1 g2 => ?_)⟩
  rw [List.append_nil] at g1
  exact H ro' _ ⟨g1, by rw [pk_us, List.length_reverse, zo_i_len]⟩ ⟨g2, fun j hj => pk_un hj⟩
theorem zx_form51 {post : SX → Prop} {J : Int32 → Int32 → Int32 → (Nat → Int32) → (Nat → Int32) → (Nat → Int32) → (Nat → Int32) → (Nat → Int32) → (Nat → Int32) → (Nat → Int32) → (Nat → Int32) → (Nat → Int32) → (Nat → Int32) → (Nat → Int32) → (Nat → Int32) → (Nat → Int32) → (Nat → Int32) → (Nat → Int32) → (Nat → Int32) → (Nat → Int32) → (Nat → Int32) → (Nat → Int32) → (Nat → Int32) → (Nat → Int32) → (Nat → Int32) → (Nat → Int32) → (Nat → Int32) → (Nat → Int32) → (Nat → Int32) → (Nat → Int32) → (Nat → Int32) → (Nat → Int32) → (Nat → Int32) → (Nat → Int32) → (Nat → Int32) → (Nat → Int32) → (Nat → Int32) → (Nat → Int32) → (Nat → Int32) → (Nat → Int32) → Prop} {x2 x4 x5 : Int32} {r i ch : Nat} {Ld : List Nat} (hr : r < 4) (hch : ch < 96) (hO : ∀ x, x < 48 → O x < 10)
    (hL : ∀ x ∈ Ld, x < 48) (hz : fz ch = nI Ld.length) (hf : za_h fu (4 * ch) Ld) (hL4 : Ld.length ≤ 4) :
    ∀ (rest pre R : List Nat) (ro sz : Nat → Int32) (n : Nat), rest.length < n → Ld = pre ++ rest → zx_row ro sz r R.reverse → R.length + rest.length ≤ 64 → (∀ x ∈ R, x < 48) →
    (∀ ro' sz', zx_row ro' sz' r (zo_f O R rest).reverse → zx_rf r ro ro' sz sz' → J (nI (i + 1)) (nI cn) rg (za_F O) (za_F W) dA dB E (za_F LO) (za_F UA) UB LA (za_F KI) (za_F F1) (za_F F2) (za_F F3) (za_F DI) EA eB (za_F CA) (za_F CB) (za_F CT) fu fz pr wh (za_F T) (za_F LN) ro' sz' em hg lv bh rl rr rv ou nx sl) →
    wX_form_51 post J (nI r) x2 x4 x5 (nI i) (nI ch) n (nI pre.length) (nI cn) rg (za_F O) (za_F W) dA dB E (za_F LO) (za_F UA) UB LA (za_F KI) (za_F F1) (za_F F2) (za_F F3) (za_F DI) EA eB (za_F CA) (za_F CB) (za_F CT) fu fz pr wh (za_F T) (za_F LN) ro sz em hg lv bh rl rr rv ou nx sl := by
  have ec : (nI ch).toNatClampNeg = ch := nI_clamp (by omega)
  have hvc : vp_in (nI ch) 96 := vp_in_nI hch (by decide)
  intro rest
  induction rest with
  | nil =>
    intro pre R ro sz n hn hp hrow hl hR H
    obtain ⟨n, rfl⟩ : ∃ k, n = k + 1 := ⟨n - 1, by omega⟩
    have hpl : Ld.length = pre.length := by rw [hp, List.append_nil]
    refine ⟨hvc, pk_le Ld.length pre.length (fun h => ?_) (fun h => by omega) (by rw [ec]; exact hz) rfl⟩
    exact nm_r (nI_1 i) (H ro sz hrow zx_rf_r)
  | cons x xs ih =>
    intro pre R ro sz n hn hp hrow hl hR H
    rw [List.length_cons] at hn hl
    obtain ⟨n, rfl⟩ : ∃ k, n = k + 1 := ⟨n - 1, by omega⟩
    have hpl : Ld.length = pre.length + xs.length + 1 := by rw [hp, List.length_append, List.length_cons]; omega
    have hx : x < 48 := hL x (by rw [hp]; simp)
    have e2 : 4 * nI ch + nI pre.length = nI (4 * ch + pre.length) := za_x4 _ _
    have e4 : fu (4 * nI ch + nI pre.length).toNatClampNeg = nI x := by
      rw [e2, nI_clamp (by omega), za_h_get fu Ld (4 * ch) pre.length hf (by omega), hp, List.getD_eq_getElem?_getD, List.getElem?_append_right (Nat.le_refl _), Nat.sub_self]; rfl
    refine ⟨hvc, pk_le Ld.length pre.length (fun h => by omega) (fun h => ⟨by rw [e2]; exact vp_in_nI (by omega) (by decide), ?_⟩) (by rw [ec]; exact hz) rfl⟩
    rw [e4]
    refine zx_put hr hx hO hrow (by omega) hR (fun ro1 sz1 g1 g2 => ?_)
    refine nm_r (e' := nI (pre ++ [x]).length) (by rw [nI_1, List.length_append]; rfl) ?_
    refine ih (pre ++ [x]) (zo_i O x R) ro1 sz1 n (by omega) (by rw [hp, List.append_assoc]; rfl) g1 (by rw [zo_i_len]; omega) (zo_i_lt hx hR) (fun ro' sz' k1 k2 => ?_)
    exact H ro' sz' k1 (zx_rf_t g2 k2)
theorem zx_form15 {post : SX → Prop} {A B : Nat → Nat} {x5 : Int32} {r t to m : Nat} (hr : r < 4) (ht : t < 2) (hto : to ≤ 16) (hO : ∀ x, x < 48 → O x < 10) (hT : ∀ j, j < 32 → T j < 48)
    (hW : zd_W W A B) (hG : zd_G W A B) (htb : zx_tb W A B fu fz 48) (hm : (x5 = 0 ∧ m = 1) ∨ (x5 = 1 ∧ m = 2)) :
    ∀ (k i : Nat) (R : List Nat) (ro sz : Nat → Int32) (n : Nat), k < n → i + k = 16 * t + to → zx_row ro sz r R.reverse → R.length + 4 * k ≤ 64 → (∀ x ∈ R, x < 48) →
    (∀ ro' sz', zx_row ro' sz' r (zo_f O R (zd_R W A B m (zt_s T i k))).reverse → zx_rf r ro ro' sz sz' → post ((nI cn), rg, (za_F O), (za_F W), dA, dB, E, (za_F LO), (za_F UA), UB, LA, (za_F KI), (za_F F1), (za_F F2), (za_F F3), (za_F DI), EA, eB, (za_F CA), (za_F CB), (za_F CT), fu, fz, pr, wh, (za_F T), (za_F LN), ro', sz', em, hg, lv, bh, rl, rr, rv, ou, nx, sl)) →
    wX_form_15 post (nI r) (nI t) (nI to) x5 n (nI i) (nI cn) rg (za_F O) (za_F W) dA dB E (za_F LO) (za_F UA) UB LA (za_F KI) (za_F F1) (za_F F2) (za_F F3) (za_F DI) EA eB (za_F CA) (za_F CB) (za_F CT) fu fz pr wh (za_F T) (za_F LN) ro sz em hg lv bh rl rr rv ou nx sl := by
  have e16 : 16 * nI t + nI to = nI (16 * t + to) := za_x16 _ _
  intro k
  induction k with
  | zero =>
    intro i R ro sz n hn hi hrow hl hR H
    obtain ⟨n, rfl⟩ : ∃ k, n = k + 1 := ⟨n - 1, by omega⟩
    exact pk_le (16 * t + to) i (fun _ => H ro sz hrow zx_rf_r) (fun h => by omega) e16 rfl
  | succ k ih =>
    intro i R ro sz n hn hi hrow hl hR H
    obtain ⟨n, rfl⟩ : ∃ k, n = k + 1 := ⟨n - 1, by omega⟩
    have hc : T i < 48 := hT i (by omega)
    have ei : za_F T (nI i).toNatClampNeg = nI (T i) := by rw [nI_clamp (by omega)]; rfl
    refine pk_le (16 * t + to) i (fun h => by omega) (fun _ => ⟨vp_in_nI (by omega) (by decide), ?_⟩) e16 rfl
    have hm2 : m = 1 ∨ m = 2 := by rcases hm with h | h <;> omega
    have h4 := zd_G4 hG hm2 hc
    have hlt := zd_dlt (m := m) hW hc
    have hnext : ∀ ro' sz', zx_row ro' sz' r (zo_f O R (zd_d W A B m (T i))).reverse → zx_rf r ro ro' sz sz' → wX_form_15 post (nI r) (nI t) (nI to) x5 n (nI (i + 1)) (nI cn) rg (za_F O) (za_F W) dA dB E (za_F LO) (za_F UA) UB LA (za_F KI) (za_F F1) (za_F F2) (za_F F3) (za_F DI) EA eB (za_F CA) (za_F CB) (za_F CT) fu fz pr wh (za_F T) (za_F LN) ro' sz' em hg lv bh rl rr rv ou nx sl := by
      intro ro' sz' g1 g2
      refine ih (i + 1) _ ro' sz' n (by omega) (by omega) g1 (by rw [zo_f_len]; omega) (zo_f_lt hlt hR) (fun ro2 sz2 k1 k2 => H ro2 sz2 ?_ (zx_rf_t g2 k2))
      show zx_row ro2 sz2 r (zo_f O R (zd_R W A B m (T i :: zt_s T (i + 1) k))).reverse
      rw [zd_R_cons, zo_f_app]
      exact k1
    rcases hm with ⟨h5, h6⟩ | ⟨h5, h6⟩
    · subst h6
      obtain ⟨t1, t2, _⟩ := (htb (T i) hc).1
      refine br_t h5 ?_
      refine nm_r (e' := nI (T i)) (by rw [ei]; exact nI_add (T i) 0) ⟨(zd_d W A B 1 (T i)).length + 1, ?_⟩
      rw [Nat.zero_add] at t1 t2
      exact zx_form51 hr (by omega) hO hlt t2 t1 h4 (zd_d W A B 1 (T i)) [] R ro sz _ (by omega) rfl hrow (by omega) hR hnext
    · subst h6
      obtain ⟨t1, t2, _⟩ := (htb (T i) hc).2
      refine br_f (by rw [h5]; decide) ?_
      refine nm_r (e' := nI (48 + T i)) (by rw [ei, Nat.add_comm]; exact nI_add (T i) 48) ⟨(zd_d W A B 2 (T i)).length + 1, ?_⟩
      exact zx_form51 hr (by omega) hO hlt t2 t1 h4 (zd_d W A B 2 (T i)) [] R ro sz _ (by omega) rfl hrow (by omega) hR hnext
theorem zx_form {post : SX → Prop} {A B : Nat → Nat} {x5 : Int32} {r t fr to m : Nat} (hr : r < 4) (ht : t < 2) (hfr : fr ≤ to) (hto : to ≤ 16) (hO : ∀ x, x < 48 → O x < 10) (hT : ∀ j, j < 32 → T j < 48)
    (hW : zd_W W A B) (hG : zd_G W A B) (htb : zx_tb W A B fu fz 48) (hm : (x5 = 0 ∧ m = 1) ∨ (x5 = 1 ∧ m = 2))
    (H : ∀ ro' sz', zx_row ro' sz' r (zn_f O W A B m (zt_s T (16 * t + fr) (to - fr))) → zx_rf r ro ro' sz sz' → post ((nI cn), rg, (za_F O), (za_F W), dA, dB, E, (za_F LO), (za_F UA), UB, LA, (za_F KI), (za_F F1), (za_F F2), (za_F F3), (za_F DI), EA, eB, (za_F CA), (za_F CB), (za_F CT), fu, fz, pr, wh, (za_F T), (za_F LN), ro', sz', em, hg, lv, bh, rl, rr, rv, ou, nx, sl)) :
    wpX_form post ((nI cn), rg, (za_F O), (za_F W), dA, dB, E, (za_F LO), (za_F UA), UB, LA, (za_F KI), (za_F F1), (za_F F2), (za_F F3), (za_F DI), EA, eB, (za_F CA), (za_F CB), (za_F CT), fu, fz, pr, wh, (za_F T), (za_F LN), ro, sz, em, hg, lv, bh, rl, rr, rv, ou, nx, sl) (nI r) (nI t) (nI fr) (nI to) x5 := by
  refine ⟨vp_in_nI hr (by decide), ?_⟩
  refine nm_r (e' := upd sz r (nI 0)) (by rw [nI_clamp (by omega)]; exact congrArg (upd sz r) (za_nb (v := 0) (by omega))) ?_
  refine nm_r (za_x16 t fr) ⟨to - fr + 1, ?_⟩
  refine zx_form15 hr ht hto hO hT hW hG htb hm (to - fr) (16 * t + fr) [] ro _ _ (by omega) (by omega) ⟨trivial, pk_us⟩ (by simp; omega) (fun x hx => by simp at hx) (fun ro' sz' g1 g2 => H ro' sz' g1 ⟨g2.1, fun j hj => by rw [g2.2 j hj, pk_un hj]⟩)
end
end
section
theorem zc_ga {K : List Nat} {x : Nat} : (K ++ [x]).getD K.length 0 = x := by
  rw [List.getD_eq_getElem?_getD, List.getElem?_append_right (Nat.le_refl _), Nat.sub_self]; rfl
theorem zc_gl {K L : List Nat} {i : Nat} (h : i < K.length) : (K ++ L).getD i 0 = K.getD i 0 := by
  rw [List.getD_eq_getElem?_getD, List.getElem?_append_left h, List.getD_eq_getElem?_getD]
section
variable {cn : Nat} {rg : Int32} {O W LO UA KI F1 F2 F3 DI CA CB CT T LN : Nat → Nat} {E UB LA EA dA dB eB fu fz pr wh ro sz em hg lv bh rl rr rv ou nx sl : Nat → Int32}
theorem zx_starter2 {post : Int32 → Prop} {r : Nat} {K : List Nat} (hr : r < 4) (hr0 : 0 < r) (hO : ∀ x, x < 48 → O x < 10) (hK : za_h ro (64 * r) K) (hK2 : ∀ x ∈ K, x < 48) (hK3 : K.length ≤ 64) :
    ∀ (k n : Nat), k < n → k ≤ K.length → post (nI (64 * r + zc_l O K k - 1)) → wX_starter_2 post (nI r) (nI cn) rg (za_F O) (za_F W) dA dB E (za_F LO) (za_F UA) UB LA (za_F KI) (za_F F1) (za_F F2) (za_F F3) (za_F DI) EA eB (za_F CA) (za_F CB) (za_F CT) fu fz pr wh (za_F T) (za_F LN) ro sz em hg lv bh rl rr rv ou nx sl n (nI (64 * r + k - 1)) := by
  have e64 : 64 * nI r = nI (64 * r) := pk_mul 64 r
  intro k
  induction k with
  | zero =>
    intro n hn _ H
    obtain ⟨n, rfl⟩ : ∃ k, n = k + 1 := ⟨n - 1, by omega⟩
    exact pk_lt (64 * r + 0 - 1) (64 * r) (fun _ => H) (fun h => by omega) rfl e64
  | succ k ih =>
    intro n hn hk H
    obtain ⟨n, rfl⟩ : ∃ k, n = k + 1 := ⟨n - 1, by omega⟩
    have hx : K.getD k 0 < 48 := hK2 _ (za_gm (by omega))
    have hOx := hO _ hx
    have e1 : ro (nI (64 * r + (k + 1) - 1)).toNatClampNeg = nI (K.getD k 0) := by
      rw [nI_clamp (by omega), show 64 * r + (k + 1) - 1 = 64 * r + k by omega]
      exact za_h_get ro K _ k hK (by omega)
    refine pk_lt (64 * r + (k + 1) - 1) (64 * r) (fun h => by omega) (fun h => ⟨vp_in_nI (by omega) (by decide), by rw [e1]; exact vp_in_nI hx (by decide), ?_⟩) rfl e64
    refine pk_eq (O (K.getD k 0)) 0 (fun h => ?_) (fun h => ?_) (by rw [e1, nI_clamp (by omega)]; rfl) rfl
    · unfold zc_l at H
      rw [if_pos h] at H
      exact H
    · unfold zc_l at H
      rw [if_neg h] at H
      refine nm_r (e' := nI (64 * r + k - 1)) (by rw [za_q1 (by omega)]; exact congrArg nI (by omega)) ?_
      exact ih n (by omega) (by omega) H
theorem zx_starter {post : Int32 → Prop} {r k : Nat} {K : List Nat} (hr : r < 4) (hr0 : 0 < r) (hO : ∀ x, x < 48 → O x < 10) (hK : za_h ro (64 * r) K) (hK2 : ∀ x ∈ K, x < 48) (hK3 : K.length ≤ 64) (hk : k ≤ K.length)
    (H : post (nI (64 * r + zc_l O K k - 1))) : wpX_starter post ((nI cn), rg, (za_F O), (za_F W), dA, dB, E, (za_F LO), (za_F UA), UB, LA, (za_F KI), (za_F F1), (za_F F2), (za_F F3), (za_F DI), EA, eB, (za_F CA), (za_F CB), (za_F CT), fu, fz, pr, wh, (za_F T), (za_F LN), ro, sz, em, hg, lv, bh, rl, rr, rv, ou, nx, sl) (nI (64 * r + k - 1)) (nI r) :=
  ⟨k + 1, zx_starter2 hr hr0 hO hK hK2 hK3 k (k + 1) (by omega) hk H⟩
theorem zx_highest {post : Int32 → Prop} {r a b : Nat} {K : List Nat} (hr : r < 4) (hO : ∀ x, x < 48 → O x < 10) (hK : za_h ro (64 * r) K) (hK2 : ∀ x ∈ K, x < 48) (hK3 : K.length ≤ 64) (hab : a ≤ b) (hb : b ≤ K.length)
    (H : ∀ h, h < 10 → (∀ j, a ≤ j → j < b → O (K.getD j 0) ≤ h) → (h = 0 ∨ ∃ j, a ≤ j ∧ j < b ∧ O (K.getD j 0) = h) → post (nI h)) : wpX_highest post ((nI cn), rg, (za_F O), (za_F W), dA, dB, E, (za_F LO), (za_F UA), UB, LA, (za_F KI), (za_F F1), (za_F F2), (za_F F3), (za_F DI), EA, eB, (za_F CA), (za_F CB), (za_F CT), fu, fz, pr, wh, (za_F T), (za_F LN), ro, sz, em, hg, lv, bh, rl, rr, rv, ou, nx, sl) (nI (64 * r + a)) (nI (64 * r + b)) := by
  have key : ∀ n i h, b < n + i → a ≤ i → i ≤ b → h < 10 → (∀ j, a ≤ j → j < i → O (K.getD j 0) ≤ h) → (h = 0 ∨ ∃ j, a ≤ j ∧ j < i ∧ O (K.getD j 0) = h) → wX_highest_5 post (nI (64 * r + b)) (nI cn) rg (za_F O) (za_F W) dA dB E (za_F LO) (za_F UA) UB LA (za_F KI) (za_F F1) (za_F F2) (za_F F3) (za_F DI) EA eB (za_F CA) (za_F CB) (za_F CT) fu fz pr wh (za_F T) (za_F LN) ro sz em hg lv bh rl rr rv ou nx sl n (nI h) (nI (64 * r + i)) := by
    intro n
    induction n with
    | zero => intro i h h1 _ h2; omega
    | succ n ih =>
      intro i h h1 ha h2 h10 g1 g2
      refine pk_le (64 * r + b) (64 * r + i) (fun e => ?_) (fun e => ?_)
      · have : i = b := by omega
        subst this
        exact H h h10 g1 g2
      · have hx : K.getD i 0 < 48 := hK2 _ (za_gm (by omega))
        have hOx := hO _ hx
        have e1 : ro (nI (64 * r + i)).toNatClampNeg = nI (K.getD i 0) := by
          rw [nI_clamp (by omega)]
          exact za_h_get ro K _ i hK (by omega)
        have hv1 : vp_in (nI (64 * r + i)) 256 := vp_in_nI (by omega) (by decide)
        have hv2 : vp_in (ro (nI (64 * r + i)).toNatClampNeg) 48 := by rw [e1]; exact vp_in_nI hx (by decide)
        have e2 : za_F O (ro (nI (64 * r + i)).toNatClampNeg).toNatClampNeg = nI (O (K.getD i 0)) := by rw [e1, nI_clamp (by omega)]; rfl
        refine ⟨hv1, hv2, pk_le (O (K.getD i 0)) h (fun e => ?_) (fun e => ⟨hv1, hv2, ?_⟩) e2 rfl⟩
        · refine nm_r (nI_1 _) (ih (i + 1) h (by omega) (by omega) (by omega) h10 ?_ ?_)
          · intro j k1 k2
            by_cases ej : j = i
            · rw [ej]; exact e
            · exact g1 j k1 (by omega)
          · rcases g2 with g2 | ⟨j, k1, k2, k3⟩
            · exact Or.inl g2
            · exact Or.inr ⟨j, k1, by omega, k3⟩
        · refine nm_r e2 (nm_r (nI_1 _) (ih (i + 1) _ (by omega) (by omega) (by omega) hOx ?_ ?_))
          · intro j k1 k2
            by_cases ej : j = i
            · rw [ej]; exact Nat.le_refl _
            · have := g1 j k1 (by omega); omega
          · exact Or.inr ⟨i, ha, by omega, rfl⟩
  exact ⟨b - a + 1, key _ a 0 (by omega) (Nat.le_refl _) hab (by omega) (fun j k1 k2 => by omega) (Or.inl rfl)⟩
/-- what one character does -/
theorem zx_c130 {post : SX → Prop} {J : Int32 → Int32 → Int32 → (Nat → Int32) → (Nat → Int32) → (Nat → Int32) → (Nat → Int32) → (Nat → Int32) → (Nat → Int32) → (Nat → Int32) → (Nat → Int32) → (Nat → Int32) → (Nat → Int32) → (Nat → Int32) → (Nat → Int32) → (Nat → Int32) → (Nat → Int32) → (Nat → Int32) → (Nat → Int32) → (Nat → Int32) → (Nat → Int32) → (Nat → Int32) → (Nat → Int32) → (Nat → Int32) → (Nat → Int32) → (Nat → Int32) → (Nat → Int32) → (Nat → Int32) → (Nat → Int32) → (Nat → Int32) → (Nat → Int32) → (Nat → Int32) → (Nat → Int32) → (Nat → Int32) → (Nat → Int32) → (Nat → Int32) → (Nat → Int32) → (Nat → Int32) → (Nat → Int32) → (Nat → Int32) → Prop} {x2 x3 : Int32} {r k x M : Nat} {K : List Nat} (hr : r < 4) (hr0 : 0 < r) (hO : ∀ x, x < 48 → O x < 10) (hK : za_h ro (64 * r) K) (hK2 : ∀ x ∈ K, x < 48) (hx : x < 48)
    (hk : K.length ≤ k) (hk2 : k < 64) (hM : M ≤ 48) (hMs : M ≠ 0 → zc_l O K K.length ≠ 0)
    (H : ∀ ro' K', K' = (if M = 0 then K ++ [x] else K.set (zc_l O K K.length - 1) (M - 1)) → za_h ro' (64 * r) K' → (∀ j, j < 64 * r ∨ 64 * r + k + 1 ≤ j → ro' j = ro j) →
      J (nI (64 * r + K'.length)) (nI (64 * r + zc_l O K' K'.length - 1)) (nI (64 * r + (k + 1))) (za_F O) (za_F W) dA dB E (za_F LO) (za_F UA) UB LA (za_F KI) (za_F F1) (za_F F2) (za_F F3) (za_F DI) EA eB (za_F CA) (za_F CB) (za_F CT) fu fz pr wh (za_F T) (za_F LN) ro' sz em hg lv bh rl rr rv ou nx sl) :
    wX_compose_130 post J (nI r) x2 x3 (nI (64 * r + K.length)) (nI (64 * r + zc_l O K K.length - 1)) (nI (64 * r + k)) (nI x) (nI (O x)) (nI M - 1) (nI cn) rg (za_F O) (za_F W) dA dB E (za_F LO) (za_F UA) UB LA (za_F KI) (za_F F1) (za_F F2) (za_F F3) (za_F DI) EA eB (za_F CA) (za_F CB) (za_F CT) fu fz pr wh (za_F T) (za_F LN) ro sz em hg lv bh rl rr rv ou nx sl := by
  have hl := zc_l_le O K K.length
  have hOx := hO x hx
  by_cases hM0 : M = 0
  · subst hM0
    have e0 : (nI 0 - 1 : Int32) < 0 := by decide
    refine br_t e0 ⟨vp_in_nI (by omega) (by decide), ?_⟩
    refine nm_r (e' := upd ro (64 * r + K.length) (nI x)) (by rw [nI_clamp (by omega), za_nb2 (by omega)]) ?_
    have hK' : za_h (upd ro (64 * r + K.length) (nI x)) (64 * r) (K ++ [x]) := za_h_snoc hK
    have hf : ∀ j, j < 64 * r ∨ 64 * r + k + 1 ≤ j → upd ro (64 * r + K.length) (nI x) j = ro j := fun j hj => pk_un (by omega)
    have hh := H _ _ (if_pos rfl).symm hK' hf
    have el : (K ++ [x]).length = K.length + 1 := by simp
    have es : zc_l O (K ++ [x]) K.length = zc_l O K K.length := zc_l_cg (fun i hi => zc_gl hi)
    have e1 : zc_l O (K ++ [x]) (K ++ [x]).length = if O x = 0 then K.length + 1 else zc_l O K K.length := by
      rw [el]
      conv => lhs; unfold zc_l
      rw [zc_ga, es]
    rw [e1, el] at hh
    refine pk_eq (O x) 0 (fun h => ?_) (fun h => ?_)
    · rw [if_pos h] at hh
      exact nm_r (nI_1 _) (nm_r (nI_1 _) hh)
    · rw [if_neg h] at hh
      exact nm_r (nI_1 _) (nm_r (nI_1 _) hh)
  · have hs := hMs hM0
    have e0 : ¬ (nI M - 1 : Int32) < 0 := by rw [za_p1 (by omega)]; exact nI_pos (by omega)
    refine br_f e0 ⟨vp_in_nI (by omega) (by decide), ?_⟩
    have ei : 64 * r + zc_l O K K.length - 1 = 64 * r + (zc_l O K K.length - 1) := by omega
    refine nm_r (e' := upd ro (64 * r + (zc_l O K K.length - 1)) (nI (M - 1))) (by rw [nI_clamp (by omega), za_p1 (by omega), za_nb2 (by omega), ei]) ?_
    have hK' : za_h (upd ro (64 * r + (zc_l O K K.length - 1)) (nI (M - 1))) (64 * r) (K.set (zc_l O K K.length - 1) (M - 1)) := za_h_set hK (by omega)
    have hf : ∀ j, j < 64 * r ∨ 64 * r + k + 1 ≤ j → upd ro (64 * r + (zc_l O K K.length - 1)) (nI (M - 1)) j = ro j := fun j hj => pk_un (by omega)
    have hh := H _ _ (if_neg hM0).symm hK' hf
    have el : (K.set (zc_l O K K.length - 1) (M - 1)).length = K.length := List.length_set
    rw [show nI (64 * r + K.length) - 1 = nI (64 * r + K.length - 1) from za_p1 (by omega)]
    refine zx_starter (k := K.length) hr hr0 hO hK' ?_ (by rw [el]; omega) (by rw [el]; exact Nat.le_refl _) ?_
    · intro z hz
      rcases List.mem_or_eq_of_mem_set hz with hz | hz
      · exact hK2 z hz
      · omega
    · rw [el] at hh
      exact nm_r (nI_1 _) hh
theorem zx_c85 {post : SX → Prop} {J : Int32 → Int32 → Int32 → (Nat → Int32) → (Nat → Int32) → (Nat → Int32) → (Nat → Int32) → (Nat → Int32) → (Nat → Int32) → (Nat → Int32) → (Nat → Int32) → (Nat → Int32) → (Nat → Int32) → (Nat → Int32) → (Nat → Int32) → (Nat → Int32) → (Nat → Int32) → (Nat → Int32) → (Nat → Int32) → (Nat → Int32) → (Nat → Int32) → (Nat → Int32) → (Nat → Int32) → (Nat → Int32) → (Nat → Int32) → (Nat → Int32) → (Nat → Int32) → (Nat → Int32) → (Nat → Int32) → (Nat → Int32) → (Nat → Int32) → (Nat → Int32) → (Nat → Int32) → (Nat → Int32) → (Nat → Int32) → (Nat → Int32) → (Nat → Int32) → (Nat → Int32) → (Nat → Int32) → (Nat → Int32) → Prop} {x3 z0 : Int32} {r k x cc : Nat} {K : List Nat} {CO : Nat → Nat → Nat} (hr : r < 4) (hr0 : 0 < r) (hO : ∀ x, x < 48 → O x < 10) (hK : za_h ro (64 * r) K) (hK2 : ∀ x ∈ K, x < 48) (hx : x < 48)
    (hT : zh_T pr wh cc CO) (hcc : cc < 128) (hC : ∀ a b, CO a b ≤ 48)
    (hk : K.length ≤ k) (hk2 : k < 64) (hz0 : z0 = if zc_l O K K.length = K.length then 1 else 0)
    (H : ∀ ro' K', K' = zc_t O CO K x → za_h ro' (64 * r) K' → (∀ j, j < 64 * r ∨ 64 * r + k + 1 ≤ j → ro' j = ro j) →
      J (nI (64 * r + K'.length)) (nI (64 * r + zc_l O K' K'.length - 1)) (nI (64 * r + (k + 1))) (za_F O) (za_F W) dA dB E (za_F LO) (za_F UA) UB LA (za_F KI) (za_F F1) (za_F F2) (za_F F3) (za_F DI) EA eB (za_F CA) (za_F CB) (za_F CT) fu fz pr wh (za_F T) (za_F LN) ro' sz em hg lv bh rl rr rv ou nx sl) :
    wX_compose_85 post J (nI r) (nI (64 * r)) x3 (nI (64 * r + K.length)) (nI (64 * r + zc_l O K K.length - 1)) (nI (64 * r + k)) (nI x) (nI (O x)) z0 (nI cn) rg (za_F O) (za_F W) dA dB E (za_F LO) (za_F UA) UB LA (za_F KI) (za_F F1) (za_F F2) (za_F F3) (za_F DI) EA eB (za_F CA) (za_F CB) (za_F CT) fu fz pr wh (za_F T) (za_F LN) ro sz em hg lv bh rl rr rv ou nx sl := by
  have hl := zc_l_le O K K.length
  have hOx := hO x hx
  have hno : zc_m O CO K x = 0 → wX_compose_129 post J (nI r) (nI (64 * r)) x3 (nI (64 * r + K.length)) (nI (64 * r + zc_l O K K.length - 1)) (nI (64 * r + k)) (nI x) (nI (O x)) (nI cn) rg (za_F O) (za_F W) dA dB E (za_F LO) (za_F UA) UB LA (za_F KI) (za_F F1) (za_F F2) (za_F F3) (za_F DI) EA eB (za_F CA) (za_F CB) (za_F CT) fu fz pr wh (za_F T) (za_F LN) ro sz em hg lv bh rl rr rv ou nx sl := by
    intro hM
    refine zx_c130 (M := 0) hr hr0 hO hK hK2 hx hk hk2 (by omega) (fun h => absurd rfl h) (fun ro' K' e1 e2 e3 => H ro' K' ?_ e2 e3)
    rw [e1, if_pos rfl]; unfold zc_t; rw [if_pos hM]
  have hyes : zc_l O K K.length ≠ 0 → zc_m O CO K x = CO (K.getD (zc_l O K K.length - 1) 0) x → wX_compose_113 post J (nI r) (nI (64 * r)) x3 (nI (64 * r + K.length)) (nI (64 * r + zc_l O K K.length - 1)) (nI (64 * r + k)) (nI x) (nI (O x)) (nI cn) rg (za_F O) (za_F W) dA dB E (za_F LO) (za_F UA) UB LA (za_F KI) (za_F F1) (za_F F2) (za_F F3) (za_F DI) EA eB (za_F CA) (za_F CB) (za_F CT) fu fz pr wh (za_F T) (za_F LN) ro sz em hg lv bh rl rr rv ou nx sl := by
    intro hs hM
    refine ⟨vp_in_nI (by omega) (by decide), ?_⟩
    have e1 : ro (nI (64 * r + zc_l O K K.length - 1)).toNatClampNeg = nI (K.getD (zc_l O K K.length - 1) 0) := by
      rw [nI_clamp (by omega), show 64 * r + zc_l O K K.length - 1 = 64 * r + (zc_l O K K.length - 1) by omega]
      exact za_h_get ro K _ _ hK (by omega)
    rw [e1]
    refine zx_composite hT hcc (hK2 _ (za_gm (by omega))) hx ?_
    rw [← hM]
    have hM48 : zc_m O CO K x ≤ 48 := by rw [hM]; exact hC _ _
    exact zx_c130 hr hr0 hO hK hK2 hx hk hk2 hM48 (fun _ => hs) H
  refine pk_lt (64 * r + zc_l O K K.length - 1) (64 * r) (fun h => hno ?_) (fun h => ?_)
  · unfold zc_m; rw [if_neg (by omega)]
  · have hs : zc_l O K K.length ≠ 0 := by omega
    by_cases hn : zc_l O K K.length = K.length
    · rw [if_pos hn] at hz0
      refine br_f (by rw [hz0]; decide) (hyes hs ?_)
      unfold zc_m
      rw [if_pos ⟨hs, (zc_r_iff _).mpr (fun i h1 h2 => by omega)⟩]
    · rw [if_neg hn] at hz0
      refine br_t hz0 ?_
      rw [show nI (64 * r + zc_l O K K.length - 1) + 1 = nI (64 * r + zc_l O K K.length) by rw [nI_1]; exact congrArg nI (by omega)]
      refine zx_highest hr hO hK hK2 (by omega) (by omega) (Nat.le_refl _) (fun h h10 g1 g2 => ?_)
      refine pk_le (O x) h (fun e => hno ?_) (fun e => hyes hs ?_)
      · unfold zc_m
        rw [if_neg]
        rintro ⟨_, q⟩
        rw [zc_r_iff] at q
        rcases g2 with g2 | ⟨j, k1, k2, k3⟩
        · have := q (zc_l O K K.length) (Nat.le_refl _) (by omega); omega
        · have := q j k1 k2; omega
      · unfold zc_m
        rw [if_pos ⟨hs, (zc_r_iff _).mpr (fun i h1 h2 => by have := g1 i h1 h2; omega)⟩]
theorem zx_compose {post : SX → Prop} {r cc : Nat} {L : List Nat} {CO : Nat → Nat → Nat} (hr : r < 4) (hr0 : 0 < r) (hO : ∀ x, x < 48 → O x < 10) (hL : zx_row ro sz r L) (hL2 : ∀ x ∈ L, x < 48) (hL3 : L.length ≤ 64)
    (hT : zh_T pr wh cc CO) (hcc : cc < 128) (hC : ∀ a b, CO a b ≤ 48)
    (H : ∀ ro' sz', zx_row ro' sz' r (zc_c O CO L) → zx_rf r ro ro' sz sz' → post ((nI cn), rg, (za_F O), (za_F W), dA, dB, E, (za_F LO), (za_F UA), UB, LA, (za_F KI), (za_F F1), (za_F F2), (za_F F3), (za_F DI), EA, eB, (za_F CA), (za_F CB), (za_F CT), fu, fz, pr, wh, (za_F T), (za_F LN), ro', sz', em, hg, lv, bh, rl, rr, rv, ou, nx, sl)) : wpX_compose post ((nI cn), rg, (za_F O), (za_F W), dA, dB, E, (za_F LO), (za_F UA), UB, LA, (za_F KI), (za_F F1), (za_F F2), (za_F F3), (za_F DI), EA, eB, (za_F CA), (za_F CB), (za_F CT), fu, fz, pr, wh, (za_F T), (za_F LN), ro, sz, em, hg, lv, bh, rl, rr, rv, ou, nx, sl) (nI r) := by
  have hv : vp_in (nI r) 4 := vp_in_nI hr (by decide)
  have er : (nI r).toNatClampNeg = r := nI_clamp (by omega)
  have hs : sz (nI r).toNatClampNeg = nI L.length := by rw [er]; exact hL.2
  have key : ∀ (rest K : List Nat) (k : Nat) (ro : Nat → Int32) (n : Nat), rest.length < n → k + rest.length = L.length → K.length ≤ k → 0 < K.length → za_h ro (64 * r) K → za_h ro (64 * r + k) rest → (∀ x ∈ K, x < 48) → (∀ x ∈ rest, x < 48) →
      (∀ ro' sz', zx_row ro' sz' r (zc_f O CO K rest) → zx_rf r ro ro' sz sz' → post ((nI cn), rg, (za_F O), (za_F W), dA, dB, E, (za_F LO), (za_F UA), UB, LA, (za_F KI), (za_F F1), (za_F F2), (za_F F3), (za_F DI), EA, eB, (za_F CA), (za_F CB), (za_F CT), fu, fz, pr, wh, (za_F T), (za_F LN), ro', sz', em, hg, lv, bh, rl, rr, rv, ou, nx, sl)) →
      wX_compose_47 post (nI r) (nI (64 * r)) (nI (64 * r + L.length)) (nI cn) rg n (nI (64 * r + K.length)) (nI (64 * r + zc_l O K K.length - 1)) (nI (64 * r + k)) (za_F O) (za_F W) dA dB E (za_F LO) (za_F UA) UB LA (za_F KI) (za_F F1) (za_F F2) (za_F F3) (za_F DI) EA eB (za_F CA) (za_F CB) (za_F CT) fu fz pr wh (za_F T) (za_F LN) ro sz em hg lv bh rl rr rv ou nx sl := by
    intro rest
    induction rest with
    | nil =>
      intro K k ro n hn hk hKk hK0 hK hrest hK2 hr2 H
      rw [List.length_nil] at hk
      obtain ⟨n, rfl⟩ : ∃ k, n = k + 1 := ⟨n - 1, by omega⟩
      refine pk_le (64 * r + L.length) (64 * r + k) (fun _ => ⟨hv, ?_⟩) (fun h => by omega)
      refine pk_le L.length 0 (fun h => by omega) (fun h => ⟨hv, ?_⟩) hs rfl
      have e1 : nI (64 * r + K.length) - nI (64 * r) = nI K.length := by rw [pk_sub (by omega)]; exact congrArg nI (by omega)
      refine nm_r (e' := upd sz r (nI K.length)) (by rw [e1, er, za_nb2 (by omega)]) ?_
      exact H ro _ ⟨hK, pk_us⟩ ⟨fun _ _ => rfl, fun j hj => pk_un hj⟩
    | cons x xs ih =>
      intro K k ro n hn hk hKk hK0 hK hrest hK2 hr2 H
      rw [List.length_cons] at hn hk
      obtain ⟨n, rfl⟩ : ∃ k, n = k + 1 := ⟨n - 1, by omega⟩
      have hx : x < 48 := hr2 x (by simp)
      have hOx := hO x hx
      refine pk_le (64 * r + L.length) (64 * r + k) (fun h => by omega) (fun _ => ⟨vp_in_nI (by omega) (by decide), ?_⟩)
      refine nm_r (e' := nI x) (by rw [nI_clamp (by omega)]; exact hrest.1) ⟨vp_in_nI hx (by decide), ?_⟩
      refine nm_r (e' := nI (O x)) (by rw [nI_clamp (by omega)]; rfl) ?_
      have hl := zc_l_le O K K.length
      have hnext : ∀ ro' K', K' = zc_t O CO K x → za_h ro' (64 * r) K' → (∀ j, j < 64 * r ∨ 64 * r + k + 1 ≤ j → ro' j = ro j) →
          wX_compose_47 post (nI r) (nI (64 * r)) (nI (64 * r + L.length)) (nI cn) rg n (nI (64 * r + K'.length)) (nI (64 * r + zc_l O K' K'.length - 1)) (nI (64 * r + (k + 1))) (za_F O) (za_F W) dA dB E (za_F LO) (za_F UA) UB LA (za_F KI) (za_F F1) (za_F F2) (za_F F3) (za_F DI) EA eB (za_F CA) (za_F CB) (za_F CT) fu fz pr wh (za_F T) (za_F LN) ro' sz em hg lv bh rl rr rv ou nx sl := by
        intro ro' K' eK g1 g2
        have hlen : K'.length ≤ K.length + 1 := by rw [eK]; exact zc_t_len
        have hpos : 0 < K'.length := by rw [eK]; exact zc_t_pos hK0
        refine ih K' (k + 1) ro' n (by omega) (by omega) (by omega) hpos g1 ?_ (by rw [eK]; exact zc_t_lt hC hK2 hx) (fun z hz => hr2 z (by simp [hz])) (fun ro2 sz2 k1 k2 => H ro2 sz2 ?_ ⟨fun j hj => ?_, k2.2⟩)
        · exact za_h_cg xs _ (fun j j1 j2 => g2 j (by omega)) hrest.2
        · rw [eK] at k1; exact k1
        · rw [k2.1 j hj, g2 j (by omega)]
      refine pk_eq (64 * r + zc_l O K K.length - 1) (64 * r + K.length - 1) (fun h => ?_) (fun h => ?_) rfl (za_p1 (by omega))
      · exact zx_c85 hr hr0 hO hK hK2 hx hT hcc hC hKk (by omega) (by rw [if_pos (by omega)]) hnext
      · exact zx_c85 hr hr0 hO hK hK2 hx hT hcc hC hKk (by omega) (by rw [if_neg (by omega)]) hnext
  refine nm_r (pk_mul 64 r) ⟨hv, ?_⟩
  refine nm_r (e' := nI (64 * r + L.length)) (by rw [hs, nI_add]) ?_
  refine nm_r (nI_1 _) ⟨hv, ?_⟩
  cases L with
  | nil =>
    refine pk_le 0 0 (fun _ => ?_) (fun h => by omega) hs rfl
    refine nm_e (nm_r (nI_1 _) ⟨1, ?_⟩)
    refine pk_le (64 * r + 0) (64 * r + 1) (fun _ => ⟨hv, ?_⟩) (fun h => by omega)
    refine pk_le 0 0 (fun _ => ⟨hv, ?_⟩) (fun h => by omega) hs rfl
    refine nm_r (e' := upd sz r (nI 0)) (by rw [er]; exact congrArg (upd sz r) (za_nb2 (v := 0) (by omega))) ?_
    exact H ro _ ⟨trivial, pk_us⟩ ⟨fun _ _ => rfl, fun j hj => pk_un hj⟩
  | cons x xs =>
    have hx : x < 48 := hL2 x (by simp)
    refine pk_le (x :: xs).length 0 (fun h => by simp at h) (fun _ => ?_) hs rfl
    have h1 : za_h ro (64 * r) [x] := ⟨hL.1.1, trivial⟩
    have hx1 : ∀ z ∈ [x], z < 48 := fun z hz => by simp at hz; omega
    rw [show nI (64 * r) = nI (64 * r + 1 - 1) by rfl]
    refine zx_starter (k := 1) (K := [x]) hr hr0 hO h1 hx1 (by simp) (by simp) ?_
    refine nm_r (nI_1 _) ⟨xs.length + 1, ?_⟩
    refine key xs [x] 1 ro (xs.length + 1) (by omega) (by rw [List.length_cons]; omega) (by simp) (by simp) h1 hL.1.2 hx1 (fun z hz => hL2 z (by simp [hz])) H
end
end
section
def zn_n (O W A B : Nat → Nat) (E : Nat → Int32) (f : Nat) (S : List Nat) : List Nat :=
  if f % 2 = 1 then zc_c O (fun a b => zc_o W A B E a b 48) (zn_f O W A B (if f ≤ 1 then 1 else 2) S) else zn_f O W A B (if f ≤ 1 then 1 else 2) S
theorem zn_m (f : Nat) : (if f ≤ 1 then 1 else 2) = 1 ∨ (if f ≤ 1 then 1 else 2) = 2 := by split <;> simp
theorem zn_n_le {O W A B : Nat → Nat} {E : Nat → Int32} {f : Nat} {S : List Nat} (hG : zd_G W A B) (hS : ∀ x ∈ S, x < 48) (hl : S.length ≤ 16) : (zn_n O W A B E f S).length ≤ 64 := by
  have h := zn_f_le (O := O) hG (zn_m f) hS hl
  unfold zn_n
  split
  · exact Nat.le_trans zc_c_len h
  · exact h
theorem zn_n_lt {O W A B : Nat → Nat} {E : Nat → Int32} {f : Nat} {S : List Nat} (hW : zd_W W A B) (hS : ∀ x ∈ S, x < 48) : ∀ x ∈ zn_n O W A B E f S, x < 48 := by
  have h := zn_f_lt (O := O) (m := if f ≤ 1 then 1 else 2) hW hS
  unfold zn_n
  split
  · exact zc_c_lt (fun a b => zc_o_le 48) h
  · exact h
section
variable {cn : Nat} {rg : Int32} {O W LO UA KI F1 F2 F3 DI CA CB CT T LN : Nat → Nat} {E UB LA EA dA dB eB fu fz pr wh ro sz em hg lv bh rl rr rv ou nx sl : Nat → Int32}
theorem zx_work {post : SX → Prop} {A B : Nat → Nat} {r t f : Nat} (hr : r < 4) (hr0 : 0 < r) (ht : t < 2) (hf : f < 4) (hO : ∀ x, x < 48 → O x < 10) (hT : ∀ j, j < 32 → T j < 48) (hLN : ∀ j, j < 2 → LN j ≤ 16)
    (hW : zd_W W A B) (hG : zd_G W A B) (htb : zx_tb W A B fu fz 48) (hP : zh_T pr wh 48 (fun a b => zc_o W A B E a b 48))
    (H : ∀ ro' sz', zx_row ro' sz' r (zn_n O W A B E f (zt_s T (16 * t) (LN t))) → zx_rf r ro ro' sz sz' → post ((nI cn), rg, (za_F O), (za_F W), dA, dB, E, (za_F LO), (za_F UA), UB, LA, (za_F KI), (za_F F1), (za_F F2), (za_F F3), (za_F DI), EA, eB, (za_F CA), (za_F CB), (za_F CT), fu, fz, pr, wh, (za_F T), (za_F LN), ro', sz', em, hg, lv, bh, rl, rr, rv, ou, nx, sl)) : wpX_work post ((nI cn), rg, (za_F O), (za_F W), dA, dB, E, (za_F LO), (za_F UA), UB, LA, (za_F KI), (za_F F1), (za_F F2), (za_F F3), (za_F DI), EA, eB, (za_F CA), (za_F CB), (za_F CT), fu, fz, pr, wh, (za_F T), (za_F LN), ro, sz, em, hg, lv, bh, rl, rr, rv, ou, nx, sl) (nI r) (nI t) (nI f) := by
  have hl := hLN t ht
  have hS : ∀ x ∈ zt_s T (16 * t) (LN t), x < 48 := zt_s_lt (fun j h1 h2 => hT j (by omega))
  have key : ∀ (m : Nat) (z : Int32), m = (if f ≤ 1 then 1 else 2) → ((z = 0 ∧ m = 1) ∨ (z = 1 ∧ m = 2)) → wX_work_20 post (nI r) (nI f) z (nI (LN t)) 0 (nI t) (nI r) (nI cn) rg (za_F O) (za_F W) dA dB E (za_F LO) (za_F UA) UB LA (za_F KI) (za_F F1) (za_F F2) (za_F F3) (za_F DI) EA eB (za_F CA) (za_F CB) (za_F CT) fu fz pr wh (za_F T) (za_F LN) ro sz em hg lv bh rl rr rv ou nx sl := by
    intro m z hm hz
    have hm2 := zn_m f
    rw [← hm] at hm2
    refine zx_form (fr := 0) hr ht (Nat.zero_le _) hl hO hT hW hG htb hz (fun ro1 sz1 g1 g2 => ?_)
    rw [Nat.add_zero, Nat.sub_zero] at g1
    have el := zn_f_le (O := O) hG hm2 hS (by rw [zt_s_len]; exact hl)
    refine pk_eq (f % 2) 0 (fun e => ?_) (fun e => ?_) (pk_andN (by omega) 1 (by decide)) rfl
    · refine H ro1 sz1 ?_ g2
      unfold zn_n; rw [if_neg (by omega), ← hm]; exact g1
    · refine zx_compose hr hr0 hO g1 (zn_f_lt hW hS) el hP (by omega) (fun a b => zc_o_le 48) (fun ro2 sz2 k1 k2 => H ro2 sz2 ?_ (zx_rf_t g2 k2))
      unfold zn_n; rw [if_pos (by omega), ← hm]; exact k1
  have el : za_F LN (nI t).toNatClampNeg = nI (LN t) := by rw [nI_clamp (by omega)]; rfl
  refine ⟨vp_in_nI ht (by decide), ?_⟩
  rw [el]
  refine pk_le f 1 (fun h => ?_) (fun h => ?_)
  · exact key 1 0 (by rw [if_pos h]) (Or.inl ⟨rfl, rfl⟩)
  · exact key 2 1 (by rw [if_neg (by omega)]) (Or.inr ⟨rfl, rfl⟩)
end
end
section
section
variable {cn : Nat} {rs nn : Int32} {O W LO UA KI F1 F2 F3 DI CA CB CT T LN : Nat → Nat} {E UB LA EA pA pB wt yB lo re yr fo fl ele els eb yl se pg yo : Nat → Int32}
theorem zy_load {post : SY → Prop} {t fr to : Nat} (ht : t < 2) (hfr : fr ≤ to) (hto : to ≤ 16)
    (H : ∀ yr', za_h yr' 0 (zt_s T (16 * t + fr) (to - fr)) → post ((nI cn), rs, (nI (to - fr)), (za_F O), (za_F W), pA, pB, (za_F LO), (za_F UA), UB, LA, (za_F KI), wt, EA, yB, (za_F DI), E, (za_F CA), (za_F CB), (za_F CT), lo, (za_F T), (za_F LN), re, yr', fo, fl, ele, els, eb, yl, se, pg, yo)) : wpY_load post ((nI cn), rs, nn, (za_F O), (za_F W), pA, pB, (za_F LO), (za_F UA), UB, LA, (za_F KI), wt, EA, yB, (za_F DI), E, (za_F CA), (za_F CB), (za_F CT), lo, (za_F T), (za_F LN), re, yr, fo, fl, ele, els, eb, yl, se, pg, yo) (nI t) (nI fr) (nI to) := by
  have key : ∀ (k i : Nat) (P : List Nat) (yr : Nat → Int32) (n : Nat), k < n → i + k = to → P.length = i - fr → fr ≤ i → za_h yr 0 P →
      (∀ yr', za_h yr' 0 (P ++ zt_s T (16 * t + i) k) → post ((nI cn), rs, (nI (to - fr)), (za_F O), (za_F W), pA, pB, (za_F LO), (za_F UA), UB, LA, (za_F KI), wt, EA, yB, (za_F DI), E, (za_F CA), (za_F CB), (za_F CT), lo, (za_F T), (za_F LN), re, yr', fo, fl, ele, els, eb, yl, se, pg, yo)) →
      wY_load_8 post (nI t) (nI to) (nI cn) rs n (nI i) (nI P.length) (za_F O) (za_F W) pA pB (za_F LO) (za_F UA) UB LA (za_F KI) wt EA yB (za_F DI) E (za_F CA) (za_F CB) (za_F CT) lo (za_F T) (za_F LN) re yr fo fl ele els eb yl se pg yo := by
    intro k
    induction k with
    | zero =>
      intro i P yr n hn hi hP hfi h1 H
      obtain ⟨n, rfl⟩ : ∃ k, n = k + 1 := ⟨n - 1, by omega⟩
      refine pk_le to i (fun _ => ?_) (fun h => by omega)
      have := H yr (by rw [show zt_s T (16 * t + i) 0 = [] from rfl, List.append_nil]; exact h1)
      rw [show to - fr = P.length by omega] at this
      exact this
    | succ k ih =>
      intro i P yr n hn hi hP hfi h1 H
      obtain ⟨n, rfl⟩ : ∃ k, n = k + 1 := ⟨n - 1, by omega⟩
      refine pk_le to i (fun h => by omega) (fun _ => ⟨by rw [za_x16]; exact vp_in_nI (by omega) (by decide), vp_in_nI (by omega) (by decide), ?_⟩)
      refine nm_r (e' := upd yr (0 + P.length) (nI (T (16 * t + i)))) (by rw [za_x16, nI_clamp (by omega), nI_clamp (by omega), Nat.zero_add]; rfl) ?_
      refine nm_r (e' := nI (P ++ [T (16 * t + i)]).length) (by rw [nI_1, List.length_append]; rfl) (nm_r (nI_1 _) ?_)
      refine ih (i + 1) (P ++ [T (16 * t + i)]) _ n (by omega) (by omega) (by rw [List.length_append]; simp; omega) (by omega) (za_h_snoc h1) (fun yr' g => H yr' ?_)
      rw [List.append_assoc] at g
      exact g
  refine ⟨to - fr + 1, key (to - fr) fr [] yr _ (by omega) (by omega) (by simp) (Nat.le_refl _) trivial H⟩
theorem zy_putIn {post : SY → Prop} {c k N : Nat} {L1 L2 : List Nat} (hk : L1.length = k) (hN : k + L2.length = N) (hl : N < 64) (h : za_h yr 0 (L1 ++ L2))
    (H : ∀ yr', za_h yr' 0 (L1 ++ c :: L2) → post ((nI cn), rs, (nI (N + 1)), (za_F O), (za_F W), pA, pB, (za_F LO), (za_F UA), UB, LA, (za_F KI), wt, EA, yB, (za_F DI), E, (za_F CA), (za_F CB), (za_F CT), lo, (za_F T), (za_F LN), re, yr', fo, fl, ele, els, eb, yl, se, pg, yo)) : wpY_putIn post ((nI cn), rs, (nI N), (za_F O), (za_F W), pA, pB, (za_F LO), (za_F UA), UB, LA, (za_F KI), wt, EA, yB, (za_F DI), E, (za_F CA), (za_F CB), (za_F CT), lo, (za_F T), (za_F LN), re, yr, fo, fl, ele, els, eb, yl, se, pg, yo) (nI k) (nI c) := by
  subst hk
  subst hN
  have key : ∀ (R M : List Nat) (yr : Nat → Int32) (n : Nat), R.length < n → R.length + M.length = L2.length → za_h yr 0 (L1 ++ R.reverse) → za_h yr (L1.length + R.length + 1) M →
      (∀ yr', za_h yr' 0 (L1 ++ c :: (R.reverse ++ M)) → post ((nI cn), rs, (nI (L1.length + L2.length + 1)), (za_F O), (za_F W), pA, pB, (za_F LO), (za_F UA), UB, LA, (za_F KI), wt, EA, yB, (za_F DI), E, (za_F CA), (za_F CB), (za_F CT), lo, (za_F T), (za_F LN), re, yr', fo, fl, ele, els, eb, yl, se, pg, yo)) →
      wY_putIn_5 post (nI L1.length) (nI c) (nI cn) rs (nI (L1.length + L2.length)) n (nI (L1.length + R.length)) (za_F O) (za_F W) pA pB (za_F LO) (za_F UA) UB LA (za_F KI) wt EA yB (za_F DI) E (za_F CA) (za_F CB) (za_F CT) lo (za_F T) (za_F LN) re yr fo fl ele els eb yl se pg yo := by
    intro R
    induction R with
    | nil =>
      intro M yr n hn hM h1 h2 H
      obtain ⟨n, rfl⟩ : ∃ k, n = k + 1 := ⟨n - 1, by omega⟩
      refine pk_le (L1.length + 0) L1.length (fun _ => ⟨vp_in_nI (by omega) (by decide), ?_⟩) (fun h => by omega)
      refine nm_r (e' := upd yr (0 + L1.length) (nI c)) (by rw [nI_clamp (by omega), Nat.zero_add]) (nm_r (nI_1 _) (H _ ?_))
      rw [List.reverse_nil, List.append_nil] at h1
      rw [za_h_app]
      refine ⟨za_h_up h1 (by omega), pk_us, ?_⟩
      refine za_h_up ?_ (by omega)
      rw [Nat.zero_add]
      exact h2
    | cons x xs ih =>
      intro M yr n hn hM h1 h2 H
      rw [List.length_cons] at hn hM
      obtain ⟨n, rfl⟩ : ∃ k, n = k + 1 := ⟨n - 1, by omega⟩
      have el : (x :: xs).length = xs.length + 1 := rfl
      refine pk_le (L1.length + (x :: xs).length) L1.length (fun h => by omega) (fun _ => ?_)
      rw [List.reverse_cons, ← List.append_assoc, za_h_app] at h1
      have e1 : nI (L1.length + (x :: xs).length) - 1 = nI (L1.length + xs.length) := by rw [za_p1 (by omega)]; exact congrArg nI (by omega)
      have ex : yr (L1.length + xs.length) = nI x := by
        have := h1.2.1
        rw [List.length_append, List.length_reverse, Nat.zero_add] at this
        exact this
      refine ⟨by rw [e1]; exact vp_in_nI (by omega) (by decide), vp_in_nI (by omega) (by decide), ?_⟩
      refine nm_r (e' := upd yr (L1.length + xs.length + 1) (nI x)) (by rw [e1, nI_clamp (by omega), nI_clamp (by omega), ex]; rfl) ?_
      refine nm_r (e' := nI (L1.length + xs.length)) (by rw [za_q1 (by omega)]; exact congrArg nI (by omega)) ?_
      refine ih (x :: M) _ n (by omega) (by rw [List.length_cons]; omega) (za_h_up h1.1 (by rw [List.length_append, List.length_reverse]; omega)) ⟨pk_us, za_h_up h2 (by omega)⟩ (fun yr' g => H yr' ?_)
      rw [List.reverse_cons, List.append_assoc]
      exact g
  refine ⟨L2.length + 1, ?_⟩
  have := key L2.reverse [] yr (L2.length + 1) (by simp) (by simp) (by rw [List.reverse_reverse]; exact h) trivial (fun yr' g => H yr' (by rw [List.reverse_reverse, List.append_nil] at g; exact g))
  rw [List.length_reverse] at this
  exact this
theorem zy_takeOut {post : SY → Prop} {x k N : Nat} {L1 L2 : List Nat} (hk : L1.length = k) (hN : k + L2.length = N) (hl : N < 64) (h : za_h yr 0 (L1 ++ x :: L2))
    (H : ∀ yr', za_h yr' 0 (L1 ++ L2) → post ((nI cn), rs, (nI N), (za_F O), (za_F W), pA, pB, (za_F LO), (za_F UA), UB, LA, (za_F KI), wt, EA, yB, (za_F DI), E, (za_F CA), (za_F CB), (za_F CT), lo, (za_F T), (za_F LN), re, yr', fo, fl, ele, els, eb, yl, se, pg, yo)) : wpY_takeOut post ((nI cn), rs, (nI (N + 1)), (za_F O), (za_F W), pA, pB, (za_F LO), (za_F UA), UB, LA, (za_F KI), wt, EA, yB, (za_F DI), E, (za_F CA), (za_F CB), (za_F CT), lo, (za_F T), (za_F LN), re, yr, fo, fl, ele, els, eb, yl, se, pg, yo) (nI k) := by
  subst hk
  subst hN
  have key : ∀ (M P : List Nat) (yr : Nat → Int32) (n : Nat), M.length < n → P.length + M.length = L1.length + L2.length → za_h yr 0 P → za_h yr (P.length + 1) M →
      (∀ yr', za_h yr' 0 (P ++ M) → post ((nI cn), rs, (nI (L1.length + L2.length)), (za_F O), (za_F W), pA, pB, (za_F LO), (za_F UA), UB, LA, (za_F KI), wt, EA, yB, (za_F DI), E, (za_F CA), (za_F CB), (za_F CT), lo, (za_F T), (za_F LN), re, yr', fo, fl, ele, els, eb, yl, se, pg, yo)) →
      wY_takeOut_12 post (nI cn) rs (nI (L1.length + L2.length)) n (nI P.length) (za_F O) (za_F W) pA pB (za_F LO) (za_F UA) UB LA (za_F KI) wt EA yB (za_F DI) E (za_F CA) (za_F CB) (za_F CT) lo (za_F T) (za_F LN) re yr fo fl ele els eb yl se pg yo := by
    intro M
    induction M with
    | nil =>
      intro P yr n hn hM h1 h2 H
      rw [List.length_nil] at hM
      obtain ⟨n, rfl⟩ : ∃ k, n = k + 1 := ⟨n - 1, by omega⟩
      exact pk_le (L1.length + L2.length) P.length (fun _ => H yr (by rw [List.append_nil]; exact h1)) (fun h => by omega)
    | cons y ys ih =>
      intro P yr n hn hM h1 h2 H
      rw [List.length_cons] at hn hM
      obtain ⟨n, rfl⟩ : ∃ k, n = k + 1 := ⟨n - 1, by omega⟩
      refine pk_le (L1.length + L2.length) P.length (fun h => by omega) (fun _ => ?_)
      refine ⟨by rw [nI_1]; exact vp_in_nI (by omega) (by decide), vp_in_nI (by omega) (by decide), ?_⟩
      refine nm_r (e' := upd yr (0 + P.length) (nI y)) (by rw [nI_1, nI_clamp (by omega), nI_clamp (by omega), h2.1, Nat.zero_add]) ?_
      refine nm_r (e' := nI (P ++ [y]).length) (by rw [nI_1, List.length_append]; rfl) ?_
      refine ih (P ++ [y]) _ n (by omega) (by rw [List.length_append]; simp; omega) (za_h_snoc h1) ?_ (fun yr' g => H yr' ?_)
      · rw [List.length_append]
        exact za_h_up h2.2 (by omega)
      · rw [List.append_assoc] at g
        exact g
  rw [za_h_app] at h
  refine nm_r (e' := nI (L1.length + L2.length)) (nI_pred _) ⟨L2.length + 1, ?_⟩
  refine key L2 L1 yr _ (by omega) rfl h.1 ?_ H
  have := h.2.2
  rw [Nat.zero_add] at this
  exact this
/-- Y's decomposition -/
theorem zy_decompose {post : SY → Prop} {A B : Nat → Nat} {m : Nat} {L : List Nat} (hW : zd_W W A B) (hW2 : ∀ c, c < 48 → W c ≤ 2) (hA : ∀ c, c < 48 → W c ≠ 0 → pA c = nI (A c) ∧ pB c = nI (B c) - 1) (hm : m < 3)
    (hL : za_h yr 0 L) (hL2 : ∀ x ∈ L, x < 48) (hL3 : (zd_R W A B m L).length ≤ 64)
    (H : ∀ yr', za_h yr' 0 (zd_R W A B m L) → post ((nI cn), rs, (nI (zd_R W A B m L).length), (za_F O), (za_F W), pA, pB, (za_F LO), (za_F UA), UB, LA, (za_F KI), wt, EA, yB, (za_F DI), E, (za_F CA), (za_F CB), (za_F CT), lo, (za_F T), (za_F LN), re, yr', fo, fl, ele, els, eb, yl, se, pg, yo)) : wpY_decompose post ((nI cn), rs, (nI L.length), (za_F O), (za_F W), pA, pB, (za_F LO), (za_F UA), UB, LA, (za_F KI), wt, EA, yB, (za_F DI), E, (za_F CA), (za_F CB), (za_F CT), lo, (za_F T), (za_F LN), re, yr, fo, fl, ele, els, eb, yl, se, pg, yo) (nI m) := by
  have key : ∀ (n : Nat) (rest P : List Nat) (yr : Nat → Int32), zd_M rest < n → za_h yr 0 (P ++ rest) → P ++ zd_R W A B m rest = zd_R W A B m L → (∀ x ∈ rest, x < 48) →
      wY_decompose_2 post (nI m) n (nI P.length) (nI cn) rs (nI (P.length + rest.length)) (za_F O) (za_F W) pA pB (za_F LO) (za_F UA) UB LA (za_F KI) wt EA yB (za_F DI) E (za_F CA) (za_F CB) (za_F CT) lo (za_F T) (za_F LN) re yr fo fl ele els eb yl se pg yo := by
    intro n
    induction n with
    | zero => intro rest P yr hn; omega
    | succ n ih =>
      intro rest P yr hn h1 h2 h3
      cases rest with
      | nil =>
        rw [zd_R_nil, List.append_nil] at h2
        have e : P.length ≤ 64 := by rw [h2]; exact hL3
        rw [List.append_nil] at h1
        refine pk_le (P.length + 0) P.length (fun _ => ?_) (fun h => by omega)
        have hh := H yr (by rw [← h2]; exact h1)
        rw [← h2] at hh
        exact hh
      | cons c cs =>
        have hc : c < 48 := h3 c (by simp)
        have hwc := hW2 c hc
        have hlen : P.length + (zd_R W A B m (c :: cs)).length ≤ 64 := by rw [← List.length_append, h2]; exact hL3
        have hcs : (c :: cs).length ≤ (zd_R W A B m (c :: cs)).length := zd_R_len _
        rw [List.length_cons] at hcs
        have el : (c :: cs).length = cs.length + 1 := rfl
        have hh := (za_h_app yr P (c :: cs) 0).mp h1
        have hyc : yr (nI P.length).toNatClampNeg = nI c := by
          have := hh.2.1
          rw [Nat.zero_add] at this
          rw [nI_clamp (by omega)]; exact this
        have ec : (nI c).toNatClampNeg = c := nI_clamp (by omega)
        have hvc : vp_in (nI c) 48 := vp_in_nI hc (by decide)
        refine pk_le (P.length + (c :: cs).length) P.length (fun h => by omega) (fun _ => ⟨vp_in_nI (by omega) (by decide), ?_⟩)
        refine nm_r (e' := nI c) hyc ⟨hvc, ?_⟩
        have hskip : W c = 0 ∨ m < W c → wY_decompose_2 post (nI m) n (nI (P.length + 1)) (nI cn) rs (nI (P.length + (c :: cs).length)) (za_F O) (za_F W) pA pB (za_F LO) (za_F UA) UB LA (za_F KI) wt EA yB (za_F DI) E (za_F CA) (za_F CB) (za_F CT) lo (za_F T) (za_F LN) re yr fo fl ele els eb yl se pg yo := by
          intro hno
          have := ih cs (P ++ [c]) yr (Nat.lt_of_lt_of_le (zd_M1 (c := c)) (by omega)) (by rw [List.append_assoc]; exact h1) (by rw [← h2, zd_R_cons, zd_no hno, List.append_assoc]) (fun x hx => h3 x (by simp [hx]))
          rw [List.length_append, show ([c] : List Nat).length = 1 from rfl, show P.length + 1 + cs.length = P.length + (c :: cs).length by omega] at this
          exact this
        refine pk_eq (W c) 0 (fun w => ?_) (fun w => ⟨hvc, ?_⟩) (by rw [ec]; rfl) rfl
        · exact nm_r (nI_1 _) (hskip (Or.inl w))
        refine pk_le (W c) m (fun w2 => ⟨hvc, vp_in_nI (by omega) (by decide), ?_⟩) (fun w2 => ?_) (by rw [ec]; rfl) rfl
        · obtain ⟨a1, a2⟩ := hA c hc w
          have hw := hW c hc w
          have hy := zd_yes hW hc w w2
          refine nm_r (e' := upd yr (0 + P.length) (nI (A c))) (by rw [ec, a1, nI_clamp (by omega), Nat.zero_add]) ⟨hvc, ?_⟩
          have hset : za_h (upd yr (0 + P.length) (nI (A c))) 0 ((P ++ [A c]) ++ cs) := by
            rw [List.append_assoc, za_h_app]
            exact ⟨za_h_up hh.1 (by omega), pk_us, za_h_up hh.2.2 (by omega)⟩
          by_cases hb : B c = 0
          · refine br_t (by rw [ec, a2, hb]; decide) ?_
            have := ih (A c :: cs) P _ (Nat.lt_of_lt_of_le (zd_M2 hw.1) (by omega)) (by rw [List.append_assoc] at hset; exact hset) (by rw [← h2, zd_R_cons, zd_R_cons, hy, if_pos hb, List.append_nil]) (fun x hx => by
              rcases List.mem_cons.mp hx with e | e
              · omega
              · exact h3 x (by simp [e]))
            exact this
          · have eb : pB (nI c).toNatClampNeg = nI (B c - 1) := by rw [ec, a2, za_p1 (by omega)]
            refine br_f (by rw [eb]; exact nI_pos (by omega)) ⟨hvc, ?_⟩
            rw [eb, nI_1]
            have hR2 : P ++ zd_R W A B m (A c :: (B c - 1) :: cs) = zd_R W A B m L := by
              rw [← h2, zd_R_cons, zd_R_cons, zd_R_cons, hy, if_neg hb, List.append_assoc]
            have hl2 : P.length + (A c :: (B c - 1) :: cs).length ≤ 64 := by
              have q := zd_R_len (W := W) (A := A) (B := B) (m := m) (A c :: (B c - 1) :: cs)
              have q2 : P.length + (zd_R W A B m (A c :: (B c - 1) :: cs)).length ≤ 64 := by rw [← List.length_append, hR2]; exact hL3
              omega
            simp only [List.length_cons] at hl2
            refine zy_putIn (c := B c - 1) (L1 := P ++ [A c]) (L2 := cs) (by simp) (by rw [el]; omega) (by rw [el]; omega) hset (fun yr' g => ?_)
            have := ih (A c :: (B c - 1) :: cs) P yr' (Nat.lt_of_lt_of_le (zd_M3 hw.1 (by omega)) (by omega)) (by rw [List.append_assoc] at g; exact g) hR2 (fun x hx => by
              rcases List.mem_cons.mp hx with e | e
              · omega
              · rcases List.mem_cons.mp e with e | e
                · omega
                · exact h3 x (by simp [e]))
            exact this
        · exact nm_r (nI_1 _) (hskip (Or.inr w2))
  exact ⟨zd_M L + 1, by
    have := key (zd_M L + 1) L [] yr (by omega) hL rfl hL2
    rw [List.length_nil, Nat.zero_add] at this
    exact this⟩
/-- Y's passes -/
theorem zy_pass {post : SY → Prop} {J : Int32 → (Nat → Int32) → (Nat → Int32) → (Nat → Int32) → (Nat → Int32) → (Nat → Int32) → (Nat → Int32) → (Nat → Int32) → (Nat → Int32) → (Nat → Int32) → (Nat → Int32) → (Nat → Int32) → (Nat → Int32) → (Nat → Int32) → (Nat → Int32) → (Nat → Int32) → (Nat → Int32) → (Nat → Int32) → (Nat → Int32) → (Nat → Int32) → (Nat → Int32) → (Nat → Int32) → (Nat → Int32) → (Nat → Int32) → (Nat → Int32) → (Nat → Int32) → (Nat → Int32) → (Nat → Int32) → (Nat → Int32) → (Nat → Int32) → (Nat → Int32) → (Nat → Int32) → Prop} {N : Nat} (hO : ∀ x, x < 48 → O x < 10) (hN : N ≤ 64) :
    ∀ (ys P : List Nat) (x : Nat) (yr : Nat → Int32) (fg : Int32) (n : Nat), ys.length < n → P.length + 1 + ys.length = N → za_h yr 0 (P ++ x :: ys) → (∀ z ∈ x :: ys, z < 48) →
    (∀ yr', za_h yr' 0 (P ++ zo_p O x ys) → J (if zo_s O x ys = true then 1 else fg) (za_F O) (za_F W) pA pB (za_F LO) (za_F UA) UB LA (za_F KI) wt EA yB (za_F DI) E (za_F CA) (za_F CB) (za_F CT) lo (za_F T) (za_F LN) re yr' fo fl ele els eb yl se pg yo) →
    wY_order_10 post J (nI cn) rs (nI N) n fg (nI (P.length + 1)) (za_F O) (za_F W) pA pB (za_F LO) (za_F UA) UB LA (za_F KI) wt EA yB (za_F DI) E (za_F CA) (za_F CB) (za_F CT) lo (za_F T) (za_F LN) re yr fo fl ele els eb yl se pg yo := by
  intro ys
  induction ys with
  | nil =>
    intro P x yr fg n hn hN2 h1 h2 H
    rw [List.length_nil] at hN2
    obtain ⟨n, rfl⟩ : ∃ k, n = k + 1 := ⟨n - 1, by omega⟩
    exact pk_le N (P.length + 1) (fun _ => H yr h1) (fun h => by omega)
  | cons y ys ih =>
    intro P x yr fg n hn hN2 h1 h2 H
    rw [List.length_cons] at hn hN2
    obtain ⟨n, rfl⟩ : ∃ k, n = k + 1 := ⟨n - 1, by omega⟩
    have hx : x < 48 := h2 x (by simp)
    have hy : y < 48 := h2 y (by simp)
    have hOx := hO x hx
    have hOy := hO y hy
    have hh := (za_h_app yr P (x :: y :: ys) 0).mp h1
    have e1 : nI (P.length + 1) - 1 = nI P.length := nI_pred _
    have ex : yr (nI (P.length + 1) - 1).toNatClampNeg = nI x := by
      have := hh.2.1; rw [Nat.zero_add] at this
      rw [e1, nI_clamp (by omega)]; exact this
    have ey : yr (nI (P.length + 1)).toNatClampNeg = nI y := by
      have := hh.2.2.1; rw [Nat.zero_add] at this
      rw [nI_clamp (by omega)]; exact this
    have hv0 : vp_in (nI (P.length + 1) - 1) 64 := by rw [e1]; exact vp_in_nI (by omega) (by decide)
    have hv1 : vp_in (nI (P.length + 1)) 64 := vp_in_nI (by omega) (by decide)
    have hvx : vp_in (nI x) 48 := vp_in_nI hx (by decide)
    have hvy : vp_in (nI y) 48 := vp_in_nI hy (by decide)
    have ecx : za_F O (nI x).toNatClampNeg = nI (O x) := by rw [nI_clamp (by omega)]; rfl
    have ecy : za_F O (nI y).toNatClampNeg = nI (O y) := by rw [nI_clamp (by omega)]; rfl
    have hkeep : ¬ (O y < O x ∧ 0 < O y) → wY_order_10 post J (nI cn) rs (nI N) n fg (nI (P.length + 1 + 1)) (za_F O) (za_F W) pA pB (za_F LO) (za_F UA) UB LA (za_F KI) wt EA yB (za_F DI) E (za_F CA) (za_F CB) (za_F CT) lo (za_F T) (za_F LN) re yr fo fl ele els eb yl se pg yo := by
      intro g
      have := ih (P ++ [x]) y yr fg n (by omega) (by rw [List.length_append]; simp; omega) (by rw [List.append_assoc]; exact h1) (fun z hz => h2 z (List.mem_cons_of_mem _ hz)) (fun yr' k => by
        have hq := H yr' (by
          unfold zo_p; rw [if_neg g]
          rw [List.append_assoc] at k; exact k)
        unfold zo_s at hq; rw [if_neg g] at hq
        exact hq)
      rw [List.length_append] at this
      exact this
    refine pk_le N (P.length + 1) (fun h => by omega) (fun _ => ⟨hv0, nm_r ex ⟨hv1, nm_r ey ⟨hvx, hvy, ?_⟩⟩⟩)
    refine pk_le (O x) (O y) (fun g => nm_r (nI_1 _) (hkeep (by omega))) (fun g => ⟨hvy, ?_⟩) ecx ecy
    refine pk_le (O y) 0 (fun g0 => nm_r (nI_1 _) (hkeep (by omega))) (fun g0 => ⟨hv0, ?_⟩) ecy rfl
    refine nm_r (e' := upd yr P.length (nI y)) (by rw [e1, nI_clamp (by omega)]) ⟨hv1, ?_⟩
    refine nm_r (e' := upd (upd yr P.length (nI y)) (P.length + 1) (nI x)) (by rw [nI_clamp (by omega)]) (nm_r (nI_1 _) ?_)
    have := ih (P ++ [y]) x (upd (upd yr P.length (nI y)) (P.length + 1) (nI x)) 1 n (by omega) (by rw [List.length_append]; simp; omega) (by
      rw [List.append_assoc, za_h_app]
      have h3 := hh.2.2.2
      rw [Nat.zero_add] at h3 ⊢
      refine ⟨za_h_up (za_h_up hh.1 (by omega)) (by omega), ?_, ?_, ?_⟩
      · rw [pk_un (by omega), pk_us]
      · exact pk_us
      · exact za_h_up (za_h_up h3 (by omega)) (by omega)) (fun z hz => by
        rcases List.mem_cons.mp hz with e | e
        · omega
        · exact h2 z (by simp [e])) (fun yr' k => by
        have hq := H yr' (by
          unfold zo_p; rw [if_pos ⟨g, g0⟩]
          rw [List.append_assoc] at k; exact k)
        have hs1 : zo_s O x (y :: ys) = true := by unfold zo_s; rw [if_pos ⟨g, g0⟩]
        rw [if_pos hs1] at hq
        split
        · exact hq
        · exact hq)
    rw [List.length_append] at this
    exact this
theorem zy_order {post : SY → Prop} {L : List Nat} (hO : ∀ x, x < 48 → O x < 10) (hL : za_h yr 0 L) (hL2 : ∀ x ∈ L, x < 48) (hL3 : L.length ≤ 64)
    (H : ∀ yr', za_h yr' 0 (zo_f O [] L).reverse → post ((nI cn), rs, (nI L.length), (za_F O), (za_F W), pA, pB, (za_F LO), (za_F UA), UB, LA, (za_F KI), wt, EA, yB, (za_F DI), E, (za_F CA), (za_F CB), (za_F CT), lo, (za_F T), (za_F LN), re, yr', fo, fl, ele, els, eb, yl, se, pg, yo)) : wpY_order post ((nI cn), rs, (nI L.length), (za_F O), (za_F W), pA, pB, (za_F LO), (za_F UA), UB, LA, (za_F KI), wt, EA, yB, (za_F DI), E, (za_F CA), (za_F CB), (za_F CT), lo, (za_F T), (za_F LN), re, yr, fo, fl, ele, els, eb, yl, se, pg, yo) := by
  cases L with
  | nil =>
    refine ⟨2, br_f (by decide) ⟨1, ?_⟩⟩
    refine pk_le 0 1 (fun _ => ?_) (fun h => by omega)
    exact br_t rfl (H yr trivial)
  | cons x0 ys0 =>
    have key : ∀ (n x : Nat) (ys : List Nat) (yr : Nat → Int32), zo_m O 0 (x :: ys) + 1 < n → ys.length = ys0.length → za_h yr 0 (x :: ys) → (∀ z ∈ x :: ys, z < 48) → zo_f O [] (x :: ys) = zo_f O [] (x0 :: ys0) →
        wY_order_2 post (nI cn) rs (nI (x0 :: ys0).length) n 1 (za_F O) (za_F W) pA pB (za_F LO) (za_F UA) UB LA (za_F KI) wt EA yB (za_F DI) E (za_F CA) (za_F CB) (za_F CT) lo (za_F T) (za_F LN) re yr fo fl ele els eb yl se pg yo := by
      intro n
      induction n with
      | zero => intro x ys yr hn; omega
      | succ n ih =>
        intro x ys yr hn hl h1 h2 h3
        rw [List.length_cons] at hL3
        refine br_f (by decide) ⟨ys.length + 1, ?_⟩
        have hm := zo_p_m (O := O) (ys := ys) (x := x) (i := 0) (by have := hO x (h2 x (by simp)); omega) (fun z hz => by have := hO z (h2 z (by simp [hz])); omega)
        refine zy_pass (N := (x0 :: ys0).length) hO (by rw [List.length_cons]; omega) ys [] x yr 0 (ys.length + 1) (by omega) (by rw [List.length_cons, List.length_nil]; omega) h1 h2 (fun yr' k => ?_)
        rw [List.nil_append] at k
        cases hs : zo_s O x ys with
        | true =>
          have hlt := hm.2 hs
          have hnf := zo_p_nf O ys x []
          have hlen := zo_p_len O ys x
          cases hp : zo_p O x ys with
          | nil => rw [hp] at hlen; simp at hlen
          | cons x' ys' =>
            rw [hp] at hlt hnf hlen k
            rw [List.length_cons] at hlen
            rw [if_pos rfl]
            refine ih x' ys' yr' (by omega) (by omega) k (fun z hz => ?_) (hnf.trans h3)
            rw [← hp] at hz
            rcases zo_p_mem hz with e | e
            · rw [e]; exact h2 x (by simp)
            · exact h2 z (by simp [e])
        | false =>
          rw [if_neg (by decide)]
          have hid := zo_s_id hs
          have hnf := zo_s_nf (r := []) hs
          obtain ⟨n, rfl⟩ : ∃ k, n = k + 1 := ⟨n - 1, by omega⟩
          refine br_t rfl (H yr' ?_)
          rw [← h3]
          show za_h yr' 0 (zo_f O (x :: []) ys).reverse
          rw [hnf, List.reverse_append, List.reverse_reverse]
          rw [hid] at k
          exact k
    exact ⟨_, key _ x0 ys0 yr (Nat.lt_succ_self _) rfl hL hL2 rfl⟩
end
end
section
section
variable {cn : Nat} {rs nn : Int32} {O W LO UA KI F1 F2 F3 DI CA CB CT T LN : Nat → Nat} {E UB LA EA pA pB wt yB lo re yr fo fl ele els eb yl se pg yo : Nat → Int32}
theorem zy_composite {post : Int32 → Prop} {A B : Nat → Nat} {a b : Nat} (hW : zd_W W A B) (hW2 : ∀ c, c < 48 → W c ≤ 2) (hA : ∀ c, c < 48 → W c ≠ 0 → pA c = nI (A c) ∧ pB c = nI (B c) - 1) (ha : a < 48) (hb : b < 48)
    (H : post (nI (zc_o W A B E a b 48) - 1)) : wpY_composite post ((nI cn), rs, nn, (za_F O), (za_F W), pA, pB, (za_F LO), (za_F UA), UB, LA, (za_F KI), wt, EA, yB, (za_F DI), E, (za_F CA), (za_F CB), (za_F CT), lo, (za_F T), (za_F LN), re, yr, fo, fl, ele, els, eb, yl, se, pg, yo) (nI a) (nI b) := by
  have key : ∀ n c, 48 < n + c → c ≤ 48 → zc_o W A B E a b c = 0 → wY_composite_2 post (nI a) (nI b) (nI cn) rs nn (za_F O) (za_F W) pA pB (za_F LO) (za_F UA) UB LA (za_F KI) wt EA yB (za_F DI) E (za_F CA) (za_F CB) (za_F CT) lo (za_F T) (za_F LN) re yr fo fl ele els eb yl se pg yo n (nI c) := by
    intro n
    induction n with
    | zero => intro c h1 h2; omega
    | succ n ih =>
      intro c h1 h2 h3
      refine pk_le 48 c (fun h => ?_) (fun h => ?_)
      · have : c = 48 := by omega
        subst this
        rw [h3] at H; exact H
      · have hvc : vp_in (nI c) 48 := vp_in_nI h (by decide)
        have ec : (nI c).toNatClampNeg = c := nI_clamp (by omega)
        have hw2 := hW2 c h
        have hskip : ¬ (W c = 1 ∧ A c = a ∧ B c = b + 1 ∧ E c = 0) → wY_composite_2 post (nI a) (nI b) (nI cn) rs nn (za_F O) (za_F W) pA pB (za_F LO) (za_F UA) UB LA (za_F KI) wt EA yB (za_F DI) E (za_F CA) (za_F CB) (za_F CT) lo (za_F T) (za_F LN) re yr fo fl ele els eb yl se pg yo n (nI (c + 1)) := fun q => ih (c + 1) (by omega) (by omega) (by rw [zc_o_s q]; exact h3)
        refine ⟨hvc, pk_eq (W c) 1 (fun w => ⟨hvc, ?_⟩) (fun w => nm_r (nI_1 _) (hskip (by omega))) (by rw [ec]; rfl) rfl⟩
        obtain ⟨a1, a2⟩ := hA c h (by omega)
        have hw := hW c h (by omega)
        refine pk_eq (A c) a (fun w2 => ⟨hvc, ?_⟩) (fun w2 => nm_r (nI_1 _) (hskip (by omega))) (by rw [ec]; exact a1) rfl
        by_cases hB : B c = 0
        · refine br_f ?_ (nm_r (nI_1 _) (hskip (by omega)))
          rw [ec, a2, hB]
          intro e
          have := nI_pos (n := b) (by omega)
          rw [← e] at this
          exact this (by decide)
        · refine pk_eq (B c - 1) b (fun w3 => ⟨hvc, ?_⟩) (fun w3 => nm_r (nI_1 _) (hskip (by omega))) (by rw [ec, a2, za_p1 (by omega)]) rfl
          refine br_c (fun he => ?_) (fun he => nm_r (nI_1 _) (hskip (fun q => he (by rw [ec]; exact q.2.2.2))))
          rw [ec] at he
          have ef : zc_o W A B E a b (c + 1) = c + 1 := by rw [zc_o_t ⟨w, w2, by omega, he⟩, if_pos h3]
          rw [zc_o_st (n := c + 1) (by omega) 48 (by omega), ef, nI_pred] at H
          exact H
  exact ⟨49, key 49 0 (by omega) (by omega) rfl⟩
theorem zy_c102 {post : SY → Prop} {J : Int32 → Int32 → Int32 → Int32 → (Nat → Int32) → (Nat → Int32) → (Nat → Int32) → (Nat → Int32) → (Nat → Int32) → (Nat → Int32) → (Nat → Int32) → (Nat → Int32) → (Nat → Int32) → (Nat → Int32) → (Nat → Int32) → (Nat → Int32) → (Nat → Int32) → (Nat → Int32) → (Nat → Int32) → (Nat → Int32) → (Nat → Int32) → (Nat → Int32) → (Nat → Int32) → (Nat → Int32) → (Nat → Int32) → (Nat → Int32) → (Nat → Int32) → (Nat → Int32) → (Nat → Int32) → (Nat → Int32) → (Nat → Int32) → (Nat → Int32) → (Nat → Int32) → (Nat → Int32) → (Nat → Int32) → Prop} {s M x : Nat} {K rest : List Nat} (hl : K.length + rest.length < 64) (hM : M ≤ 48) (hs : s ≤ K.length) (hMs : M ≠ 0 → s ≠ 0) (h : za_h yr 0 (K ++ x :: rest))
    (H0 : M = 0 → J (nI (K.length + 1)) (nI cn) rs (nI (K.length + rest.length + 1)) (za_F O) (za_F W) pA pB (za_F LO) (za_F UA) UB LA (za_F KI) wt EA yB (za_F DI) E (za_F CA) (za_F CB) (za_F CT) lo (za_F T) (za_F LN) re yr fo fl ele els eb yl se pg yo)
    (H1 : M ≠ 0 → ∀ yr', za_h yr' 0 (K.set (s - 1) (M - 1) ++ rest) → J (nI K.length) (nI cn) rs (nI (K.length + rest.length)) (za_F O) (za_F W) pA pB (za_F LO) (za_F UA) UB LA (za_F KI) wt EA yB (za_F DI) E (za_F CA) (za_F CB) (za_F CT) lo (za_F T) (za_F LN) re yr' fo fl ele els eb yl se pg yo) :
    wY_compose_102 post J (nI K.length) (nI s - 1) (nI M - 1) (nI cn) rs (nI (K.length + rest.length + 1)) (za_F O) (za_F W) pA pB (za_F LO) (za_F UA) UB LA (za_F KI) wt EA yB (za_F DI) E (za_F CA) (za_F CB) (za_F CT) lo (za_F T) (za_F LN) re yr fo fl ele els eb yl se pg yo := by
  by_cases hM0 : M = 0
  · have e0 : (nI M - 1 : Int32) < 0 := by rw [hM0]; decide
    exact br_t e0 (nm_r (nI_1 _) (H0 hM0))
  · have hs0 := hMs hM0
    have e0 : ¬ (nI M - 1 : Int32) < 0 := by rw [za_p1 (by omega)]; exact nI_pos (by omega)
    have e1 : nI s - 1 = nI (s - 1) := za_p1 (by omega)
    refine br_f e0 ⟨by rw [e1]; exact vp_in_nI (by omega) (by decide), ?_⟩
    have hh := (za_h_app yr K (x :: rest) 0).mp h
    refine nm_r (e' := upd yr (0 + (s - 1)) (nI (M - 1))) (by rw [e1, nI_clamp (by omega), za_p1 (by omega), Nat.zero_add]) ?_
    have el : (K.set (s - 1) (M - 1)).length = K.length := List.length_set
    refine zy_takeOut (x := x) (L1 := K.set (s - 1) (M - 1)) (L2 := rest) el rfl hl ?_ (fun yr' g => H1 hM0 yr' g)
    rw [za_h_app]
    refine ⟨za_h_set hh.1 (by omega), ?_⟩
    rw [el]
    exact za_h_up hh.2 (by omega)
/-- Y looks for the starter -/
theorem zy_c24 {post : SY → Prop} {J : Int32 → Int32 → Int32 → Int32 → (Nat → Int32) → (Nat → Int32) → (Nat → Int32) → (Nat → Int32) → (Nat → Int32) → (Nat → Int32) → (Nat → Int32) → (Nat → Int32) → (Nat → Int32) → (Nat → Int32) → (Nat → Int32) → (Nat → Int32) → (Nat → Int32) → (Nat → Int32) → (Nat → Int32) → (Nat → Int32) → (Nat → Int32) → (Nat → Int32) → (Nat → Int32) → (Nat → Int32) → (Nat → Int32) → (Nat → Int32) → (Nat → Int32) → (Nat → Int32) → (Nat → Int32) → (Nat → Int32) → (Nat → Int32) → (Nat → Int32) → (Nat → Int32) → (Nat → Int32) → (Nat → Int32) → Prop} {A B : Nat → Nat} {x : Nat} {K rest : List Nat} (hW : zd_W W A B) (hW2 : ∀ c, c < 48 → W c ≤ 2) (hA : ∀ c, c < 48 → W c ≠ 0 → pA c = nI (A c) ∧ pB c = nI (B c) - 1)
    (hO : ∀ x, x < 48 → O x < 10) (hl : K.length + rest.length < 64) (hx : x < 48) (hK2 : ∀ z ∈ K, z < 48) (h : za_h yr 0 (K ++ x :: rest))
    (H0 : zc_m O (fun a b => zc_o W A B E a b 48) K x = 0 → J (nI (K.length + 1)) (nI cn) rs (nI (K.length + rest.length + 1)) (za_F O) (za_F W) pA pB (za_F LO) (za_F UA) UB LA (za_F KI) wt EA yB (za_F DI) E (za_F CA) (za_F CB) (za_F CT) lo (za_F T) (za_F LN) re yr fo fl ele els eb yl se pg yo)
    (H1 : zc_m O (fun a b => zc_o W A B E a b 48) K x ≠ 0 → ∀ yr', za_h yr' 0 (K.set (zc_l O K K.length - 1) (zc_m O (fun a b => zc_o W A B E a b 48) K x - 1) ++ rest) → J (nI K.length) (nI cn) rs (nI (K.length + rest.length)) (za_F O) (za_F W) pA pB (za_F LO) (za_F UA) UB LA (za_F KI) wt EA yB (za_F DI) E (za_F CA) (za_F CB) (za_F CT) lo (za_F T) (za_F LN) re yr' fo fl ele els eb yl se pg yo) :
    ∀ (n k : Nat) (fg : Int32), k < n → k ≤ K.length → zc_l O K K.length = zc_l O K k → fg = (if zc_r O K (O x) k K.length = true then 1 else 0) →
    wY_compose_24 post J (nI K.length) (nI x) (nI cn) rs (nI (K.length + rest.length + 1)) (za_F O) (za_F W) pA pB (za_F LO) (za_F UA) UB LA (za_F KI) wt EA yB (za_F DI) E (za_F CA) (za_F CB) (za_F CT) lo (za_F T) (za_F LN) re yr fo fl ele els eb yl se pg yo n (nI k - 1) fg := by
  have hh := (za_h_app yr K (x :: rest) 0).mp h
  have hOx := hO x hx
  have hll := zc_l_le O K K.length
  have hm48 : zc_m O (fun a b => zc_o W A B E a b 48) K x ≤ 48 := by
    unfold zc_m
    split
    · exact zc_o_le 48
    · omega
  have h78 : ∀ (s : Nat) (fg : Int32), zc_l O K K.length = s → fg = (if zc_r O K (O x) s K.length = true then 1 else 0) → wY_compose_78 post J (nI K.length) (nI s - 1) (nI x) fg (nI cn) rs (nI (K.length + rest.length + 1)) (za_F O) (za_F W) pA pB (za_F LO) (za_F UA) UB LA (za_F KI) wt EA yB (za_F DI) E (za_F CA) (za_F CB) (za_F CT) lo (za_F T) (za_F LN) re yr fo fl ele els eb yl se pg yo := by
    intro s fg hs hfg
    rw [hs] at hll
    have hz : zc_m O (fun a b => zc_o W A B E a b 48) K x = 0 → wY_compose_101 post J (nI K.length) (nI s - 1) (nI cn) rs (nI (K.length + rest.length + 1)) (za_F O) (za_F W) pA pB (za_F LO) (za_F UA) UB LA (za_F KI) wt EA yB (za_F DI) E (za_F CA) (za_F CB) (za_F CT) lo (za_F T) (za_F LN) re yr fo fl ele els eb yl se pg yo := by
      intro hM
      exact zy_c102 (M := 0) hl (by omega) hll (fun q => absurd rfl q) h (fun _ => H0 hM) (fun q => absurd rfl q)
    by_cases hs0 : s = 0
    · refine br_t (by rw [hs0]; decide) (hz ?_)
      unfold zc_m; rw [if_neg (by omega)]
    · have e1 : nI s - 1 = nI (s - 1) := za_p1 (by omega)
      refine br_f (by rw [e1]; exact nI_pos (by omega)) ?_
      by_cases hr : zc_r O K (O x) s K.length = true
      · rw [if_pos hr] at hfg
        refine br_f (by rw [hfg]; decide) ⟨by rw [e1]; exact vp_in_nI (by omega) (by decide), ?_⟩
        have hM : zc_m O (fun a b => zc_o W A B E a b 48) K x = zc_o W A B E (K.getD (s - 1) 0) x 48 := by
          unfold zc_m; rw [hs, if_pos ⟨hs0, hr⟩]
        have ey : yr (nI s - 1).toNatClampNeg = nI (K.getD (s - 1) 0) := by
          have := za_h_get yr K 0 (s - 1) hh.1 (by omega)
          rw [Nat.zero_add] at this
          rw [e1, nI_clamp (by omega)]; exact this
        rw [ey]
        refine zy_composite hW hW2 hA (hK2 _ (za_gm (by omega))) hx ?_
        rw [← hM]
        refine zy_c102 hl hm48 hll (fun _ => hs0) h H0 (fun q yr' g => H1 q yr' ?_)
        rw [hs]; exact g
      · rw [if_neg hr] at hfg
        refine br_t hfg (hz ?_)
        unfold zc_m; rw [hs, if_neg (fun q => hr q.2)]
  intro n
  induction n with
  | zero => intro k fg hn; omega
  | succ n ih =>
    intro k fg hn hk hs hfg
    cases k with
    | zero =>
      have e0 : (nI 0 - 1 : Int32) < 0 := by decide
      exact br_t e0 (h78 0 fg (by rw [hs]; rfl) hfg)
    | succ k =>
      have e1 : nI (k + 1) - 1 = nI k := nI_pred k
      have hy : K.getD k 0 < 48 := hK2 _ (za_gm (by omega))
      have hOy := hO _ hy
      have ey : yr (nI (k + 1) - 1).toNatClampNeg = nI (K.getD k 0) := by
        have := za_h_get yr K 0 k hh.1 (by omega)
        rw [Nat.zero_add] at this
        rw [e1, nI_clamp (by omega)]; exact this
      have hv1 : vp_in (nI (k + 1) - 1) 64 := by rw [e1]; exact vp_in_nI (by omega) (by decide)
      have hv2 : vp_in (yr (nI (k + 1) - 1).toNatClampNeg) 48 := by rw [ey]; exact vp_in_nI hy (by decide)
      have eO : za_F O (yr (nI (k + 1) - 1).toNatClampNeg).toNatClampNeg = nI (O (K.getD k 0)) := by rw [ey, nI_clamp (by omega)]; rfl
      have eOx : za_F O (nI x).toNatClampNeg = nI (O x) := by rw [nI_clamp (by omega)]; rfl
      refine br_f (by rw [e1]; exact nI_pos (by omega)) ⟨hv1, hv2, ?_⟩
      refine pk_eq (O (K.getD k 0)) 0 (fun g => ?_) (fun g => ⟨hv1, hv2, vp_in_nI hx (by decide), ?_⟩) eO rfl
      · refine h78 (k + 1) fg ?_ hfg
        rw [hs]; unfold zc_l; rw [if_pos g]
      · have hs' : zc_l O K K.length = zc_l O K k := by
          rw [hs]
          conv => lhs; unfold zc_l
          rw [if_neg g]
        have hq1 : nI (k + 1) - 1 + (-1) = nI k - 1 := by rw [e1, Int32.sub_eq_add_neg]
        refine pk_le (O x) (O (K.getD k 0)) (fun g2 => ?_) (fun g2 => ?_) eOx eO
        · refine nm_r (e' := 0) (by rw [hfg]; split <;> decide) (nm_r hq1 (ih k 0 (by omega) (by omega) hs' ?_))
          rw [if_neg]
          rw [zc_r_iff]
          intro q
          have := q k (Nat.le_refl _) (by omega); omega
        · refine nm_r (e' := fg) (by rw [hfg]; split <;> decide) (nm_r hq1 (ih k fg (by omega) (by omega) hs' ?_))
          rw [hfg]
          have : zc_r O K (O x) (k + 1) K.length = zc_r O K (O x) k K.length := by
            rw [Bool.eq_iff_iff, zc_r_iff, zc_r_iff]
            constructor
            · intro q i h1 h2
              by_cases e : i = k
              · rw [e]; exact g2
              · exact q i (by omega) h2
            · intro q i h1 h2
              exact q i (by omega) h2
          rw [this]
theorem zy_compose {post : SY → Prop} {A B : Nat → Nat} {L : List Nat} (hW : zd_W W A B) (hW2 : ∀ c, c < 48 → W c ≤ 2) (hA : ∀ c, c < 48 → W c ≠ 0 → pA c = nI (A c) ∧ pB c = nI (B c) - 1)
    (hO : ∀ x, x < 48 → O x < 10) (hL : za_h yr 0 L) (hL2 : ∀ x ∈ L, x < 48) (hL3 : L.length ≤ 64)
    (H : ∀ yr', za_h yr' 0 (zc_c O (fun a b => zc_o W A B E a b 48) L) → post ((nI cn), rs, (nI (zc_c O (fun a b => zc_o W A B E a b 48) L).length), (za_F O), (za_F W), pA, pB, (za_F LO), (za_F UA), UB, LA, (za_F KI), wt, EA, yB, (za_F DI), E, (za_F CA), (za_F CB), (za_F CT), lo, (za_F T), (za_F LN), re, yr', fo, fl, ele, els, eb, yl, se, pg, yo)) : wpY_compose post ((nI cn), rs, (nI L.length), (za_F O), (za_F W), pA, pB, (za_F LO), (za_F UA), UB, LA, (za_F KI), wt, EA, yB, (za_F DI), E, (za_F CA), (za_F CB), (za_F CT), lo, (za_F T), (za_F LN), re, yr, fo, fl, ele, els, eb, yl, se, pg, yo) := by
  have key : ∀ (rest K : List Nat) (yr : Nat → Int32) (n : Nat), rest.length < n → 0 < K.length → K.length + rest.length ≤ 64 → za_h yr 0 (K ++ rest) → (∀ z ∈ K, z < 48) → (∀ z ∈ rest, z < 48) →
      (∀ yr', za_h yr' 0 (zc_f O (fun a b => zc_o W A B E a b 48) K rest) → post ((nI cn), rs, (nI (zc_f O (fun a b => zc_o W A B E a b 48) K rest).length), (za_F O), (za_F W), pA, pB, (za_F LO), (za_F UA), UB, LA, (za_F KI), wt, EA, yB, (za_F DI), E, (za_F CA), (za_F CB), (za_F CT), lo, (za_F T), (za_F LN), re, yr', fo, fl, ele, els, eb, yl, se, pg, yo)) →
      wY_compose_2 post n (nI K.length) (nI cn) rs (nI (K.length + rest.length)) (za_F O) (za_F W) pA pB (za_F LO) (za_F UA) UB LA (za_F KI) wt EA yB (za_F DI) E (za_F CA) (za_F CB) (za_F CT) lo (za_F T) (za_F LN) re yr fo fl ele els eb yl se pg yo := by
    intro rest
    induction rest with
    | nil =>
      intro K yr n hn h0 hl h1 h2 h3 H
      rw [List.length_nil] at hl
      obtain ⟨n, rfl⟩ : ∃ k, n = k + 1 := ⟨n - 1, by omega⟩
      refine pk_le (K.length + 0) K.length (fun _ => ?_) (fun h => by omega)
      exact H yr (by rw [List.append_nil] at h1; exact h1)
    | cons x xs ih =>
      intro K yr n hn h0 hl h1 h2 h3 H
      rw [List.length_cons] at hn hl
      obtain ⟨n, rfl⟩ : ∃ k, n = k + 1 := ⟨n - 1, by omega⟩
      have hx : x < 48 := h3 x (by simp)
      have hx3 : ∀ z ∈ xs, z < 48 := fun z hz => h3 z (by simp [hz])
      have hh := (za_h_app yr K (x :: xs) 0).mp h1
      have el : (x :: xs).length = xs.length + 1 := rfl
      refine pk_le (K.length + (x :: xs).length) K.length (fun h => by omega) (fun _ => ?_)
      refine nm_e ⟨vp_in_nI (by omega) (by decide), ?_⟩
      refine nm_r (e' := nI x) (by rw [nI_clamp (by omega)]; have := hh.2.1; rw [Nat.zero_add] at this; exact this) ⟨K.length + 1, ?_⟩
      refine zy_c24 hW hW2 hA hO (by omega) hx h2 h1 (fun hM => ?_) (fun hM yr' g => ?_) (K.length + 1) K.length 1 (by omega) (Nat.le_refl _) rfl ?_
      · have et : zc_t O (fun a b => zc_o W A B E a b 48) K x = K ++ [x] := by unfold zc_t; rw [if_pos hM]
        have := ih (K ++ [x]) yr n (by omega) (by simp) (by simp; omega) (by rw [List.append_assoc]; exact h1) (fun z hz => by
          rcases List.mem_append.mp hz with e | e
          · exact h2 z e
          · simp at e; omega) hx3 (fun yr' k => by
            have q := H yr'
            rw [zc_f, et] at q
            exact q k)
        rw [show (K ++ [x]).length = K.length + 1 by simp, show K.length + 1 + xs.length = K.length + xs.length + 1 by omega] at this
        exact this
      · have et : zc_t O (fun a b => zc_o W A B E a b 48) K x = K.set (zc_l O K K.length - 1) (zc_m O (fun a b => zc_o W A B E a b 48) K x - 1) := by unfold zc_t; rw [if_neg hM]
        have el2 : (K.set (zc_l O K K.length - 1) (zc_m O (fun a b => zc_o W A B E a b 48) K x - 1)).length = K.length := List.length_set
        have := ih (K.set (zc_l O K K.length - 1) (zc_m O (fun a b => zc_o W A B E a b 48) K x - 1)) yr' n (by omega) (by rw [el2]; exact h0) (by rw [el2]; omega) g (fun z hz => by
          rw [← et] at hz
          exact zc_t_lt (fun a b => zc_o_le 48) h2 hx z hz) hx3 (fun yr' k => by
            have q := H yr'
            rw [zc_f, et] at q
            exact q k)
        rw [el2] at this
        exact this
      · rw [if_pos]
        rw [zc_r_iff]
        intro i g1 g2; omega
  cases L with
  | nil =>
    refine ⟨1, pk_le 0 1 (fun _ => H yr trivial) (fun h => by omega)⟩
  | cons x xs =>
    rw [List.length_cons] at hL3
    have := key xs [x] yr (xs.length + 1) (by omega) (by simp) (by simp; omega) hL (fun z hz => hL2 z (by simp at hz; simp [hz])) (fun z hz => hL2 z (by simp [hz])) H
    refine ⟨xs.length + 1, ?_⟩
    rw [show ([x] : List Nat).length + xs.length = (x :: xs).length by simp; omega] at this
    exact this
end
end
section
section
variable {cn : Nat} {rs nn : Int32} {O W LO UA KI F1 F2 F3 DI CA CB CT T LN : Nat → Nat} {E UB LA EA pA pB wt yB lo re yr fo fl ele els eb yl se pg yo : Nat → Int32}
theorem zy_normalize {post : SY → Prop} {A B : Nat → Nat} {f : Nat} {S : List Nat} (hf : f < 4) (hO : ∀ x, x < 48 → O x < 10) (hW : zd_W W A B) (hG : zd_G W A B) (hW2 : ∀ c, c < 48 → W c ≤ 2) (hA : ∀ c, c < 48 → W c ≠ 0 → pA c = nI (A c) ∧ pB c = nI (B c) - 1)
    (hS : za_h yr 0 S) (hS2 : ∀ x ∈ S, x < 48) (hS3 : S.length ≤ 16)
    (H : ∀ yr', za_h yr' 0 (zn_n O W A B E f S) → post ((nI cn), rs, (nI (zn_n O W A B E f S).length), (za_F O), (za_F W), pA, pB, (za_F LO), (za_F UA), UB, LA, (za_F KI), wt, EA, yB, (za_F DI), E, (za_F CA), (za_F CB), (za_F CT), lo, (za_F T), (za_F LN), re, yr', fo, fl, ele, els, eb, yl, se, pg, yo)) : wpY_normalize post ((nI cn), rs, (nI S.length), (za_F O), (za_F W), pA, pB, (za_F LO), (za_F UA), UB, LA, (za_F KI), wt, EA, yB, (za_F DI), E, (za_F CA), (za_F CB), (za_F CT), lo, (za_F T), (za_F LN), re, yr, fo, fl, ele, els, eb, yl, se, pg, yo) (nI f) := by
  have key : ∀ (m : Nat), m = (if f ≤ 1 then 1 else 2) → wY_normalize_11 post (nI f) (nI m) (nI cn) rs (nI S.length) (za_F O) (za_F W) pA pB (za_F LO) (za_F UA) UB LA (za_F KI) wt EA yB (za_F DI) E (za_F CA) (za_F CB) (za_F CT) lo (za_F T) (za_F LN) re yr fo fl ele els eb yl se pg yo := by
    intro m hm
    have hm2 := zn_m f
    rw [← hm] at hm2
    have hle := zn_f_le (O := O) hG hm2 hS2 hS3
    rw [zn_f_len] at hle
    have hlt := zd_R_lt (m := m) hW hS2
    refine zy_decompose hW hW2 hA (by omega) hS hS2 hle (fun yr1 g1 => ?_)
    refine zy_order hO g1 hlt hle (fun yr2 g2 => ⟨by decide, ?_⟩)
    have eln : (zd_R W A B m S).length = (zn_f O W A B m S).length := zn_f_len.symm
    rw [eln]
    refine pk_eq (f % 2) 1 (fun e => ?_) (fun e => ?_) (pk_rem (d := 2) (by omega) (by omega) (by omega)) rfl
    · refine zy_compose hW hW2 hA hO g2 (zn_f_lt hW hS2) (by rw [zn_f_len]; exact hle) (fun yr3 g3 => ?_)
      have := H yr3
      unfold zn_n at this
      rw [if_pos e, ← hm] at this
      exact this g3
    · have := H yr2
      unfold zn_n at this
      rw [if_neg e, ← hm] at this
      exact this g2
  refine pk_le 2 f (fun h => ?_) (fun h => ?_)
  · exact key 2 (by rw [if_neg (by omega)])
  · exact key 1 (by rw [if_pos (by omega)])
theorem zy_give {post : Int32 → SY → Prop} {L : List Nat} (hL : za_h yr 0 L) (hl : L.length ≤ 64)
    (H : ∀ re', za_h re' 0 L → post (nI L.length) ((nI cn), (nI L.length), (nI L.length), (za_F O), (za_F W), pA, pB, (za_F LO), (za_F UA), UB, LA, (za_F KI), wt, EA, yB, (za_F DI), E, (za_F CA), (za_F CB), (za_F CT), lo, (za_F T), (za_F LN), re', yr, fo, fl, ele, els, eb, yl, se, pg, yo)) : wpY_give post ((nI cn), rs, (nI L.length), (za_F O), (za_F W), pA, pB, (za_F LO), (za_F UA), UB, LA, (za_F KI), wt, EA, yB, (za_F DI), E, (za_F CA), (za_F CB), (za_F CT), lo, (za_F T), (za_F LN), re, yr, fo, fl, ele, els, eb, yl, se, pg, yo) := by
  have key : ∀ (rest P : List Nat) (re : Nat → Int32) (n : Nat), rest.length < n → L = P ++ rest → za_h re 0 P → wY_give_10 post (nI cn) (nI L.length) (nI L.length) n (nI P.length) (za_F O) (za_F W) pA pB (za_F LO) (za_F UA) UB LA (za_F KI) wt EA yB (za_F DI) E (za_F CA) (za_F CB) (za_F CT) lo (za_F T) (za_F LN) re yr fo fl ele els eb yl se pg yo := by
    intro rest
    induction rest with
    | nil =>
      intro P re n hn hp h1
      obtain ⟨n, rfl⟩ : ∃ k, n = k + 1 := ⟨n - 1, by omega⟩
      rw [List.append_nil] at hp
      refine pk_le L.length P.length (fun _ => H re (by rw [hp]; exact h1)) (fun h => by rw [hp] at h; omega) rfl rfl (by omega) (by rw [← hp]; omega)
    | cons x xs ih =>
      intro P re n hn hp h1
      rw [List.length_cons] at hn
      obtain ⟨n, rfl⟩ : ∃ k, n = k + 1 := ⟨n - 1, by omega⟩
      have hl2 : L.length = P.length + xs.length + 1 := by rw [hp, List.length_append, List.length_cons]; omega
      have ex : yr (nI P.length).toNatClampNeg = nI x := by
        rw [nI_clamp (by omega)]
        rw [hp, za_h_app] at hL
        have := hL.2.1; rw [Nat.zero_add] at this; exact this
      refine pk_le L.length P.length (fun h => by omega) (fun _ => ⟨vp_in_nI (by omega) (by decide), vp_in_nI (by omega) (by decide), ?_⟩)
      refine nm_r (e' := upd re (0 + P.length) (nI x)) (by rw [ex, nI_clamp (by omega), Nat.zero_add]) ?_
      refine nm_r (e' := nI (P ++ [x]).length) (by rw [nI_1, List.length_append]; rfl) ?_
      exact ih (P ++ [x]) _ n (by omega) (by rw [hp, List.append_assoc]; rfl) (za_h_snoc h1)
  exact ⟨L.length + 1, key L [] re _ (by omega) rfl trivial⟩
end
end
section
/-! the relation -/
def zr_D (O W LO UA KI F1 F2 F3 DI : Nat → Nat) (E UB LA : Nat → Int32) : Prop :=
  ∀ c, c < 48 → (O c < 10 ∧ W c ≤ 2 ∧ LO c < 48 ∧ UA c < 48 ∧ KI c < 8) ∧ (F1 c < 100 ∧ F2 c < 10 ∧ F3 c < 10 ∧ DI c < 7) ∧ (E c = 0 ∨ E c = 1) ∧ za_o (UB c) ∧ za_o (LA c)
def zr_C (cn : Nat) (CA CB CT : Nat → Nat) : Prop := cn ≤ 6 ∧ ∀ j, j < 6 → CA j < 48 ∧ CB j < 48 ∧ CT j < 48
def zr_A (W A B : Nat → Nat) (dA dB pA pB : Nat → Int32) : Prop := ∀ c, c < 48 → W c ≠ 0 → (dA c = nI (A c) ∧ dB c = nI (B c) - 1) ∧ pA c = nI (A c) ∧ pB c = nI (B c) - 1
def zr_E (EA eB yB : Nat → Int32) : Prop := ∀ c, c < 48 → EA c = -1 ∨ ∃ x y, x < 48 ∧ y < 48 ∧ EA c = nI x ∧ eB c = nI y ∧ yB c = nI y
def zr_W (wt : Nat → Int32) (F1 F2 F3 : Nat → Nat) : Prop := ∀ c, c < 48 → wt (3 * c) = nI (F1 c) ∧ wt (3 * c + 1) = nI (F2 c) ∧ wt (3 * c + 2) = nI (F3 c)
def zr_T (T LN : Nat → Nat) : Prop := (∀ j, j < 32 → T j < 48) ∧ ∀ j, j < 2 → LN j ≤ 16
def zr_X (W A B : Nat → Nat) (E fu fz pr wh : Nat → Int32) : Prop := zx_tb W A B fu fz 48 ∧ zh_T pr wh 48 (fun a b => zc_o W A B E a b 48)
def zr_R (R : List Nat) (ro sz re : Nat → Int32) (rs : Int32) : Prop := zx_row ro sz 2 R ∧ za_h re 0 R ∧ rs = nI R.length ∧ R.length ≤ 64 ∧ ∀ x ∈ R, x < 48
def zr_St (cn : Nat) (O W LO UA KI F1 F2 F3 DI CA CB CT T LN : Nat → Nat) (E UB LA EA dA dB eB fu fz pr wh pA pB wt yB : Nat → Int32) (A B : Nat → Nat) : Prop :=
  zr_D O W LO UA KI F1 F2 F3 DI E UB LA ∧ zr_C cn CA CB CT ∧ zr_A W A B dA dB pA pB ∧ zd_W W A B ∧ zd_G W A B ∧ zr_X W A B E fu fz pr wh ∧ zr_E EA eB yB ∧ zr_W wt F1 F2 F3 ∧ zr_T T LN
def i_Rel (k : Nat) (u : SX) (v : SY) : Prop :=
  ∃ (cn : Nat) (A B : Nat → Nat) (R : List Nat) (rg rs nn : Int32) (O W LO UA KI F1 F2 F3 DI CA CB CT T LN : Nat → Nat) (E UB LA EA dA dB eB fu fz pr wh ro sz em hg lv bh rl rr rv ou nx sl pA pB wt yB lo re yr fo fl ele els eb yl se pg yo : Nat → Int32),
    (u = ((nI cn), rg, (za_F O), (za_F W), dA, dB, E, (za_F LO), (za_F UA), UB, LA, (za_F KI), (za_F F1), (za_F F2), (za_F F3), (za_F DI), EA, eB, (za_F CA), (za_F CB), (za_F CT), fu, fz, pr, wh, (za_F T), (za_F LN), ro, sz, em, hg, lv, bh, rl, rr, rv, ou, nx, sl) ∧ v = ((nI cn), rs, nn, (za_F O), (za_F W), pA, pB, (za_F LO), (za_F UA), UB, LA, (za_F KI), wt, EA, yB, (za_F DI), E, (za_F CA), (za_F CB), (za_F CT), lo, (za_F T), (za_F LN), re, yr, fo, fl, ele, els, eb, yl, se, pg, yo)) ∧ zr_St cn O W LO UA KI F1 F2 F3 DI CA CB CT T LN E UB LA EA dA dB eB fu fz pr wh pA pB wt yB A B ∧ zr_R R ro sz re rs
theorem i_up {k : Nat} {u : SX} {v : SY} (h : i_Rel k u v) : i_Rel (k + 5) u v := h
theorem zr_el {k : Nat} {u : SX} {v : SY} {P : SX → SY → Prop} (h : ∀ {cn : Nat} {A B : Nat → Nat} {R : List Nat} {rg rs nn : Int32} {O W LO UA KI F1 F2 F3 DI CA CB CT T LN : Nat → Nat} {E UB LA EA dA dB eB fu fz pr wh ro sz em hg lv bh rl rr rv ou nx sl pA pB wt yB lo re yr fo fl ele els eb yl se pg yo : Nat → Int32}, zr_St cn O W LO UA KI F1 F2 F3 DI CA CB CT T LN E UB LA EA dA dB eB fu fz pr wh pA pB wt yB A B → zr_R R ro sz re rs → P ((nI cn), rg, (za_F O), (za_F W), dA, dB, E, (za_F LO), (za_F UA), UB, LA, (za_F KI), (za_F F1), (za_F F2), (za_F F3), (za_F DI), EA, eB, (za_F CA), (za_F CB), (za_F CT), fu, fz, pr, wh, (za_F T), (za_F LN), ro, sz, em, hg, lv, bh, rl, rr, rv, ou, nx, sl) ((nI cn), rs, nn, (za_F O), (za_F W), pA, pB, (za_F LO), (za_F UA), UB, LA, (za_F KI), wt, EA, yB, (za_F DI), E, (za_F CA), (za_F CB), (za_F CT), lo, (za_F T), (za_F LN), re, yr, fo, fl, ele, els, eb, yl, se, pg, yo)) (I : i_Rel k u v) : P u v := by
  obtain ⟨cn, A, B, R, rg, rs, nn, I⟩ := I
  obtain ⟨O, W, LO, UA, KI, F1, F2, I⟩ := I
  obtain ⟨F3, DI, CA, CB, CT, T, LN, I⟩ := I
  obtain ⟨E, UB, LA, EA, dA, dB, eB, I⟩ := I
  obtain ⟨fu, fz, pr, wh, ro, sz, em, I⟩ := I
  obtain ⟨hg, lv, bh, rl, rr, rv, ou, I⟩ := I
  obtain ⟨nx, sl, pA, pB, wt, yB, lo, I⟩ := I
  obtain ⟨re, yr, fo, fl, ele, els, eb, I⟩ := I
  obtain ⟨yl, se, pg, yo, ⟨e1, e2⟩, h1, h2⟩ := I
  rw [e1, e2]
  exact h h1 h2
section
variable {cn : Nat} {rg rs nn : Int32} {O W LO UA KI F1 F2 F3 DI CA CB CT T LN : Nat → Nat} {E UB LA EA dA dB eB fu fz pr wh ro sz em hg lv bh rl rr rv ou nx sl pA pB wt yB lo re yr fo fl ele els eb yl se pg yo : Nat → Int32}
variable {A B : Nat → Nat} {R : List Nat} {k : Nat}
theorem zr_in (h : zr_St cn O W LO UA KI F1 F2 F3 DI CA CB CT T LN E UB LA EA dA dB eB fu fz pr wh pA pB wt yB A B) (g : zr_R R ro sz re rs) : i_Rel k ((nI cn), rg, (za_F O), (za_F W), dA, dB, E, (za_F LO), (za_F UA), UB, LA, (za_F KI), (za_F F1), (za_F F2), (za_F F3), (za_F DI), EA, eB, (za_F CA), (za_F CB), (za_F CT), fu, fz, pr, wh, (za_F T), (za_F LN), ro, sz, em, hg, lv, bh, rl, rr, rv, ou, nx, sl) ((nI cn), rs, nn, (za_F O), (za_F W), pA, pB, (za_F LO), (za_F UA), UB, LA, (za_F KI), wt, EA, yB, (za_F DI), E, (za_F CA), (za_F CB), (za_F CT), lo, (za_F T), (za_F LN), re, yr, fo, fl, ele, els, eb, yl, se, pg, yo) :=
  ⟨cn, A, B, R, rg, rs, nn, O, W, LO, UA, KI, F1, F2, F3, DI, CA, CB, CT, T, LN, E, UB, LA, EA, dA, dB, eB, fu, fz, pr, wh, ro, sz, em, hg, lv, bh, rl, rr, rv, ou, nx, sl, pA, pB, wt, yB, lo, re, yr, fo, fl, ele, els, eb, yl, se, pg, yo, ⟨rfl, rfl⟩, h, g⟩
theorem zr_O (h : zr_St cn O W LO UA KI F1 F2 F3 DI CA CB CT T LN E UB LA EA dA dB eB fu fz pr wh pA pB wt yB A B) : ∀ x, x < 48 → O x < 10 := fun x hx => (h.1 x hx).1.1
theorem zr_W2 (h : zr_St cn O W LO UA KI F1 F2 F3 DI CA CB CT T LN E UB LA EA dA dB eB fu fz pr wh pA pB wt yB A B) : ∀ x, x < 48 → W x ≤ 2 := fun x hx => (h.1 x hx).1.2.1
theorem zr_LO (h : zr_St cn O W LO UA KI F1 F2 F3 DI CA CB CT T LN E UB LA EA dA dB eB fu fz pr wh pA pB wt yB A B) : ∀ x, x < 48 → LO x < 48 := fun x hx => (h.1 x hx).1.2.2.1
theorem zr_UA (h : zr_St cn O W LO UA KI F1 F2 F3 DI CA CB CT T LN E UB LA EA dA dB eB fu fz pr wh pA pB wt yB A B) : ∀ x, x < 48 → UA x < 48 := fun x hx => (h.1 x hx).1.2.2.2.1
theorem zr_KI (h : zr_St cn O W LO UA KI F1 F2 F3 DI CA CB CT T LN E UB LA EA dA dB eB fu fz pr wh pA pB wt yB A B) : ∀ x, x < 48 → KI x < 8 := fun x hx => (h.1 x hx).1.2.2.2.2
theorem zr_DI (h : zr_St cn O W LO UA KI F1 F2 F3 DI CA CB CT T LN E UB LA EA dA dB eB fu fz pr wh pA pB wt yB A B) : ∀ x, x < 48 → DI x < 7 := fun x hx => (h.1 x hx).2.1.2.2.2
theorem zr_UB (h : zr_St cn O W LO UA KI F1 F2 F3 DI CA CB CT T LN E UB LA EA dA dB eB fu fz pr wh pA pB wt yB A B) : ∀ x, x < 48 → za_o (UB x) := fun x hx => (h.1 x hx).2.2.2.1
theorem zr_LA (h : zr_St cn O W LO UA KI F1 F2 F3 DI CA CB CT T LN E UB LA EA dA dB eB fu fz pr wh pA pB wt yB A B) : ∀ x, x < 48 → za_o (LA x) := fun x hx => (h.1 x hx).2.2.2.2
theorem zr_Tx (h : zr_St cn O W LO UA KI F1 F2 F3 DI CA CB CT T LN E UB LA EA dA dB eB fu fz pr wh pA pB wt yB A B) : ∀ j, j < 32 → T j < 48 := h.2.2.2.2.2.2.2.2.1
theorem zr_LN (h : zr_St cn O W LO UA KI F1 F2 F3 DI CA CB CT T LN E UB LA EA dA dB eB fu fz pr wh pA pB wt yB A B) : ∀ j, j < 2 → LN j ≤ 16 := h.2.2.2.2.2.2.2.2.2
theorem zr_dA (h : zr_St cn O W LO UA KI F1 F2 F3 DI CA CB CT T LN E UB LA EA dA dB eB fu fz pr wh pA pB wt yB A B) : ∀ c, c < 48 → W c ≠ 0 → dA c = nI (A c) ∧ dB c = nI (B c) - 1 := fun c hc w => (h.2.2.1 c hc w).1
theorem zr_pA (h : zr_St cn O W LO UA KI F1 F2 F3 DI CA CB CT T LN E UB LA EA dA dB eB fu fz pr wh pA pB wt yB A B) : ∀ c, c < 48 → W c ≠ 0 → pA c = nI (A c) ∧ pB c = nI (B c) - 1 := fun c hc w => (h.2.2.1 c hc w).2
theorem zr_dW (h : zr_St cn O W LO UA KI F1 F2 F3 DI CA CB CT T LN E UB LA EA dA dB eB fu fz pr wh pA pB wt yB A B) : zd_W W A B := h.2.2.2.1
theorem zr_dG (h : zr_St cn O W LO UA KI F1 F2 F3 DI CA CB CT T LN E UB LA EA dA dB eB fu fz pr wh pA pB wt yB A B) : zd_G W A B := h.2.2.2.2.1
theorem zr_tb (h : zr_St cn O W LO UA KI F1 F2 F3 DI CA CB CT T LN E UB LA EA dA dB eB fu fz pr wh pA pB wt yB A B) : zx_tb W A B fu fz 48 := h.2.2.2.2.2.1.1
theorem zr_hT (h : zr_St cn O W LO UA KI F1 F2 F3 DI CA CB CT T LN E UB LA EA dA dB eB fu fz pr wh pA pB wt yB A B) : zh_T pr wh 48 (fun a b => zc_o W A B E a b 48) := h.2.2.2.2.2.1.2
theorem zr_R3 {r : Nat} {ro' sz' : Nat → Int32} (hr : r ≠ 2) (h : zx_rf r ro ro' sz sz') (g : zr_R R ro sz re rs) : zr_R R ro' sz' re rs :=
  ⟨zx_row_k h (Ne.symm hr) g.2.2.2.1 g.1, g.2⟩
theorem zr_tx (x : Int32) : (x = 0 ∨ x = 1) ∨ (¬ x = 0 ∧ ¬ x = 1) := by
  by_cases h0 : x = 0
  · exact Or.inl (Or.inl h0)
  · by_cases h1 : x = 1
    · exact Or.inl (Or.inr h1)
    · exact Or.inr ⟨h0, h1⟩
theorem zx_isText_t {post : Int32 → Prop} {t : Nat} (ht : t < 2) (H : post 1) : wpX_isText post (nI t) := by
  rcases Nat.lt_or_ge t 1 with h | h
  · have : t = 0 := by omega
    subst this
    exact br_t rfl H
  · have : t = 1 := by omega
    subst this
    exact br_f (by decide) (br_t rfl H)
theorem zx_isText_f {post : Int32 → Prop} {x : Int32} (h : ¬ x = 0 ∧ ¬ x = 1) (H : post 0) : wpX_isText post x := br_f h.1 (br_f h.2 H)
theorem zy_isText_t {post : Int32 → Prop} {t : Nat} (ht : t < 2) (H : post 1) : wpY_isText post (nI t) := zx_isText_t ht H
theorem zy_isText_f {post : Int32 → Prop} {x : Int32} (h : ¬ x = 0 ∧ ¬ x = 1) (H : post 0) : wpY_isText post x := zx_isText_f h H
theorem zr_text (x : Int32) : (∃ t, t < 2 ∧ x = nI t) ∨ (¬ x = 0 ∧ ¬ x = 1) := by
  rcases zr_tx x with (h | h) | h
  · exact Or.inl ⟨0, by omega, h⟩
  · exact Or.inl ⟨1, by omega, h⟩
  · exact Or.inr h
theorem zr_rng (x : Int32) {n : Nat} (hn : n < 2 ^ 30) : (∃ f, f < n ∧ x = nI f) ∨ x < 0 ∨ (¬ x < 0 ∧ ∃ f, n ≤ f ∧ f < 2 ^ 31 ∧ x = nI f) := by
  by_cases h : x < 0
  · exact Or.inr (Or.inl h)
  · obtain ⟨j, hj, rfl⟩ := nI_of h
    rcases Nat.lt_or_ge j n with g | g
    · exact Or.inl ⟨j, g, rfl⟩
    · exact Or.inr (Or.inr ⟨h, j, g, hj, rfl⟩)
theorem zy_in_t {post : Int32 → Prop} {x a b : Nat} (h1 : a ≤ x) (h2 : x ≤ b) (hb : b < 2 ^ 31) (H : post 1) : wpY_in post (nI x) (nI a) (nI b) :=
  br_f (nI_nlt h1 (by omega)) (br_f (nI_nlt h2 hb) H)
theorem zy_in_l {post : Int32 → Prop} {x a b : Int32} (h : x < a) (H : post 0) : wpY_in post x a b := br_t h H
theorem zy_in_g {post : Int32 → Prop} {x a b : Int32} (h : b < x) (H : post 0) : wpY_in post x a b := br_c (fun _ => H) (fun _ => br_t h H)
end
end
section
section
variable {cn : Nat} {rg rs nn : Int32} {O W LO UA KI F1 F2 F3 DI CA CB CT T LN : Nat → Nat} {E UB LA EA dA dB eB fu fz pr wh ro sz em hg lv bh rl rr rv ou nx sl pA pB wt yB lo re yr fo fl ele els eb yl se pg yo : Nat → Int32}
variable {A B : Nat → Nat} {R : List Nat} {k : Nat}
theorem zr_fac (h : zr_St cn O W LO UA KI F1 F2 F3 DI CA CB CT T LN E UB LA EA dA dB eB fu fz pr wh pA pB wt yB A B) {t : Nat} (ht : t < 2) : LN t ≤ 16 ∧ (∀ x ∈ zt_s T (16 * t) (LN t), x < 48) := by
  have hl := zr_LN h t ht
  exact ⟨hl, zt_s_lt (fun j h1 h2 => zr_Tx h j (by omega))⟩
theorem zv_normal (hS : zr_St cn O W LO UA KI F1 F2 F3 DI CA CB CT T LN E UB LA EA dA dB eB fu fz pr wh pA pB wt yB A B) (hR : zr_R R ro sz re rs) (v1 v2 : Int32) : wpX_normal (fun r u' => wpY_normal (fun r' v' => r' = r ∧ i_Rel (k + 5) u' v') ((nI cn), rs, nn, (za_F O), (za_F W), pA, pB, (za_F LO), (za_F UA), UB, LA, (za_F KI), wt, EA, yB, (za_F DI), E, (za_F CA), (za_F CB), (za_F CT), lo, (za_F T), (za_F LN), re, yr, fo, fl, ele, els, eb, yl, se, pg, yo) v1 v2) ((nI cn), rg, (za_F O), (za_F W), dA, dB, E, (za_F LO), (za_F UA), UB, LA, (za_F KI), (za_F F1), (za_F F2), (za_F F3), (za_F DI), EA, eB, (za_F CA), (za_F CB), (za_F CT), fu, fz, pr, wh, (za_F T), (za_F LN), ro, sz, em, hg, lv, bh, rl, rr, rv, ou, nx, sl) v1 v2 := by
  unfold wpX_normal wpY_normal
  dsimp only
  rcases zr_text v1 with ⟨t, ht, rfl⟩ | hn
  · refine zx_isText_t ht (br_f (by decide) ?_)
    have hvt : vp_in (nI t) 2 := vp_in_nI ht (by decide)
    have elen : za_F LN (nI t).toNatClampNeg = nI (LN t) := by rw [nI_clamp (by omega)]; rfl
    obtain ⟨hl, hlt⟩ := zr_fac hS ht
    rcases zr_rng v2 (n := 4) (by decide) with ⟨f, hf, rfl⟩ | hneg | ⟨hnn, f, hf, hf2, rfl⟩
    · refine br_f (nI_pos (by omega)) (pk_le f 3 (fun _ => ?_) (fun h => by omega))
      refine zx_work (r := 2) (by omega) (by omega) ht hf (zr_O hS) (zr_Tx hS) (zr_LN hS) (zr_dW hS) (zr_dG hS) (zr_tb hS) (zr_hT hS) (fun ro' sz' g1 g2 => ?_)
      dsimp only
      refine zy_isText_t ht (br_f (by decide) (zy_in_t (a := 0) (b := 3) (Nat.zero_le _) (by omega) (by decide) (br_f (by decide) ⟨hvt, ?_⟩)))
      rw [elen]
      refine zy_load (fr := 0) ht (Nat.zero_le _) hl (fun yr1 k1 => ?_)
      dsimp only
      rw [Nat.add_zero, Nat.sub_zero] at k1
      rw [show LN t - 0 = (zt_s T (16 * t) (LN t)).length by rw [zt_s_len]; rfl]
      refine zy_normalize hf (zr_O hS) (zr_dW hS) (zr_dG hS) (zr_W2 hS) (zr_pA hS) k1 hlt (by rw [zt_s_len]; exact hl) (fun yr2 k2 => ?_)
      dsimp only
      have hle := zn_n_le (O := O) (E := E) (f := f) (zr_dG hS) hlt (by rw [zt_s_len]; exact hl)
      refine zy_give k2 hle (fun re' k3 => ?_)
      exact ⟨g1.2.symm, zr_in hS ⟨g1, k3, rfl, hle, zn_n_lt (zr_dW hS) hlt⟩⟩
    · refine br_t hneg ?_
      exact zy_isText_t ht (br_f (by decide) (zy_in_l hneg (br_t rfl ⟨rfl, zr_in hS hR⟩)))
    · refine br_f hnn (pk_le f 3 (fun h => by omega) (fun h => ?_))
      exact zy_isText_t ht (br_f (by decide) (zy_in_g (nI_lt (a := 3) (b := f) h hf2) (br_t rfl ⟨rfl, zr_in hS hR⟩)))
  · exact zx_isText_f hn (br_t rfl (zy_isText_f hn (br_t rfl ⟨rfl, zr_in hS hR⟩)))
theorem zl_ext : ∀ {L M : List Nat}, L.length = M.length → (∀ i, i < L.length → L.getD i 0 = M.getD i 0) → L = M
  | [], [], _, _ => rfl
  | [], _ :: _, h, _ => by simp at h
  | _ :: _, [], h, _ => by simp at h
  | x :: xs, y :: ys, h, g => by
    have e : x = y := g 0 (by simp)
    rw [e, zl_ext (L := xs) (M := ys) (by simpa using h) (fun i hi => g (i + 1) (by simpa using hi))]
theorem zx_isN {post : Int32 → SX → Prop} {t : Nat} {L : List Nat} (ht : t < 2) (hl : LN t ≤ 16) (hT : ∀ j, j < 32 → T j < 48) (hL : ∀ x ∈ L, x < 48) (hll : L.length = LN t) (h1 : za_h ro 192 L)
    (H : post (if L = zt_s T (16 * t) (LN t) then 1 else 0) ((nI cn), rg, (za_F O), (za_F W), dA, dB, E, (za_F LO), (za_F UA), UB, LA, (za_F KI), (za_F F1), (za_F F2), (za_F F3), (za_F DI), EA, eB, (za_F CA), (za_F CB), (za_F CT), fu, fz, pr, wh, (za_F T), (za_F LN), ro, sz, em, hg, lv, bh, rl, rr, rv, ou, nx, sl)) : ∃ n, wX_isNormal_49 post (nI t) (nI cn) rg (za_F O) (za_F W) dA dB E (za_F LO) (za_F UA) UB LA (za_F KI) (za_F F1) (za_F F2) (za_F F3) (za_F DI) EA eB (za_F CA) (za_F CB) (za_F CT) fu fz pr wh (za_F T) (za_F LN) ro sz em hg lv bh rl rr rv ou nx sl n 1 0 := by
  have hvt : vp_in (nI t) 2 := vp_in_nI ht (by decide)
  have elen : za_F LN (nI t).toNatClampNeg = nI (LN t) := by rw [nI_clamp (by omega)]; rfl
  have n1 : narrow .boolean (.int (1 : Int32)) = .int (1 : Int32) := rfl
  have n0 : narrow .boolean (.int (0 : Int32)) = .int (0 : Int32) := rfl
  have key : ∀ d i, i + d = LN t → (∀ j, j < i → L.getD j 0 = T (16 * t + j)) → wX_isNormal_49 post (nI t) (nI cn) rg (za_F O) (za_F W) dA dB E (za_F LO) (za_F UA) UB LA (za_F KI) (za_F F1) (za_F F2) (za_F F3) (za_F DI) EA eB (za_F CA) (za_F CB) (za_F CT) fu fz pr wh (za_F T) (za_F LN) ro sz em hg lv bh rl rr rv ou nx sl (d + 2) 1 (nI i) := by
    intro d
    induction d with
    | zero =>
      intro i hi g
      have e : L = zt_s T (16 * t) (LN t) := zl_ext (by rw [zt_s_len]; exact hll) (fun j hj => by rw [zt_s_get T _ _ j (by omega)]; exact g j (by omega))
      rw [if_pos e] at H
      exact br_f (by decide) ⟨hvt, pk_le (LN t) i (fun _ => ⟨n1, H⟩) (fun h => by omega) elen rfl⟩
    | succ d ih =>
      intro i hi g
      have e1 : ro (192 + nI i).toNatClampNeg = nI (L.getD i 0) := by
        rw [show (192 : Int32) + nI i = nI (192 + i) from nI_add 192 i, nI_clamp (by omega)]
        exact za_h_get ro L 192 i h1 (by omega)
      have e3 : za_F T (16 * nI t + nI i).toNatClampNeg = nI (T (16 * t + i)) := by rw [za_x16, nI_clamp (by omega)]; rfl
      have hv1 : vp_in (192 + nI i) 256 := by rw [show (192 : Int32) + nI i = nI (192 + i) from nI_add 192 i]; exact vp_in_nI (by omega) (by decide)
      have hv2 : vp_in (16 * nI t + nI i) 32 := by rw [za_x16]; exact vp_in_nI (by omega) (by decide)
      have b1 := hL _ (za_gm (L := L) (i := i) (by omega))
      have b2 := hT (16 * t + i) (by omega)
      refine br_f (by decide) ⟨hvt, pk_le (LN t) i (fun h => by omega) (fun _ => ⟨hv1, hv2, ?_⟩) elen rfl⟩
      refine pk_eq (L.getD i 0) (T (16 * t + i)) (fun e => nm_r (nI_1 _) (ih (i + 1) (by omega) (lt_s g e))) (fun e => nm_r (nI_1 _) ?_) e1 e3
      rw [if_neg] at H
      · exact br_t rfl ⟨n0, H⟩
      · intro q
        apply e
        rw [q, zt_s_get T _ _ i (by omega)]
  exact ⟨_, key (LN t) 0 (by omega) (fun j hj => by omega)⟩
theorem zy_isN {post : Int32 → SY → Prop} {t : Nat} {L : List Nat} (ht : t < 2) (hl : LN t ≤ 16) (hT : ∀ j, j < 32 → T j < 48) (hL : ∀ x ∈ L, x < 48) (hll : L.length = LN t) (h1 : za_h yr 0 L)
    (H : post (if L = zt_s T (16 * t) (LN t) then 1 else 0) ((nI cn), rs, (nI L.length), (za_F O), (za_F W), pA, pB, (za_F LO), (za_F UA), UB, LA, (za_F KI), wt, EA, yB, (za_F DI), E, (za_F CA), (za_F CB), (za_F CT), lo, (za_F T), (za_F LN), re, yr, fo, fl, ele, els, eb, yl, se, pg, yo)) : ∃ n, wY_isNormal_57 post (nI t) (nI cn) rs (nI L.length) (za_F O) (za_F W) pA pB (za_F LO) (za_F UA) UB LA (za_F KI) wt EA yB (za_F DI) E (za_F CA) (za_F CB) (za_F CT) lo (za_F T) (za_F LN) re yr fo fl ele els eb yl se pg yo n 1 0 := by
  have n1 : narrow .boolean (.int (1 : Int32)) = .int (1 : Int32) := rfl
  have n0 : narrow .boolean (.int (0 : Int32)) = .int (0 : Int32) := rfl
  have key : ∀ d i, i + d = LN t → (∀ j, j < i → L.getD j 0 = T (16 * t + j)) → wY_isNormal_57 post (nI t) (nI cn) rs (nI L.length) (za_F O) (za_F W) pA pB (za_F LO) (za_F UA) UB LA (za_F KI) wt EA yB (za_F DI) E (za_F CA) (za_F CB) (za_F CT) lo (za_F T) (za_F LN) re yr fo fl ele els eb yl se pg yo (d + 2) 1 (nI i) := by
    intro d
    induction d with
    | zero =>
      intro i hi g
      have e : L = zt_s T (16 * t) (LN t) := zl_ext (by rw [zt_s_len]; exact hll) (fun j hj => by rw [zt_s_get T _ _ j (by omega)]; exact g j (by omega))
      rw [if_pos e] at H
      exact pk_le L.length i (fun _ => ⟨n1, H⟩) (fun h => by omega)
    | succ d ih =>
      intro i hi g
      have e1 : yr (nI i).toNatClampNeg = nI (L.getD i 0) := by
        have := za_h_get yr L 0 i h1 (by omega)
        rw [Nat.zero_add] at this
        rw [nI_clamp (by omega)]; exact this
      have e3 : za_F T (16 * nI t + nI i).toNatClampNeg = nI (T (16 * t + i)) := by rw [za_x16, nI_clamp (by omega)]; rfl
      have hv2 : vp_in (16 * nI t + nI i) 32 := by rw [za_x16]; exact vp_in_nI (by omega) (by decide)
      have b1 := hL _ (za_gm (L := L) (i := i) (by omega))
      have b2 := hT (16 * t + i) (by omega)
      refine pk_le L.length i (fun h => by omega) (fun _ => br_f (by decide) ⟨vp_in_nI (by omega) (by decide), hv2, ?_⟩)
      refine pk_eq (L.getD i 0) (T (16 * t + i)) (fun e => nm_r (nI_1 _) (ih (i + 1) (by omega) (lt_s g e))) (fun e => nm_r (nI_1 _) ?_) e1 e3
      rw [if_neg] at H
      · exact pk_le L.length (i + 1) (fun _ => ⟨n0, H⟩) (fun _ => br_t rfl ⟨n0, H⟩)
      · intro q
        apply e
        rw [q, zt_s_get T _ _ i (by omega)]
  exact ⟨_, key (LN t) 0 (by omega) (fun j hj => by omega)⟩
theorem zv_isNormal (hS : zr_St cn O W LO UA KI F1 F2 F3 DI CA CB CT T LN E UB LA EA dA dB eB fu fz pr wh pA pB wt yB A B) (hR : zr_R R ro sz re rs) (v1 v2 : Int32) : wpX_isNormal (fun r u' => wpY_isNormal (fun r' v' => r' = r ∧ i_Rel (k + 5) u' v') ((nI cn), rs, nn, (za_F O), (za_F W), pA, pB, (za_F LO), (za_F UA), UB, LA, (za_F KI), wt, EA, yB, (za_F DI), E, (za_F CA), (za_F CB), (za_F CT), lo, (za_F T), (za_F LN), re, yr, fo, fl, ele, els, eb, yl, se, pg, yo) v1 v2) ((nI cn), rg, (za_F O), (za_F W), dA, dB, E, (za_F LO), (za_F UA), UB, LA, (za_F KI), (za_F F1), (za_F F2), (za_F F3), (za_F DI), EA, eB, (za_F CA), (za_F CB), (za_F CT), fu, fz, pr, wh, (za_F T), (za_F LN), ro, sz, em, hg, lv, bh, rl, rr, rv, ou, nx, sl) v1 v2 := by
  have n0 : narrow .boolean (.int (0 : Int32)) = .int (0 : Int32) := rfl
  unfold wpX_isNormal
  dsimp only
  rcases zr_text v1 with ⟨t, ht, rfl⟩ | hn
  · refine zx_isText_t ht (br_f (by decide) ?_)
    have hvt : vp_in (nI t) 2 := vp_in_nI ht (by decide)
    have elen : za_F LN (nI t).toNatClampNeg = nI (LN t) := by rw [nI_clamp (by omega)]; rfl
    obtain ⟨hl, hlt⟩ := zr_fac hS ht
    rcases zr_rng v2 (n := 4) (by decide) with ⟨f, hf, rfl⟩ | hneg | ⟨hnn, f, hf, hf2, rfl⟩
    · refine br_f (nI_pos (by omega)) (pk_le f 3 (fun _ => ?_) (fun h => by omega))
      have hle := zn_n_le (O := O) (E := E) (f := f) (zr_dG hS) hlt (by rw [zt_s_len]; exact hl)
      have hltn := zn_n_lt (O := O) (E := E) (f := f) (zr_dW hS) hlt
      have hY : ∀ (p : Int32 → SY → Prop), (∀ yr', p (if zn_n O W A B E f (zt_s T (16 * t) (LN t)) = zt_s T (16 * t) (LN t) then 1 else 0) ((nI cn), rs, (nI (zn_n O W A B E f (zt_s T (16 * t) (LN t))).length), (za_F O), (za_F W), pA, pB, (za_F LO), (za_F UA), UB, LA, (za_F KI), wt, EA, yB, (za_F DI), E, (za_F CA), (za_F CB), (za_F CT), lo, (za_F T), (za_F LN), re, yr', fo, fl, ele, els, eb, yl, se, pg, yo)) → wpY_isNormal p ((nI cn), rs, nn, (za_F O), (za_F W), pA, pB, (za_F LO), (za_F UA), UB, LA, (za_F KI), wt, EA, yB, (za_F DI), E, (za_F CA), (za_F CB), (za_F CT), lo, (za_F T), (za_F LN), re, yr, fo, fl, ele, els, eb, yl, se, pg, yo) (nI t) (nI f) := by
        intro p hp
        unfold wpY_isNormal
        dsimp only
        refine zy_isText_t ht (br_f (by decide) (zy_in_t (a := 0) (b := 3) (Nat.zero_le _) (by omega) (by decide) (br_f (by decide) ⟨hvt, ?_⟩)))
        rw [elen]
        refine zy_load (fr := 0) ht (Nat.zero_le _) hl (fun yr1 k1 => ?_)
        dsimp only
        rw [Nat.add_zero, Nat.sub_zero] at k1
        rw [show LN t - 0 = (zt_s T (16 * t) (LN t)).length by rw [zt_s_len]; rfl]
        refine zy_normalize hf (zr_O hS) (zr_dW hS) (zr_dG hS) (zr_W2 hS) (zr_pA hS) k1 hlt (by rw [zt_s_len]; exact hl) (fun yr2 k2 => ⟨hvt, ?_⟩)
        refine pk_eq (zn_n O W A B E f (zt_s T (16 * t) (LN t))).length (LN t) (fun e => ?_) (fun e => ?_) rfl elen
        · exact zy_isN ht hl (zr_Tx hS) hltn e k2 (hp yr2)
        · have hh := hp yr2
          rw [if_neg (fun q => e (by rw [q, zt_s_len]))] at hh
          refine ⟨1, ?_⟩
          exact pk_le (zn_n O W A B E f (zt_s T (16 * t) (LN t))).length 0 (fun _ => ⟨n0, hh⟩) (fun _ => br_t rfl ⟨n0, hh⟩)
      refine zx_work (r := 3) (by omega) (by omega) ht hf (zr_O hS) (zr_Tx hS) (zr_LN hS) (zr_dW hS) (zr_dG hS) (zr_tb hS) (zr_hT hS) (fun ro' sz' g1 g2 => ?_)
      dsimp only
      have hR' : zr_R R ro' sz' re rs := zr_R3 (by omega) g2 hR
      refine ⟨hvt, ?_⟩
      refine pk_eq (zn_n O W A B E f (zt_s T (16 * t) (LN t))).length (LN t) (fun e => ?_) (fun e => ?_) g1.2 elen
      · refine zx_isN ht hl (zr_Tx hS) hltn e g1.1 ?_
        exact hY _ (fun yr' => ⟨rfl, zr_in hS hR'⟩)
      · refine ⟨1, br_t rfl ⟨n0, hY _ (fun yr' => ⟨?_, zr_in hS hR'⟩)⟩⟩
        rw [if_neg (fun q => e (by rw [q, zt_s_len]))]
    · refine br_t hneg ?_
      unfold wpY_isNormal
      dsimp only
      exact zy_isText_t ht (br_f (by decide) (zy_in_l hneg (br_t rfl ⟨rfl, zr_in hS hR⟩)))
    · refine br_f hnn (pk_le f 3 (fun h => by omega) (fun h => ?_))
      unfold wpY_isNormal
      dsimp only
      exact zy_isText_t ht (br_f (by decide) (zy_in_g (nI_lt (a := 3) (b := f) h hf2) (br_t rfl ⟨rfl, zr_in hS hR⟩)))
  · refine zx_isText_f hn (br_t rfl ?_)
    unfold wpY_isNormal
    dsimp only
    exact zy_isText_f hn (br_t rfl ⟨rfl, zr_in hS hR⟩)
end
end
section
def zt_r (T : Nat → Nat) (p e : Nat) : Nat → Nat := fun j => if p < j ∧ j ≤ e then T (j - 1) else T j
def zt_l (T : Nat → Nat) (s p : Nat) : Nat → Nat := fun j => if s ≤ j ∧ j < p then T (j + 1) else T j
def zt_k (T : Nat → Nat) (b : Nat) (R : List Nat) (p : Nat) : Nat → Nat := fun j => if b ≤ j ∧ j < b + p then R.getD (j - b) 0 else T j
theorem zt_r0 {T : Nat → Nat} {e : Nat} : zt_r T e e = T := by
  funext j; unfold zt_r; rw [if_neg (by omega)]
theorem zt_rs {T : Nat → Nat} {p e : Nat} (h : p + 1 ≤ e) : za_U (zt_r T (p + 1) e) (p + 1) (T p) = zt_r T p e := by
  funext j
  unfold za_U zt_r
  by_cases e1 : j = p + 1
  · rw [if_pos e1, if_pos (by omega), e1]; rfl
  · rw [if_neg e1]
    by_cases e2 : p + 1 < j ∧ j ≤ e
    · rw [if_pos e2, if_pos (by omega)]
    · rw [if_neg e2, if_neg (by omega)]
theorem zt_l0 {T : Nat → Nat} {s : Nat} : zt_l T s s = T := by
  funext j; unfold zt_l; rw [if_neg (by omega)]
theorem zt_ls {T : Nat → Nat} {s p : Nat} (h : s ≤ p) : za_U (zt_l T s p) p (T (p + 1)) = zt_l T s (p + 1) := by
  funext j
  unfold za_U zt_l
  by_cases e1 : j = p
  · rw [if_pos e1, if_pos (by omega), e1]
  · rw [if_neg e1]
    by_cases e2 : s ≤ j ∧ j < p
    · rw [if_pos e2, if_pos (by omega)]
    · rw [if_neg e2, if_neg (by omega)]
theorem zt_k0 {T : Nat → Nat} {b : Nat} {R : List Nat} : zt_k T b R 0 = T := by
  funext j; unfold zt_k; rw [if_neg (by omega)]
theorem zt_ks {T : Nat → Nat} {b p : Nat} {R : List Nat} : za_U (zt_k T b R p) (b + p) (R.getD p 0) = zt_k T b R (p + 1) := by
  funext j
  unfold za_U zt_k
  by_cases e1 : j = b + p
  · rw [if_pos e1, if_pos (by omega), e1, Nat.add_sub_cancel_left]
  · rw [if_neg e1]
    by_cases e2 : b ≤ j ∧ j < b + p
    · rw [if_pos e2, if_pos (by omega)]
    · rw [if_neg e2, if_neg (by omega)]
section
variable {cn : Nat} {rg rs nn : Int32} {O W LO UA KI F1 F2 F3 DI CA CB CT T LN : Nat → Nat} {E UB LA EA dA dB eB fu fz pr wh ro sz em hg lv bh rl rr rv ou nx sl pA pB wt yB lo re yr fo fl ele els eb yl se pg yo : Nat → Int32}
variable {A B : Nat → Nat} {R : List Nat} {k : Nat}
theorem zr_setT {T' LN' : Nat → Nat} (h : zr_St cn O W LO UA KI F1 F2 F3 DI CA CB CT T LN E UB LA EA dA dB eB fu fz pr wh pA pB wt yB A B) (hT : zr_T T' LN') : zr_St cn O W LO UA KI F1 F2 F3 DI CA CB CT T' LN' E UB LA EA dA dB eB fu fz pr wh pA pB wt yB A B :=
  ⟨h.1, h.2.1, h.2.2.1, h.2.2.2.1, h.2.2.2.2.1, h.2.2.2.2.2.1, h.2.2.2.2.2.2.1, h.2.2.2.2.2.2.2.1, hT⟩
theorem zx_isChar_t {post : Int32 → Prop} {c : Nat} (hc : c < 48) (H : post 1) : wpX_isChar post (nI c) :=
  br_f (nI_pos (by omega)) (br_f (nI_ge (b := 48) hc (by decide)) H)
theorem zx_isChar_f {post : Int32 → Prop} {x : Int32} (h : x < 0 ∨ 48 ≤ x) (H : post 0) : wpX_isChar post x :=
  br_c (fun _ => H) (fun hn => br_t (h.resolve_left hn) H)
theorem zy_isChar_t {post : Int32 → Prop} {c : Nat} (hc : c < 48) (H : post 1) : wpY_isChar post (nI c) :=
  zy_in_t (a := 0) (b := 47) (Nat.zero_le _) (by omega) (by decide) ⟨rfl, H⟩
theorem zy_isChar_f {post : Int32 → Prop} {x : Int32} (h : x < 0 ∨ 48 ≤ x) (H : post 0) : wpY_isChar post x := by
  rcases h with h | h
  · exact zy_in_l h ⟨rfl, H⟩
  · refine zy_in_g ?_ ⟨rfl, H⟩
    exact Int32.lt_of_lt_of_le (show (47 : Int32) < 48 by decide) h
theorem zr_char (x : Int32) : (∃ c, c < 48 ∧ x = nI c) ∨ (x < 0 ∨ 48 ≤ x) := by
  rcases pk_ix x (n := 48) (by decide) with h | h | h
  · exact Or.inr (Or.inl h)
  · exact Or.inr (Or.inr h)
  · exact Or.inl h
theorem zx_ins58 {post : Int32 → SX → Prop} {t at_ c : Nat} (ht : t < 2) (hl : LN t < 16) (ha : at_ ≤ LN t) (hc : c < 48) (hT : ∀ j, j < 32 → T j < 48)
    (H : post 1 ((nI cn), rg, (za_F O), (za_F W), dA, dB, E, (za_F LO), (za_F UA), UB, LA, (za_F KI), (za_F F1), (za_F F2), (za_F F3), (za_F DI), EA, eB, (za_F CA), (za_F CB), (za_F CT), fu, fz, pr, wh, (za_F (za_U (zt_r T (16 * t + at_) (16 * t + LN t)) (16 * t + at_) c)), (za_F (za_U LN t (LN t + 1))), ro, sz, em, hg, lv, bh, rl, rr, rv, ou, nx, sl)) :
    ∀ d n, d < n → at_ + d ≤ LN t → wX_insert_58 post (nI t) (nI at_) (nI c) (nI (16 * t)) (nI cn) rg n (nI (16 * t + at_ + d)) (za_F O) (za_F W) dA dB E (za_F LO) (za_F UA) UB LA (za_F KI) (za_F F1) (za_F F2) (za_F F3) (za_F DI) EA eB (za_F CA) (za_F CB) (za_F CT) fu fz pr wh (za_F (zt_r T (16 * t + at_ + d) (16 * t + LN t))) (za_F LN) ro sz em hg lv bh rl rr rv ou nx sl := by
  have hvt : vp_in (nI t) 2 := vp_in_nI ht (by decide)
  have et : (nI t).toNatClampNeg = t := nI_clamp (by omega)
  have e1 : nI (16 * t) + nI at_ = nI (16 * t + at_) := nI_add _ _
  intro d
  induction d with
  | zero =>
    intro n hn _
    obtain ⟨n, rfl⟩ : ∃ k, n = k + 1 := ⟨n - 1, by omega⟩
    refine pk_le (16 * t + at_ + 0) (16 * t + at_) (fun _ => ⟨by rw [e1]; exact vp_in_nI (by omega) (by decide), ?_⟩) (fun h => by omega) rfl e1
    refine nm_r (e' := za_F (za_U (zt_r T (16 * t + at_) (16 * t + LN t)) (16 * t + at_) c)) (by rw [e1, nI_clamp (by omega), za_nb2 (by omega), za_Fu]; rfl) ⟨hvt, hvt, ?_⟩
    refine nm_r (e' := za_F (za_U LN t (LN t + 1))) (by rw [et, za_Fa, nI_1, za_nb2 (by omega), za_Fu]) ?_
    exact H
  | succ d ih =>
    intro n hn hd
    obtain ⟨n, rfl⟩ : ∃ k, n = k + 1 := ⟨n - 1, by omega⟩
    have e2 : nI (16 * t + at_ + (d + 1)) - 1 = nI (16 * t + at_ + d) := nI_pred _
    have hT1 := hT (16 * t + at_ + d) (by omega)
    refine pk_le (16 * t + at_ + (d + 1)) (16 * t + at_) (fun h => by omega) (fun _ => ⟨by rw [e2]; exact vp_in_nI (by omega) (by decide), vp_in_nI (by omega) (by decide), ?_⟩) rfl e1
    refine nm_r (e' := za_F (zt_r T (16 * t + at_ + d) (16 * t + LN t))) ?_ (nm_r (e' := nI (16 * t + at_ + d)) (za_q1 (by omega)) (ih n (by omega) (by omega)))
    have e3 : zt_r T (16 * t + at_ + (d + 1)) (16 * t + LN t) (16 * t + at_ + d) = T (16 * t + at_ + d) := by unfold zt_r; rw [if_neg (by omega)]
    rw [e2, nI_clamp (by omega), nI_clamp (by omega), za_Fa, e3, za_nb (by omega), za_Fu]
    exact congrArg za_F (zt_rs (p := 16 * t + at_ + d) (by omega))
theorem zx_ins {post : Int32 → SX → Prop} {t at_ c : Nat} (ht : t < 2) (hl : LN t < 16) (ha : at_ ≤ LN t) (hc : c < 48) (hT : ∀ j, j < 32 → T j < 48)
    (H : post 1 ((nI cn), rg, (za_F O), (za_F W), dA, dB, E, (za_F LO), (za_F UA), UB, LA, (za_F KI), (za_F F1), (za_F F2), (za_F F3), (za_F DI), EA, eB, (za_F CA), (za_F CB), (za_F CT), fu, fz, pr, wh, (za_F (za_U (zt_r T (16 * t + at_) (16 * t + LN t)) (16 * t + at_) c)), (za_F (za_U LN t (LN t + 1))), ro, sz, em, hg, lv, bh, rl, rr, rv, ou, nx, sl)) :
    ∃ n, wX_insert_58 post (nI t) (nI at_) (nI c) (nI (16 * t)) (nI cn) rg n (nI (16 * t + LN t)) (za_F O) (za_F W) dA dB E (za_F LO) (za_F UA) UB LA (za_F KI) (za_F F1) (za_F F2) (za_F F3) (za_F DI) EA eB (za_F CA) (za_F CB) (za_F CT) fu fz pr wh (za_F T) (za_F LN) ro sz em hg lv bh rl rr rv ou nx sl := by
  have h := zx_ins58 (post := post) ht hl ha hc hT H (LN t - at_) (LN t - at_ + 1) (by omega) (by omega)
  rw [show 16 * t + at_ + (LN t - at_) = 16 * t + LN t by omega, zt_r0] at h
  exact ⟨_, h⟩
theorem zy_ins49 {post : Int32 → SY → Prop} {t at_ c : Nat} (ht : t < 2) (hl : LN t < 16) (ha : at_ ≤ LN t)
    (H : post 1 ((nI cn), rs, nn, (za_F O), (za_F W), pA, pB, (za_F LO), (za_F UA), UB, LA, (za_F KI), wt, EA, yB, (za_F DI), E, (za_F CA), (za_F CB), (za_F CT), lo, (za_F (za_U (zt_r T (16 * t + at_) (16 * t + LN t)) (16 * t + at_) c)), (za_F (za_U LN t (LN t + 1))), re, yr, fo, fl, ele, els, eb, yl, se, pg, yo)) :
    ∀ d n, d < n → at_ + d ≤ LN t → wY_insert_49 post (nI t) (nI at_) (nI c) (nI cn) rs nn n (nI (at_ + d)) (za_F O) (za_F W) pA pB (za_F LO) (za_F UA) UB LA (za_F KI) wt EA yB (za_F DI) E (za_F CA) (za_F CB) (za_F CT) lo (za_F (zt_r T (16 * t + at_ + d) (16 * t + LN t))) (za_F LN) re yr fo fl ele els eb yl se pg yo := by
  have hvt : vp_in (nI t) 2 := vp_in_nI ht (by decide)
  have et : (nI t).toNatClampNeg = t := nI_clamp (by omega)
  intro d
  induction d with
  | zero =>
    intro n hn _
    obtain ⟨n, rfl⟩ : ∃ k, n = k + 1 := ⟨n - 1, by omega⟩
    refine pk_le (at_ + 0) at_ (fun _ => ⟨by rw [za_x16]; exact vp_in_nI (by omega) (by decide), ?_⟩) (fun h => by omega)
    refine nm_r (e' := za_F (za_U (zt_r T (16 * t + at_) (16 * t + LN t)) (16 * t + at_) c)) (by rw [za_x16, nI_clamp (by omega), za_Fu]; rfl) ⟨hvt, hvt, ?_⟩
    refine nm_r (e' := za_F (za_U LN t (LN t + 1))) (by rw [et, za_Fa, nI_1, za_Fu]) ?_
    exact H
  | succ d ih =>
    intro n hn hd
    obtain ⟨n, rfl⟩ : ∃ k, n = k + 1 := ⟨n - 1, by omega⟩
    have e1 : 16 * nI t + nI (at_ + (d + 1)) = nI (16 * t + at_ + d + 1) := by rw [za_x16]; exact congrArg nI (by omega)
    have e2 : 16 * nI t + nI (at_ + (d + 1)) - 1 = nI (16 * t + at_ + d) := by rw [e1]; exact nI_pred _
    refine pk_le (at_ + (d + 1)) at_ (fun h => by omega) (fun _ => ⟨by rw [e2]; exact vp_in_nI (by omega) (by decide), by rw [e1]; exact vp_in_nI (by omega) (by decide), ?_⟩)
    refine nm_r (e' := za_F (zt_r T (16 * t + at_ + d) (16 * t + LN t))) ?_ (nm_r (e' := nI (at_ + d)) (za_q1 (by omega)) (ih n (by omega) (by omega)))
    have e3 : zt_r T (16 * t + at_ + (d + 1)) (16 * t + LN t) (16 * t + at_ + d) = T (16 * t + at_ + d) := by unfold zt_r; rw [if_neg (by omega)]
    rw [e2, e1, nI_clamp (by omega), nI_clamp (by omega), za_Fa, e3, za_Fu]
    exact congrArg za_F (zt_rs (p := 16 * t + at_ + d) (by omega))
theorem zy_ins {post : Int32 → SY → Prop} {t at_ c : Nat} (ht : t < 2) (hl : LN t < 16) (ha : at_ ≤ LN t)
    (H : post 1 ((nI cn), rs, nn, (za_F O), (za_F W), pA, pB, (za_F LO), (za_F UA), UB, LA, (za_F KI), wt, EA, yB, (za_F DI), E, (za_F CA), (za_F CB), (za_F CT), lo, (za_F (za_U (zt_r T (16 * t + at_) (16 * t + LN t)) (16 * t + at_) c)), (za_F (za_U LN t (LN t + 1))), re, yr, fo, fl, ele, els, eb, yl, se, pg, yo)) :
    ∃ n, wY_insert_49 post (nI t) (nI at_) (nI c) (nI cn) rs nn n (nI (LN t)) (za_F O) (za_F W) pA pB (za_F LO) (za_F UA) UB LA (za_F KI) wt EA yB (za_F DI) E (za_F CA) (za_F CB) (za_F CT) lo (za_F T) (za_F LN) re yr fo fl ele els eb yl se pg yo := by
  have h := zy_ins49 (post := post) ht hl ha H (LN t - at_) (LN t - at_ + 1) (by omega) (by omega)
  rw [show 16 * t + at_ + (LN t - at_) = 16 * t + LN t by omega, zt_r0, show at_ + (LN t - at_) = LN t by omega] at h
  exact ⟨_, h⟩
theorem zv_insert (hS : zr_St cn O W LO UA KI F1 F2 F3 DI CA CB CT T LN E UB LA EA dA dB eB fu fz pr wh pA pB wt yB A B) (hR : zr_R R ro sz re rs) (v1 v2 v3 : Int32) : wpX_insert (fun r u' => wpY_insert (fun r' v' => r' = r ∧ i_Rel (k + 5) u' v') ((nI cn), rs, nn, (za_F O), (za_F W), pA, pB, (za_F LO), (za_F UA), UB, LA, (za_F KI), wt, EA, yB, (za_F DI), E, (za_F CA), (za_F CB), (za_F CT), lo, (za_F T), (za_F LN), re, yr, fo, fl, ele, els, eb, yl, se, pg, yo) v1 v2 v3) ((nI cn), rg, (za_F O), (za_F W), dA, dB, E, (za_F LO), (za_F UA), UB, LA, (za_F KI), (za_F F1), (za_F F2), (za_F F3), (za_F DI), EA, eB, (za_F CA), (za_F CB), (za_F CT), fu, fz, pr, wh, (za_F T), (za_F LN), ro, sz, em, hg, lv, bh, rl, rr, rv, ou, nx, sl) v1 v2 v3 := by
  unfold wpX_insert wpY_insert
  dsimp only
  have hI : (0 : Int32) = 0 ∧ i_Rel (k + 5) ((nI cn), rg, (za_F O), (za_F W), dA, dB, E, (za_F LO), (za_F UA), UB, LA, (za_F KI), (za_F F1), (za_F F2), (za_F F3), (za_F DI), EA, eB, (za_F CA), (za_F CB), (za_F CT), fu, fz, pr, wh, (za_F T), (za_F LN), ro, sz, em, hg, lv, bh, rl, rr, rv, ou, nx, sl) ((nI cn), rs, nn, (za_F O), (za_F W), pA, pB, (za_F LO), (za_F UA), UB, LA, (za_F KI), wt, EA, yB, (za_F DI), E, (za_F CA), (za_F CB), (za_F CT), lo, (za_F T), (za_F LN), re, yr, fo, fl, ele, els, eb, yl, se, pg, yo) := ⟨rfl, zr_in hS hR⟩
  rcases zr_text v1 with ⟨t, ht, rfl⟩ | hn
  · refine zx_isText_t ht (br_f (by decide) ?_)
    have hvt : vp_in (nI t) 2 := vp_in_nI ht (by decide)
    have et : (nI t).toNatClampNeg = t := nI_clamp (by omega)
    have elen : za_F LN (nI t).toNatClampNeg = nI (LN t) := by rw [et]; rfl
    have hl := zr_LN hS t ht
    rcases zr_char v3 with ⟨c, hc, rfl⟩ | hnc
    · refine zx_isChar_t hc (br_f (by decide) ?_)
      by_cases h0 : v2 < 0
      · refine br_t h0 (zy_isText_t ht (br_f (by decide) (zy_isChar_t hc (br_f (by decide) (br_t h0 hI)))))
      · obtain ⟨p, hp, rfl⟩ := nI_of h0
        refine br_f h0 ⟨hvt, ?_⟩
        refine pk_lt (LN t) p (fun g => ?_) (fun g => ⟨hvt, ?_⟩) elen rfl
        · exact zy_isText_t ht (br_f (by decide) (zy_isChar_t hc (br_f (by decide) (br_f h0 ⟨hvt, pk_lt (LN t) p (fun _ => hI) (fun q => by omega) elen rfl⟩))))
        · refine pk_eq (LN t) 16 (fun g2 => ?_) (fun g2 => ?_) elen rfl
          · exact zy_isText_t ht (br_f (by decide) (zy_isChar_t hc (br_f (by decide) (br_f h0 ⟨hvt, pk_lt (LN t) p (fun q => by omega) (fun _ => ⟨hvt, pk_eq (LN t) 16 (fun _ => hI) (fun q => by omega) elen rfl⟩) elen rfl⟩))))
          · refine nm_r (pk_mul 16 t) ⟨hvt, ?_⟩
            refine nm_r (e' := nI (16 * t + LN t)) (by rw [elen, nI_add]) ?_
            have hT2 : zr_T (za_U (zt_r T (16 * t + p) (16 * t + LN t)) (16 * t + p) c) (za_U LN t (LN t + 1)) := by
              refine ⟨fun j hj => ?_, fun j hj => ?_⟩
              · unfold za_U zt_r
                split
                · exact hc
                · split
                  · exact zr_Tx hS _ (by omega)
                  · exact zr_Tx hS _ hj
              · unfold za_U
                split
                · omega
                · exact zr_LN hS j hj
            refine zx_ins ht (by omega) g hc (zr_Tx hS) ?_
            refine zy_isText_t ht (br_f (by decide) (zy_isChar_t hc (br_f (by decide) (br_f h0 ⟨hvt, pk_lt (LN t) p (fun q => by omega) (fun _ => ⟨hvt, pk_eq (LN t) 16 (fun q => by omega) (fun _ => ⟨hvt, ?_⟩) elen rfl⟩) elen rfl⟩))))
            refine nm_r elen ?_
            exact zy_ins ht (by omega) g ⟨rfl, zr_in (zr_setT hS hT2) hR⟩
    · exact zx_isChar_f hnc (br_t rfl (zy_isText_t ht (br_f (by decide) (zy_isChar_f hnc (br_t rfl hI)))))
  · exact zx_isText_f hn (br_t rfl (zy_isText_f hn (br_t rfl hI)))
end
end
section
section
variable {cn : Nat} {rg rs nn : Int32} {O W LO UA KI F1 F2 F3 DI CA CB CT T LN : Nat → Nat} {E UB LA EA dA dB eB fu fz pr wh ro sz em hg lv bh rl rr rv ou nx sl pA pB wt yB lo re yr fo fl ele els eb yl se pg yo : Nat → Int32}
variable {A B : Nat → Nat} {R : List Nat} {k : Nat}
theorem zx_era {post : Int32 → SX → Prop} {t at_ m : Nat} (ht : t < 2) (hm : LN t = m) (hl : m < 16) (ha : at_ ≤ m) (hT : ∀ j, j < 32 → T j < 48)
    (H : post 1 ((nI cn), rg, (za_F O), (za_F W), dA, dB, E, (za_F LO), (za_F UA), UB, LA, (za_F KI), (za_F F1), (za_F F2), (za_F F3), (za_F DI), EA, eB, (za_F CA), (za_F CB), (za_F CT), fu, fz, pr, wh, (za_F (zt_l T (16 * t + at_) (16 * t + m))), (za_F LN), ro, sz, em, hg, lv, bh, rl, rr, rv, ou, nx, sl)) : ∃ n, wX_erase_41 post (nI t) (nI cn) rg n (nI (16 * t + at_)) (za_F O) (za_F W) dA dB E (za_F LO) (za_F UA) UB LA (za_F KI) (za_F F1) (za_F F2) (za_F F3) (za_F DI) EA eB (za_F CA) (za_F CB) (za_F CT) fu fz pr wh (za_F T) (za_F LN) ro sz em hg lv bh rl rr rv ou nx sl := by
  have hvt : vp_in (nI t) 2 := vp_in_nI ht (by decide)
  have elen : za_F LN (nI t).toNatClampNeg = nI m := by rw [nI_clamp (by omega), ← hm]; rfl
  have e1 : 16 * nI t + za_F LN (nI t).toNatClampNeg = nI (16 * t + m) := by rw [elen, za_x16]
  have key : ∀ d p, p + d = 16 * t + m → 16 * t + at_ ≤ p → wX_erase_41 post (nI t) (nI cn) rg (d + 1) (nI p) (za_F O) (za_F W) dA dB E (za_F LO) (za_F UA) UB LA (za_F KI) (za_F F1) (za_F F2) (za_F F3) (za_F DI) EA eB (za_F CA) (za_F CB) (za_F CT) fu fz pr wh (za_F (zt_l T (16 * t + at_) p)) (za_F LN) ro sz em hg lv bh rl rr rv ou nx sl := by
    intro d
    induction d with
    | zero =>
      intro p hp _
      refine ⟨hvt, pk_le (16 * t + m) p (fun _ => ?_) (fun h => by omega) e1 rfl⟩
      rw [show p = 16 * t + m by omega]; exact H
    | succ d ih =>
      intro p hp hs
      have e3 : zt_l T (16 * t + at_) p (p + 1) = T (p + 1) := by unfold zt_l; rw [if_neg (by omega)]
      have hb := hT (p + 1) (by omega)
      refine ⟨hvt, pk_le (16 * t + m) p (fun h => by omega) (fun _ => ⟨by rw [nI_1]; exact vp_in_nI (by omega) (by decide), vp_in_nI (by omega) (by decide), ?_⟩) e1 rfl⟩
      refine nm_r (e' := za_F (zt_l T (16 * t + at_) (p + 1))) ?_ (nm_r (nI_1 p) (ih (p + 1) (by omega) (by omega)))
      rw [nI_1, nI_clamp (by omega), nI_clamp (by omega), za_Fa, e3, za_nb (by omega), za_Fu]
      exact congrArg za_F (zt_ls hs)
  have h := key (m - at_) (16 * t + at_) (by omega) (Nat.le_refl _)
  rw [zt_l0] at h
  exact ⟨_, h⟩
theorem zy_era {post : Int32 → SY → Prop} {t at_ m : Nat} (ht : t < 2) (hm : LN t = m) (hl : m < 16) (ha : at_ ≤ m)
    (H : post 1 ((nI cn), rs, nn, (za_F O), (za_F W), pA, pB, (za_F LO), (za_F UA), UB, LA, (za_F KI), wt, EA, yB, (za_F DI), E, (za_F CA), (za_F CB), (za_F CT), lo, (za_F (zt_l T (16 * t + at_) (16 * t + m))), (za_F LN), re, yr, fo, fl, ele, els, eb, yl, se, pg, yo)) : ∃ n, wY_erase_35 post (nI t) (nI cn) rs nn n (nI at_) (za_F O) (za_F W) pA pB (za_F LO) (za_F UA) UB LA (za_F KI) wt EA yB (za_F DI) E (za_F CA) (za_F CB) (za_F CT) lo (za_F T) (za_F LN) re yr fo fl ele els eb yl se pg yo := by
  have hvt : vp_in (nI t) 2 := vp_in_nI ht (by decide)
  have elen : za_F LN (nI t).toNatClampNeg = nI m := by rw [nI_clamp (by omega), ← hm]; rfl
  have key : ∀ d p, p + d = m → at_ ≤ p → wY_erase_35 post (nI t) (nI cn) rs nn (d + 1) (nI p) (za_F O) (za_F W) pA pB (za_F LO) (za_F UA) UB LA (za_F KI) wt EA yB (za_F DI) E (za_F CA) (za_F CB) (za_F CT) lo (za_F (zt_l T (16 * t + at_) (16 * t + p))) (za_F LN) re yr fo fl ele els eb yl se pg yo := by
    intro d
    induction d with
    | zero =>
      intro p hp _
      refine ⟨hvt, pk_le m p (fun _ => ?_) (fun h => by omega) elen rfl⟩
      rw [show p = m by omega]; exact H
    | succ d ih =>
      intro p hp hs
      have e3 : zt_l T (16 * t + at_) (16 * t + p) (16 * t + p + 1) = T (16 * t + p + 1) := by unfold zt_l; rw [if_neg (by omega)]
      refine ⟨hvt, pk_le m p (fun h => by omega) (fun _ => ⟨by rw [za_x16, nI_1]; exact vp_in_nI (by omega) (by decide), by rw [za_x16]; exact vp_in_nI (by omega) (by decide), ?_⟩) elen rfl⟩
      refine nm_r (e' := za_F (zt_l T (16 * t + at_) (16 * t + (p + 1)))) ?_ (nm_r (nI_1 p) (ih (p + 1) (by omega) (by omega)))
      rw [za_x16, nI_1, nI_clamp (by omega), nI_clamp (by omega), za_Fa, e3, za_Fu]
      exact congrArg za_F (zt_ls (by omega))
  have h := key (m - at_) at_ (by omega) (Nat.le_refl _)
  rw [zt_l0] at h
  exact ⟨_, h⟩
theorem zv_erase (hS : zr_St cn O W LO UA KI F1 F2 F3 DI CA CB CT T LN E UB LA EA dA dB eB fu fz pr wh pA pB wt yB A B) (hR : zr_R R ro sz re rs) (v1 v2 : Int32) : wpX_erase (fun r u' => wpY_erase (fun r' v' => r' = r ∧ i_Rel (k + 5) u' v') ((nI cn), rs, nn, (za_F O), (za_F W), pA, pB, (za_F LO), (za_F UA), UB, LA, (za_F KI), wt, EA, yB, (za_F DI), E, (za_F CA), (za_F CB), (za_F CT), lo, (za_F T), (za_F LN), re, yr, fo, fl, ele, els, eb, yl, se, pg, yo) v1 v2) ((nI cn), rg, (za_F O), (za_F W), dA, dB, E, (za_F LO), (za_F UA), UB, LA, (za_F KI), (za_F F1), (za_F F2), (za_F F3), (za_F DI), EA, eB, (za_F CA), (za_F CB), (za_F CT), fu, fz, pr, wh, (za_F T), (za_F LN), ro, sz, em, hg, lv, bh, rl, rr, rv, ou, nx, sl) v1 v2 := by
  unfold wpX_erase wpY_erase
  dsimp only
  have hI : (0 : Int32) = 0 ∧ i_Rel (k + 5) ((nI cn), rg, (za_F O), (za_F W), dA, dB, E, (za_F LO), (za_F UA), UB, LA, (za_F KI), (za_F F1), (za_F F2), (za_F F3), (za_F DI), EA, eB, (za_F CA), (za_F CB), (za_F CT), fu, fz, pr, wh, (za_F T), (za_F LN), ro, sz, em, hg, lv, bh, rl, rr, rv, ou, nx, sl) ((nI cn), rs, nn, (za_F O), (za_F W), pA, pB, (za_F LO), (za_F UA), UB, LA, (za_F KI), wt, EA, yB, (za_F DI), E, (za_F CA), (za_F CB), (za_F CT), lo, (za_F T), (za_F LN), re, yr, fo, fl, ele, els, eb, yl, se, pg, yo) := ⟨rfl, zr_in hS hR⟩
  rcases zr_text v1 with ⟨t, ht, rfl⟩ | hn
  · refine zx_isText_t ht (br_f (by decide) ?_)
    have hvt : vp_in (nI t) 2 := vp_in_nI ht (by decide)
    have et : (nI t).toNatClampNeg = t := nI_clamp (by omega)
    have elen : za_F LN (nI t).toNatClampNeg = nI (LN t) := by rw [et]; rfl
    have hl := zr_LN hS t ht
    by_cases h0 : v2 < 0
    · exact br_t h0 (zy_isText_t ht (br_f (by decide) (br_t h0 hI)))
    · obtain ⟨p, hp, rfl⟩ := nI_of h0
      refine br_f h0 ⟨hvt, ?_⟩
      refine pk_lt p (LN t) (fun g => ⟨hvt, hvt, ?_⟩) (fun g => ?_) rfl elen
      · have hT2 : zr_T (zt_l T (16 * t + p) (16 * t + (LN t - 1))) (za_U LN t (LN t - 1)) := by
          refine ⟨fun j hj => ?_, fun j hj => ?_⟩
          · unfold zt_l
            split
            · exact zr_Tx hS _ (by omega)
            · exact zr_Tx hS _ hj
          · unfold za_U
            split
            · omega
            · exact zr_LN hS j hj
        have hm : za_U LN t (LN t - 1) t = LN t - 1 := za_Us
        refine nm_r (e' := za_F (za_U LN t (LN t - 1))) (by rw [elen, et, za_p1 (by omega), za_nb2 (by omega), za_Fu]) ?_
        refine nm_r (za_x16 t p) ?_
        refine zx_era ht hm (by omega) (by omega) (zr_Tx hS) ?_
        refine zy_isText_t ht (br_f (by decide) (br_f h0 ⟨hvt, pk_lt p (LN t) (fun _ => ⟨hvt, hvt, ?_⟩) (fun q => by omega) rfl elen⟩))
        refine nm_r (e' := za_F (za_U LN t (LN t - 1))) (by rw [elen, et, za_p1 (by omega), za_Fu]) ?_
        exact zy_era ht hm (by omega) (by omega) ⟨rfl, zr_in (zr_setT hS hT2) hR⟩
      · exact zy_isText_t ht (br_f (by decide) (br_f h0 ⟨hvt, pk_lt p (LN t) (fun q => by omega) (fun _ => hI) rfl elen⟩))
  · exact zx_isText_f hn (br_t rfl (zy_isText_f hn (br_t rfl hI)))
theorem zx_tak {post : Int32 → SX → Prop} {t : Nat} (ht : t < 2) (hR : zx_row ro sz 2 R) (hl : R.length ≤ 16) (hR2 : ∀ x ∈ R, x < 48)
    (H : post 1 ((nI cn), rg, (za_F O), (za_F W), dA, dB, E, (za_F LO), (za_F UA), UB, LA, (za_F KI), (za_F F1), (za_F F2), (za_F F3), (za_F DI), EA, eB, (za_F CA), (za_F CB), (za_F CT), fu, fz, pr, wh, (za_F (zt_k T (16 * t) R R.length)), (za_F (za_U LN t R.length)), ro, sz, em, hg, lv, bh, rl, rr, rv, ou, nx, sl)) : ∃ n, wX_take_22 post (nI t) (nI cn) rg n 0 (za_F O) (za_F W) dA dB E (za_F LO) (za_F UA) UB LA (za_F KI) (za_F F1) (za_F F2) (za_F F3) (za_F DI) EA eB (za_F CA) (za_F CB) (za_F CT) fu fz pr wh (za_F T) (za_F LN) ro sz em hg lv bh rl rr rv ou nx sl := by
  have hvt : vp_in (nI t) 2 := vp_in_nI ht (by decide)
  have key : ∀ d p, p + d = R.length → wX_take_22 post (nI t) (nI cn) rg (d + 1) (nI p) (za_F O) (za_F W) dA dB E (za_F LO) (za_F UA) UB LA (za_F KI) (za_F F1) (za_F F2) (za_F F3) (za_F DI) EA eB (za_F CA) (za_F CB) (za_F CT) fu fz pr wh (za_F (zt_k T (16 * t) R p)) (za_F LN) ro sz em hg lv bh rl rr rv ou nx sl := by
    intro d
    induction d with
    | zero =>
      intro p hp
      refine pk_le R.length p (fun _ => ⟨hvt, ?_⟩) (fun h => by omega) hR.2 rfl
      refine nm_r (e' := za_F (za_U LN t R.length)) (by rw [nI_clamp (by omega), hR.2, za_nb (by omega), za_Fu]) ?_
      rw [show p = R.length by omega]; exact H
    | succ d ih =>
      intro p hp
      have e1 : (128 : Int32) + nI p = nI (128 + p) := nI_add 128 p
      have e2 : ro (128 + nI p).toNatClampNeg = nI (R.getD p 0) := by
        rw [e1, nI_clamp (by omega)]
        exact za_h_get ro R 128 p hR.1 (by omega)
      have hb := hR2 _ (za_gm (L := R) (i := p) (by omega))
      refine pk_le R.length p (fun h => by omega) (fun _ => ⟨by rw [e1]; exact vp_in_nI (by omega) (by decide), by rw [za_x16]; exact vp_in_nI (by omega) (by decide), ?_⟩) hR.2 rfl
      refine nm_r (e' := za_F (zt_k T (16 * t) R (p + 1))) ?_ (nm_r (nI_1 p) (ih (p + 1) (by omega)))
      rw [e2, za_x16, nI_clamp (by omega), za_nb (by omega), za_Fu]
      exact congrArg za_F zt_ks
  have h := key R.length 0 (by omega)
  rw [zt_k0] at h
  exact ⟨_, h⟩
theorem zy_tak {post : Int32 → SY → Prop} {t : Nat} (ht : t < 2) (hR : za_h re 0 R) (hl : R.length ≤ 16) (hrs : rs = nI R.length)
    (H : post 1 ((nI cn), rs, nn, (za_F O), (za_F W), pA, pB, (za_F LO), (za_F UA), UB, LA, (za_F KI), wt, EA, yB, (za_F DI), E, (za_F CA), (za_F CB), (za_F CT), lo, (za_F (zt_k T (16 * t) R R.length)), (za_F LN), re, yr, fo, fl, ele, els, eb, yl, se, pg, yo)) : ∃ n, wY_take_30 post (nI t) (nI cn) rs nn n 0 (za_F O) (za_F W) pA pB (za_F LO) (za_F UA) UB LA (za_F KI) wt EA yB (za_F DI) E (za_F CA) (za_F CB) (za_F CT) lo (za_F T) (za_F LN) re yr fo fl ele els eb yl se pg yo := by
  have key : ∀ d p, p + d = R.length → wY_take_30 post (nI t) (nI cn) rs nn (d + 1) (nI p) (za_F O) (za_F W) pA pB (za_F LO) (za_F UA) UB LA (za_F KI) wt EA yB (za_F DI) E (za_F CA) (za_F CB) (za_F CT) lo (za_F (zt_k T (16 * t) R p)) (za_F LN) re yr fo fl ele els eb yl se pg yo := by
    intro d
    induction d with
    | zero =>
      intro p hp
      refine pk_le R.length p (fun _ => ?_) (fun h => by omega) hrs rfl
      rw [show p = R.length by omega]; exact H
    | succ d ih =>
      intro p hp
      have e2 : re (nI p).toNatClampNeg = nI (R.getD p 0) := by
        have := za_h_get re R 0 p hR (by omega)
        rw [Nat.zero_add] at this
        rw [nI_clamp (by omega)]; exact this
      refine pk_le R.length p (fun h => by omega) (fun _ => ⟨vp_in_nI (by omega) (by decide), by rw [za_x16]; exact vp_in_nI (by omega) (by decide), ?_⟩) hrs rfl
      refine nm_r (e' := za_F (zt_k T (16 * t) R (p + 1))) ?_ (nm_r (nI_1 p) (ih (p + 1) (by omega)))
      rw [e2, za_x16, nI_clamp (by omega), za_Fu]
      exact congrArg za_F zt_ks
  have h := key R.length 0 (by omega)
  rw [zt_k0] at h
  exact ⟨_, h⟩
theorem zv_take (hS : zr_St cn O W LO UA KI F1 F2 F3 DI CA CB CT T LN E UB LA EA dA dB eB fu fz pr wh pA pB wt yB A B) (hR : zr_R R ro sz re rs) (v1 : Int32) : wpX_take (fun r u' => wpY_take (fun r' v' => r' = r ∧ i_Rel (k + 5) u' v') ((nI cn), rs, nn, (za_F O), (za_F W), pA, pB, (za_F LO), (za_F UA), UB, LA, (za_F KI), wt, EA, yB, (za_F DI), E, (za_F CA), (za_F CB), (za_F CT), lo, (za_F T), (za_F LN), re, yr, fo, fl, ele, els, eb, yl, se, pg, yo) v1) ((nI cn), rg, (za_F O), (za_F W), dA, dB, E, (za_F LO), (za_F UA), UB, LA, (za_F KI), (za_F F1), (za_F F2), (za_F F3), (za_F DI), EA, eB, (za_F CA), (za_F CB), (za_F CT), fu, fz, pr, wh, (za_F T), (za_F LN), ro, sz, em, hg, lv, bh, rl, rr, rv, ou, nx, sl) v1 := by
  unfold wpX_take wpY_take
  dsimp only
  have hI : (0 : Int32) = 0 ∧ i_Rel (k + 5) ((nI cn), rg, (za_F O), (za_F W), dA, dB, E, (za_F LO), (za_F UA), UB, LA, (za_F KI), (za_F F1), (za_F F2), (za_F F3), (za_F DI), EA, eB, (za_F CA), (za_F CB), (za_F CT), fu, fz, pr, wh, (za_F T), (za_F LN), ro, sz, em, hg, lv, bh, rl, rr, rv, ou, nx, sl) ((nI cn), rs, nn, (za_F O), (za_F W), pA, pB, (za_F LO), (za_F UA), UB, LA, (za_F KI), wt, EA, yB, (za_F DI), E, (za_F CA), (za_F CB), (za_F CT), lo, (za_F T), (za_F LN), re, yr, fo, fl, ele, els, eb, yl, se, pg, yo) := ⟨rfl, zr_in hS hR⟩
  have h64 := hR.2.2.2.1
  rcases zr_text v1 with ⟨t, ht, rfl⟩ | hn
  · refine zx_isText_t ht (br_f (by decide) ?_)
    refine pk_le R.length 16 (fun g => ?_) (fun g => ?_) hR.1.2 rfl
    · have hT2 : zr_T (zt_k T (16 * t) R R.length) (za_U LN t R.length) := by
        refine ⟨fun j hj => ?_, fun j hj => ?_⟩
        · unfold zt_k
          split
          · exact hR.2.2.2.2 _ (za_gm (by omega))
          · exact zr_Tx hS _ hj
        · unfold za_U
          split
          · exact g
          · exact zr_LN hS j hj
      refine zx_tak ht hR.1 g hR.2.2.2.2 ?_
      refine zy_isText_t ht (br_f (by decide) (pk_le R.length 16 (fun _ => ⟨vp_in_nI ht (by decide), ?_⟩) (fun q => by omega) hR.2.2.1 rfl))
      refine nm_r (e' := za_F (za_U LN t R.length)) (by rw [nI_clamp (by omega), hR.2.2.1, za_Fu]) ?_
      exact zy_tak ht hR.2.1 g hR.2.2.1 ⟨rfl, zr_in (zr_setT hS hT2) hR⟩
    · exact zy_isText_t ht (br_f (by decide) (pk_le R.length 16 (fun q => by omega) (fun _ => hI) hR.2.2.1 rfl))
  · exact zx_isText_f hn (br_t rfl (zy_isText_f hn (br_t rfl hI)))
theorem zv_result (hS : zr_St cn O W LO UA KI F1 F2 F3 DI CA CB CT T LN E UB LA EA dA dB eB fu fz pr wh pA pB wt yB A B) (hR : zr_R R ro sz re rs) (v1 : Int32) : wpX_result (fun r => wpY_result (fun r' => r' = r ∧ i_Rel (k + 5) ((nI cn), rg, (za_F O), (za_F W), dA, dB, E, (za_F LO), (za_F UA), UB, LA, (za_F KI), (za_F F1), (za_F F2), (za_F F3), (za_F DI), EA, eB, (za_F CA), (za_F CB), (za_F CT), fu, fz, pr, wh, (za_F T), (za_F LN), ro, sz, em, hg, lv, bh, rl, rr, rv, ou, nx, sl) ((nI cn), rs, nn, (za_F O), (za_F W), pA, pB, (za_F LO), (za_F UA), UB, LA, (za_F KI), wt, EA, yB, (za_F DI), E, (za_F CA), (za_F CB), (za_F CT), lo, (za_F T), (za_F LN), re, yr, fo, fl, ele, els, eb, yl, se, pg, yo)) ((nI cn), rs, nn, (za_F O), (za_F W), pA, pB, (za_F LO), (za_F UA), UB, LA, (za_F KI), wt, EA, yB, (za_F DI), E, (za_F CA), (za_F CB), (za_F CT), lo, (za_F T), (za_F LN), re, yr, fo, fl, ele, els, eb, yl, se, pg, yo) v1) ((nI cn), rg, (za_F O), (za_F W), dA, dB, E, (za_F LO), (za_F UA), UB, LA, (za_F KI), (za_F F1), (za_F F2), (za_F F3), (za_F DI), EA, eB, (za_F CA), (za_F CB), (za_F CT), fu, fz, pr, wh, (za_F T), (za_F LN), ro, sz, em, hg, lv, bh, rl, rr, rv, ou, nx, sl) v1 := by
  have hI : (-1 : Int32) = -1 ∧ i_Rel (k + 5) ((nI cn), rg, (za_F O), (za_F W), dA, dB, E, (za_F LO), (za_F UA), UB, LA, (za_F KI), (za_F F1), (za_F F2), (za_F F3), (za_F DI), EA, eB, (za_F CA), (za_F CB), (za_F CT), fu, fz, pr, wh, (za_F T), (za_F LN), ro, sz, em, hg, lv, bh, rl, rr, rv, ou, nx, sl) ((nI cn), rs, nn, (za_F O), (za_F W), pA, pB, (za_F LO), (za_F UA), UB, LA, (za_F KI), wt, EA, yB, (za_F DI), E, (za_F CA), (za_F CB), (za_F CT), lo, (za_F T), (za_F LN), re, yr, fo, fl, ele, els, eb, yl, se, pg, yo) := ⟨rfl, zr_in hS hR⟩
  have h64 := hR.2.2.2.1
  by_cases h0 : v1 < 0
  · exact br_t h0 (br_t h0 hI)
  · obtain ⟨p, hp, rfl⟩ := nI_of h0
    refine br_f h0 (pk_lt p R.length (fun g => ?_) (fun g => br_f h0 (pk_lt p R.length (fun q => by omega) (fun _ => hI) rfl hR.2.2.1)) rfl hR.1.2)
    have e1 : (128 : Int32) + nI p = nI (128 + p) := nI_add 128 p
    have e2 : ro (128 + nI p).toNatClampNeg = nI (R.getD p 0) := by
      rw [e1, nI_clamp (by omega)]
      exact za_h_get ro R 128 p hR.1.1 (by omega)
    have e3 : re (nI p).toNatClampNeg = nI (R.getD p 0) := by
      have := za_h_get re R 0 p hR.2.1 (by omega)
      rw [Nat.zero_add] at this
      rw [nI_clamp (by omega)]; exact this
    refine ⟨by rw [e1]; exact vp_in_nI (by omega) (by decide), br_f h0 (pk_lt p R.length (fun _ => ⟨vp_in_nI (by omega) (by decide), ?_⟩) (fun q => by omega) rfl hR.2.2.1)⟩
    exact ⟨e3.trans e2.symm, zr_in hS hR⟩
end
end
section
/-- the place of a pair among the first n contractions: 0 or it + 1 -/
def zq_k (CA CB : Nat → Nat) (a b : Nat) : Nat → Nat
  | 0 => 0
  | n + 1 => if zq_k CA CB a b n ≠ 0 then zq_k CA CB a b n else if CA n = a ∧ CB n = b then n + 1 else 0
theorem zq_le {CA CB : Nat → Nat} {a b : Nat} : ∀ n, zq_k CA CB a b n ≤ n
  | 0 => Nat.le_refl _
  | n + 1 => by
    have := zq_le (CA := CA) (CB := CB) (a := a) (b := b) n
    unfold zq_k; split
    · omega
    · split <;> omega
theorem zq_s {CA CB : Nat → Nat} {a b n : Nat} (h : zq_k CA CB a b n = 0) (g : ¬ (CA n = a ∧ CB n = b)) : zq_k CA CB a b (n + 1) = 0 := by
  rw [zq_k, h, if_neg (by omega), if_neg g]
theorem zq_t {CA CB : Nat → Nat} {a b n : Nat} (h : zq_k CA CB a b n = 0) (g : CA n = a ∧ CB n = b) : zq_k CA CB a b (n + 1) = n + 1 := by
  rw [zq_k, h, if_neg (by omega), if_pos g]
theorem zq_st {CA CB : Nat → Nat} {a b n : Nat} (h : zq_k CA CB a b n ≠ 0) : ∀ m, n ≤ m → zq_k CA CB a b m = zq_k CA CB a b n
  | 0, hm => by
    have : n = 0 := by omega
    rw [this]
  | m + 1, hm => by
    by_cases e : n = m + 1
    · rw [e]
    · have ih := zq_st h m (by omega)
      rw [zq_k, ih, if_pos h]
theorem zd_off {W A B : Nat → Nat} {c : Nat} : ∀ f x, (zd_D (za_U W c 0) A B 2 f x).length ≤ (zd_D W A B 2 f x).length
  | 0, x => Nat.le_refl _
  | f + 1, x => by
    have ha := zd_off (W := W) (A := A) (B := B) (c := c) f (A x)
    have hb := zd_off (W := W) (A := A) (B := B) (c := c) f (B x - 1)
    have hp := zd_pos (W := W) (A := A) (B := B) (m := 2) f (A x)
    unfold zd_D
    by_cases e : x = c
    · rw [e, za_Us, if_pos (Or.inl rfl)]
      split
      · exact Nat.le_refl _
      · rw [e] at hp
        simp only [List.length_append, List.length_cons, List.length_nil]; omega
    · rw [za_Un e]
      by_cases h : W x = 0 ∨ 2 < W x
      · rw [if_pos h, if_pos h]; exact Nat.le_refl _
      · rw [if_neg h, if_neg h]
        simp only [List.length_append]
        by_cases hb0 : B x = 0
        · rw [if_pos hb0, if_pos hb0]; omega
        · rw [if_neg hb0, if_neg hb0]; omega
section
variable {cn : Nat} {rg rs nn : Int32} {O W LO UA KI F1 F2 F3 DI CA CB CT T LN : Nat → Nat} {E UB LA EA dA dB eB fu fz pr wh ro sz em hg lv bh rl rr rv ou nx sl pA pB wt yB lo re yr fo fl ele els eb yl se pg yo : Nat → Int32}
variable {A B : Nat → Nat}
theorem zx_conOf {post : Int32 → Prop} {a b : Nat} (hcn : cn ≤ 6) (ha : a < 48) (hb : b < 48) (hC : ∀ j, j < 6 → CA j < 48 ∧ CB j < 48 ∧ CT j < 48)
    (H : post (nI (zq_k CA CB a b cn) - 1)) : wpX_contractionOf post ((nI cn), rg, (za_F O), (za_F W), dA, dB, E, (za_F LO), (za_F UA), UB, LA, (za_F KI), (za_F F1), (za_F F2), (za_F F3), (za_F DI), EA, eB, (za_F CA), (za_F CB), (za_F CT), fu, fz, pr, wh, (za_F T), (za_F LN), ro, sz, em, hg, lv, bh, rl, rr, rv, ou, nx, sl) (nI a) (nI b) := by
  have key : ∀ n i, cn < n + i → i ≤ cn → zq_k CA CB a b i = 0 → wX_contractionOf_2 post (nI a) (nI b) (nI cn) rg (za_F O) (za_F W) dA dB E (za_F LO) (za_F UA) UB LA (za_F KI) (za_F F1) (za_F F2) (za_F F3) (za_F DI) EA eB (za_F CA) (za_F CB) (za_F CT) fu fz pr wh (za_F T) (za_F LN) ro sz em hg lv bh rl rr rv ou nx sl n (nI i) := by
    intro n
    induction n with
    | zero => intro i h1 h2; omega
    | succ n ih =>
      intro i h1 h2 h3
      refine pk_le cn i (fun h => pk_le cn i (fun _ => ?_) (fun q => by omega)) (fun h => ⟨vp_in_nI (by omega) (by decide), ?_⟩)
      · have : i = cn := by omega
        subst this
        rw [h3] at H; exact H
      · have ei : (nI i).toNatClampNeg = i := nI_clamp (by omega)
        have hc := hC i (by omega)
        refine pk_eq (CA i) a (fun e1 => ⟨vp_in_nI (by omega) (by decide), ?_⟩) (fun e1 => nm_r (nI_1 _) (ih (i + 1) (by omega) (by omega) (zq_s h3 (by omega)))) (by rw [ei]; rfl) rfl
        refine pk_eq (CB i) b (fun e2 => pk_le cn i (fun q => by omega) (fun _ => ?_)) (fun e2 => nm_r (nI_1 _) (ih (i + 1) (by omega) (by omega) (zq_s h3 (by omega)))) (by rw [ei]; rfl) rfl
        have ef := zq_t h3 ⟨e1, e2⟩
        rw [zq_st (n := i + 1) (by omega) cn (by omega), ef, nI_pred] at H
        exact H
  exact ⟨cn + 1, key _ 0 (by omega) (by omega) rfl⟩
theorem zy_con {post : Int32 → Prop} {a b : Nat} (hcn : cn ≤ 6) (ha : a < 48) (hb : b < 48) (hC : ∀ j, j < 6 → CA j < 48 ∧ CB j < 48 ∧ CT j < 48)
    (H : post (nI (zq_k CA CB a b cn) - 1)) : wpY_contraction post ((nI cn), rs, nn, (za_F O), (za_F W), pA, pB, (za_F LO), (za_F UA), UB, LA, (za_F KI), wt, EA, yB, (za_F DI), E, (za_F CA), (za_F CB), (za_F CT), lo, (za_F T), (za_F LN), re, yr, fo, fl, ele, els, eb, yl, se, pg, yo) (nI a) (nI b) := by
  have key : ∀ n i, cn < n + i → i ≤ cn → zq_k CA CB a b i = 0 → wY_contraction_2 post (nI a) (nI b) (nI cn) rs nn (za_F O) (za_F W) pA pB (za_F LO) (za_F UA) UB LA (za_F KI) wt EA yB (za_F DI) E (za_F CA) (za_F CB) (za_F CT) lo (za_F T) (za_F LN) re yr fo fl ele els eb yl se pg yo n (nI i) := by
    intro n
    induction n with
    | zero => intro i h1 h2; omega
    | succ n ih =>
      intro i h1 h2 h3
      refine pk_le cn i (fun h => ?_) (fun h => ⟨vp_in_nI (by omega) (by decide), ?_⟩)
      · have : i = cn := by omega
        subst this
        rw [h3] at H; exact H
      · have ei : (nI i).toNatClampNeg = i := nI_clamp (by omega)
        have hc := hC i (by omega)
        refine pk_eq (CA i) a (fun e1 => ⟨vp_in_nI (by omega) (by decide), ?_⟩) (fun e1 => nm_r (nI_1 _) (ih (i + 1) (by omega) (by omega) (zq_s h3 (by omega)))) (by rw [ei]; rfl) rfl
        refine pk_eq (CB i) b (fun e2 => ?_) (fun e2 => nm_r (nI_1 _) (ih (i + 1) (by omega) (by omega) (zq_s h3 (by omega)))) (by rw [ei]; rfl) rfl
        have ef := zq_t h3 ⟨e1, e2⟩
        rw [zq_st (n := i + 1) (by omega) cn (by omega), ef, nI_pred] at H
        exact H
  exact ⟨cn + 1, key _ 0 (by omega) (by omega) rfl⟩
theorem za_UU {f : Nat → Nat} {k v : Nat} : za_U (za_U f k v) k (f k) = f := by
  funext j
  by_cases e : j = k
  · rw [e, za_Us]
  · rw [za_Un e, za_Un e]
/-- a new way of a character in X: learned, or taken back -/
theorem zx_s53 {post : Int32 → SX → Prop} {A' B' : Nat → Nat} {c w : Nat} {x3 x4 : Int32} (hc : c < 48) (hw : w ≤ 2) (hW2 : ∀ d, d < 48 → W d ≤ 2)
    (hW : zd_W W A B) (hA : ∀ d, d < 48 → W d ≠ 0 → dA d = nI (A d) ∧ dB d = nI (B d) - 1)
    (hW' : zd_W (za_U W c w) A' B') (hA' : ∀ d, d < 48 → za_U W c w d ≠ 0 → upd dA c (vp_nar .byte x3.toInt8.toInt32) d = nI (A' d) ∧ upd dB c (vp_nar .byte x4.toInt8.toInt32) d = nI (B' d) - 1)
    (Hok : zd_G (za_U W c w) A' B' → ∀ fu fz pr wh, zx_tb (za_U W c w) A' B' fu fz 48 → zh_T pr wh 48 (fun a b => zc_o (za_U W c w) A' B' E a b 48) → post 1 ((nI cn), rg, (za_F O), (za_F (za_U W c w)), (upd dA c (vp_nar .byte x3.toInt8.toInt32)), (upd dB c (vp_nar .byte x4.toInt8.toInt32)), E, (za_F LO), (za_F UA), UB, LA, (za_F KI), (za_F F1), (za_F F2), (za_F F3), (za_F DI), EA, eB, (za_F CA), (za_F CB), (za_F CT), fu, fz, pr, wh, (za_F T), (za_F LN), ro, sz, em, hg, lv, bh, rl, rr, rv, ou, nx, sl))
    (hG : zd_G W A B)
    (Hno : ¬ zd_G (za_U W c w) A' B' → ∀ dA dB fu fz pr wh, (∀ d, d < 48 → W d ≠ 0 → dA d = nI (A d) ∧ dB d = nI (B d) - 1) → zx_tb W A B fu fz 48 → zh_T pr wh 48 (fun a b => zc_o W A B E a b 48) → post 0 ((nI cn), rg, (za_F O), (za_F W), dA, dB, E, (za_F LO), (za_F UA), UB, LA, (za_F KI), (za_F F1), (za_F F2), (za_F F3), (za_F DI), EA, eB, (za_F CA), (za_F CB), (za_F CT), fu, fz, pr, wh, (za_F T), (za_F LN), ro, sz, em, hg, lv, bh, rl, rr, rv, ou, nx, sl)) :
    wX_structure_53 post (nI c) x3 x4 (nI (W c)) (dA c) (dB c) (nI w) (nI c) (nI cn) rg (za_F O) (za_F W) dA dB E (za_F LO) (za_F UA) UB LA (za_F KI) (za_F F1) (za_F F2) (za_F F3) (za_F DI) EA eB (za_F CA) (za_F CB) (za_F CT) fu fz pr wh (za_F T) (za_F LN) ro sz em hg lv bh rl rr rv ou nx sl := by
  have hvc : vp_in (nI c) 48 := vp_in_nI hc (by decide)
  have ec : (nI c).toNatClampNeg = c := nI_clamp (by omega)
  have hwc := hW2 c hc
  refine ⟨hvc, nm_r (e' := za_F (za_U W c w)) (by rw [ec, za_nb2 (by omega), za_Fu]) ⟨hvc, nm_r (e' := upd dA c (vp_nar .byte x3.toInt8.toInt32)) (by rw [ec]) ⟨hvc, nm_r (e' := upd dB c (vp_nar .byte x4.toInt8.toInt32)) (by rw [ec]) ?_⟩⟩⟩
  refine zx_learn hW' (fun d hd => ?_) hA' (fun g fu fz pr wh t1 t2 => ?_) (fun g fu fz pr wh => ?_)
  · unfold za_U; split
    · exact hw
    · exact hW2 d hd
  · exact br_f (by decide) (Hok g fu fz pr wh t1 t2)
  · refine br_t rfl ⟨hvc, ?_⟩
    refine nm_r (e' := za_F W) (by rw [ec, za_nb2 (by omega), za_Fu, za_UU]) ⟨hvc, nm_e ⟨hvc, nm_e ?_⟩⟩
    rw [ec]
    have hA2 : ∀ d, d < 48 → W d ≠ 0 → upd (upd dA c (vp_nar .byte x3.toInt8.toInt32)) c (vp_nar .byte (dA c).toInt8.toInt32) d = nI (A d) ∧ upd (upd dB c (vp_nar .byte x4.toInt8.toInt32)) c (vp_nar .byte (dB c).toInt8.toInt32) d = nI (B d) - 1 := by
      intro d hd hw0
      have hh := hA d hd hw0
      have hw2 := hW d hd hw0
      by_cases e : d = c
      · subst e
        rw [pk_us, pk_us, hh.1, hh.2, za_nb2 (by omega)]
        refine ⟨rfl, ?_⟩
        by_cases hb : B d = 0
        · rw [hb]; exact za_nbm2
        · rw [za_p1 (by omega), za_nb2 (by omega)]
      · rw [pk_un e, pk_un e, pk_un e, pk_un e]
        exact hh
    refine zx_learn hW hW2 hA2 (fun _ fu fz pr wh t1 t2 => ?_) (fun g2 => absurd hG g2)
    exact Hno g _ _ fu fz pr wh hA2 t1 t2
/-- Y's check of the lengths -/
theorem zy_dec52 {post : Int32 → SY → Prop} {c : Nat} {x5 x6 x7 : Int32} (hc : c < 48) (hW2 : ∀ d, d < 48 → W d ≤ 2) (hW : zd_W W A B) (hA : ∀ d, d < 48 → W d ≠ 0 → pA d = nI (A d) ∧ pB d = nI (B d) - 1)
    (Hok : zd_G W A B → ∀ lo, post 1 ((nI cn), rs, nn, (za_F O), (za_F W), pA, pB, (za_F LO), (za_F UA), UB, LA, (za_F KI), wt, EA, yB, (za_F DI), E, (za_F CA), (za_F CB), (za_F CT), lo, (za_F T), (za_F LN), re, yr, fo, fl, ele, els, eb, yl, se, pg, yo))
    (Hno : ¬ zd_G W A B → ∀ lo, post 0 ((nI cn), rs, nn, (za_F O), (upd (za_F W) c x5), (upd pA c x6), (upd pB c x7), (za_F LO), (za_F UA), UB, LA, (za_F KI), wt, EA, yB, (za_F DI), E, (za_F CA), (za_F CB), (za_F CT), lo, (za_F T), (za_F LN), re, yr, fo, fl, ele, els, eb, yl, se, pg, yo)) :
    ∃ n, wY_decomposes_52 post (nI c) x5 x6 x7 (nI cn) rs nn n 1 0 (za_F O) (za_F W) pA pB (za_F LO) (za_F UA) UB LA (za_F KI) wt EA yB (za_F DI) E (za_F CA) (za_F CB) (za_F CT) lo (za_F T) (za_F LN) re yr fo fl ele els eb yl se pg yo := by
  have hvc : vp_in (nI c) 48 := vp_in_nI hc (by decide)
  have ec : (nI c).toNatClampNeg = c := nI_clamp (by omega)
  have key : ∀ n i x8 lo, 48 < n + i → i ≤ 48 → ((x8 = 1 ∧ ∀ j, j < i → lo j = nI (zd_d W A B 2 j).length ∧ (zd_d W A B 2 j).length ≤ 4) ∨ (x8 = 0 ∧ ¬ zd_G W A B)) → wY_decomposes_52 post (nI c) x5 x6 x7 (nI cn) rs nn n x8 (nI i) (za_F O) (za_F W) pA pB (za_F LO) (za_F UA) UB LA (za_F KI) wt EA yB (za_F DI) E (za_F CA) (za_F CB) (za_F CT) lo (za_F T) (za_F LN) re yr fo fl ele els eb yl se pg yo := by
    intro n
    induction n with
    | zero => intro i x8 lo h1 h2; omega
    | succ n ih =>
      intro i x8 lo h1 h2 h3
      refine pk_le 48 i (fun h => ?_) (fun h => ?_)
      · rcases h3 with ⟨rfl, h3⟩ | ⟨rfl, h3⟩
        · exact br_f (by decide) (Hok (fun d hd => (h3 d (by omega)).2) lo)
        · refine br_t rfl ⟨hvc, nm_r (e' := upd (za_F W) c x5) (by rw [ec]) ⟨hvc, nm_r (e' := upd pA c x6) (by rw [ec]) ⟨hvc, nm_r (e' := upd pB c x7) (by rw [ec]) (Hno h3 lo)⟩⟩⟩
      · have hvi : vp_in (nI i) 48 := vp_in_nI h (by decide)
        have ei : (nI i).toNatClampNeg = i := nI_clamp (by omega)
        have hwi := hW2 i h
        have h118 : ∀ z, (x8 = 1 → z = nI (zd_d W A B 2 i).length ∧ (zd_d W A B 2 i).length ≤ 8) → wY_decomposes_118 post (wY_decomposes_52 post (nI c) x5 x6 x7 (nI cn) rs nn n) (nI c) x5 x6 x7 x8 (nI i) z (nI i) (nI cn) rs nn (za_F O) (za_F W) pA pB (za_F LO) (za_F UA) UB LA (za_F KI) wt EA yB (za_F DI) E (za_F CA) (za_F CB) (za_F CT) lo (za_F T) (za_F LN) re yr fo fl ele els eb yl se pg yo := by
          intro z hz
          refine ⟨hvi, nm_r (e' := upd lo i z) (by rw [ei]) ⟨hvi, ?_⟩⟩
          rcases h3 with ⟨rfl, h3⟩ | ⟨rfl, h3⟩
          · obtain ⟨e1, e2⟩ := hz rfl
            refine pk_lt 4 (zd_d W A B 2 i).length (fun g => ?_) (fun g => ?_) rfl (by rw [ei, pk_us, e1])
            · refine nm_r (e' := 0) (by decide) (nm_r (nI_1 _) (ih (i + 1) 0 _ (by omega) (by omega) (Or.inr ⟨rfl, fun q => ?_⟩)))
              have := q i h; omega
            · refine nm_r (e' := 1) (by decide) (nm_r (nI_1 _) (ih (i + 1) 1 _ (by omega) (by omega) (Or.inl ⟨rfl, fun j hj => ?_⟩)))
              by_cases e : j = i
              · subst e
                rw [pk_us, e1]; exact ⟨rfl, by omega⟩
              · rw [pk_un e]; exact h3 j (by omega)
          · refine br_c (fun _ => ?_) (fun _ => ?_)
            · exact nm_r (e' := 0) (by decide) (nm_r (nI_1 _) (ih (i + 1) 0 _ (by omega) (by omega) (Or.inr ⟨rfl, h3⟩)))
            · exact nm_r (e' := 0) (by decide) (nm_r (nI_1 _) (ih (i + 1) 0 _ (by omega) (by omega) (Or.inr ⟨rfl, h3⟩)))
        refine ⟨hvi, pk_eq (W i) 0 (fun g => ?_) (fun g => ⟨hvi, ?_⟩) (by rw [ei]; rfl) rfl⟩
        · refine h118 1 (fun _ => ?_)
          rw [zd_no (Or.inl g)]
          exact ⟨rfl, by simp⟩
        · obtain ⟨a1, a2⟩ := hA i h g
          have hw := hW i h g
          have hy := zd_yes (m := 2) hW h g hwi
          have ea : pA (nI i).toNatClampNeg = nI (A i) := by rw [ei]; exact a1
          refine ⟨by rw [ea]; exact vp_in_nI (by omega) (by decide), hvi, ?_⟩
          rw [ea, nI_clamp (show A i < 2 ^ 31 by omega)]
          by_cases hb : B i = 0
          · refine br_f (by rw [ei, a2, hb]; decide) (h118 _ (fun e => ?_))
            rcases h3 with ⟨_, h3⟩ | ⟨h3, _⟩
            · obtain ⟨e1, e2⟩ := h3 (A i) (by omega)
              rw [hy, if_pos hb, List.append_nil, e1]
              exact ⟨nI_add _ 0, by omega⟩
            · rw [h3] at e; exact absurd e (by decide)
          · have eb : pB (nI i).toNatClampNeg = nI (B i - 1) := by rw [ei, a2, za_p1 (by omega)]
            refine br_t (by rw [eb]; exact nI_pos' (by omega)) ⟨hvi, by rw [eb]; exact vp_in_nI (by omega) (by decide), ?_⟩
            rw [eb, nI_clamp (show B i - 1 < 2 ^ 31 by omega)]
            refine h118 _ (fun e => ?_)
            rcases h3 with ⟨_, h3⟩ | ⟨h3, _⟩
            · obtain ⟨e1, e2⟩ := h3 (A i) (by omega)
              obtain ⟨e3, e4⟩ := h3 (B i - 1) (by omega)
              rw [hy, if_neg hb, e1, e3, nI_add, List.length_append]
              exact ⟨rfl, by omega⟩
            · rw [h3] at e; exact absurd e (by decide)
  exact ⟨49, key 49 0 1 lo (by omega) (by omega) (Or.inl ⟨rfl, fun j hj => by omega⟩)⟩
end
end
section
/-! describe: what is let in -/
def zf_r (x : Int32) (n : Nat) : Prop := ¬ x < 0 ∧ ¬ nI n ≤ x
def zf_n (x : Int32) (n : Nat) : Prop := ¬ x < -1 ∧ ¬ nI n ≤ x
theorem zf_r_nat {x : Int32} {n : Nat} (hn : n < 2 ^ 31) (h : zf_r x n) : ∃ f, f < n ∧ x = nI f := by
  rcases pk_ix x hn with g | g | g
  · exact absurd g h.1
  · exact absurd g h.2
  · exact g
theorem zf_n_nat {x : Int32} {n : Nat} (hn : n < 2 ^ 31) (h : zf_n x n) : ∃ f, f ≤ n ∧ x = nI f - 1 := by
  by_cases g : x < 0
  · refine ⟨0, Nat.zero_le _, ?_⟩
    have e : x = -1 := by
      apply Int32.toInt_inj.mp
      have h1 := h.1
      rw [Int32.lt_iff_toInt_lt] at h1 g
      rw [show (-1 : Int32).toInt = -1 by decide] at h1 ⊢
      rw [show (0 : Int32).toInt = 0 by decide] at g
      omega
    rw [e]; decide
  · obtain ⟨f, hf, e⟩ := zf_r_nat hn ⟨g, h.2⟩
    exact ⟨f + 1, by omega, by rw [nI_pred]; exact e⟩
theorem zf_succ {x : Int32} {n : Nat} (hn : n + 1 < 2 ^ 31) : nI n < x ↔ nI (n + 1) ≤ x := by
  rw [Int32.lt_iff_toInt_lt, Int32.le_iff_toInt_le, nI_toInt (by omega), nI_toInt hn]
  omega
theorem zf_rb {x : Int32} {n : Nat} {P Q : Prop} (h1 : zf_r x n → Q) (h0 : ¬ zf_r x n → P) : (x < 0 → P) ∧ (¬ x < 0 → ((nI n ≤ x → P) ∧ (¬ nI n ≤ x → Q))) :=
  ⟨fun a => h0 (fun q => q.1 a), fun a => ⟨fun b => h0 (fun q => q.2 b), fun b => h1 ⟨a, b⟩⟩⟩
theorem zf_nb {x : Int32} {n : Nat} {P Q : Prop} (h1 : zf_n x n → Q) (h0 : ¬ zf_n x n → P) : (x < (-1) → P) ∧ (¬ x < (-1) → ((nI n ≤ x → P) ∧ (¬ nI n ≤ x → Q))) :=
  ⟨fun a => h0 (fun q => q.1 a), fun a => ⟨fun b => h0 (fun q => q.2 b), fun b => h1 ⟨a, b⟩⟩⟩
theorem zx_isChar_b {post : Int32 → Prop} {x : Int32} (h1 : zf_r x 48 → post 1) (h0 : ¬ zf_r x 48 → post 0) : wpX_isChar post x := zf_rb h1 h0
theorem zx_orNone_b {post : Int32 → Prop} {x : Int32} (h1 : zf_n x 48 → post 1) (h0 : ¬ zf_n x 48 → post 0) : wpX_orNone post x := zf_nb h1 h0
theorem zy_in_rb {post : Int32 → Prop} {x : Int32} (n : Nat) (hn : n + 1 < 2 ^ 31) (h1 : zf_r x (n + 1) → post 1) (h0 : ¬ zf_r x (n + 1) → post 0) : wpY_in post x 0 (nI n) :=
  ⟨fun a => h0 (fun q => q.1 a), fun a => ⟨fun b => h0 (fun q => q.2 ((zf_succ hn).mp b)), fun b => h1 ⟨a, fun q => b ((zf_succ hn).mpr q)⟩⟩⟩
theorem zy_in_nb {post : Int32 → Prop} {x : Int32} (n : Nat) (hn : n + 1 < 2 ^ 31) (h1 : zf_n x (n + 1) → post 1) (h0 : ¬ zf_n x (n + 1) → post 0) : wpY_in post x (-1) (nI n) :=
  ⟨fun a => h0 (fun q => q.1 a), fun a => ⟨fun b => h0 (fun q => q.2 ((zf_succ hn).mp b)), fun b => h1 ⟨a, fun q => b ((zf_succ hn).mpr q)⟩⟩⟩
theorem zy_in_rc {post : Int32 → Prop} {x : Int32} {c : Nat} (hc : c < 48) (h1 : zf_r x c → post 1) (h0 : ¬ zf_r x c → post 0) : wpY_in post x 0 (nI c - 1) := by
  cases c with
  | zero =>
    have hn : ¬ zf_r x 0 := fun q => q.2 (Int32.not_lt.mp q.1)
    refine ⟨fun _ => h0 hn, fun a => ⟨fun _ => h0 hn, fun b => absurd ?_ b⟩⟩
    exact Int32.lt_of_lt_of_le (show (nI 0 - 1 : Int32) < 0 by decide) (Int32.not_lt.mp a)
  | succ c =>
    rw [nI_pred]
    exact zy_in_rb c (by omega) h1 h0
theorem zy_in_nc {post : Int32 → Prop} {x : Int32} {c : Nat} (hc : c < 48) (hc0 : 0 < c) (h1 : zf_n x c → post 1) (h0 : ¬ zf_n x c → post 0) : wpY_in post x (-1) (nI c - 1) := by
  obtain ⟨c, rfl⟩ : ∃ d, c = d + 1 := ⟨c - 1, by omega⟩
  rw [nI_pred]
  exact zy_in_nb c (by omega) h1 h0
theorem zf_15 {w : Nat} (h : w < 15) : w = 0 ∨ w = 1 ∨ w = 2 ∨ w = 3 ∨ w = 4 ∨ w = 5 ∨ w = 6 ∨ w = 7 ∨ w = 8 ∨ w = 9 ∨ w = 10 ∨ w = 11 ∨ w = 12 ∨ w = 13 ∨ w = 14 := by omega
def zf_v (c : Nat) (a b : Int32) : Nat → Prop
  | 0 => zf_r a 10
  | 1 => zf_r a c ∧ zf_n b c
  | 2 => zf_r a c ∧ zf_n b c
  | 3 => True
  | 4 => zf_r a 2
  | 5 => zf_r a 48
  | 6 => zf_r a 48 ∧ zf_n b 48
  | 7 => zf_n a 48
  | 8 => zf_r a 8
  | 9 => zf_r a 100 ∧ zf_r b 100
  | 10 => zf_r a 48 ∧ zf_r b 48
  | 11 => True
  | 12 => zf_r a 48 ∧ zf_r b 48
  | 13 => zf_r a 48
  | 14 => zf_r a 7
  | _ => False
section
variable {cn : Nat} {rg rs nn : Int32} {O W LO UA KI F1 F2 F3 DI CA CB CT T LN : Nat → Nat} {E UB LA EA dA dB eB fu fz pr wh ro sz em hg lv bh rl rr rv ou nx sl pA pB wt yB lo re yr fo fl ele els eb yl se pg yo : Nat → Int32}
variable {A B : Nat → Nat}
theorem zx_fits {post : Int32 → Prop} {c w : Nat} {a b : Int32} (hw : w < 15) (h1 : zf_v c a b w → post 1) (h0 : ¬ zf_v c a b w → post 0) : wpX_fits post ((nI cn), rg, (za_F O), (za_F W), dA, dB, E, (za_F LO), (za_F UA), UB, LA, (za_F KI), (za_F F1), (za_F F2), (za_F F3), (za_F DI), EA, eB, (za_F CA), (za_F CB), (za_F CT), fu, fz, pr, wh, (za_F T), (za_F LN), ro, sz, em, hg, lv, bh, rl, rr, rv, ou, nx, sl) (nI c) (nI w) a b := by
  have n1 : narrow .boolean (.int (1 : Int32)) = .int (1 : Int32) := rfl
  have n0 : narrow .boolean (.int (0 : Int32)) = .int (0 : Int32) := rfl
  have q1 : ¬ (1 : Int32) = 0 := by decide
  rcases zf_15 hw with rfl | rfl | rfl | rfl | rfl | rfl | rfl | rfl | rfl | rfl | rfl | rfl | rfl | rfl | rfl
  · exact br_f (by decide) (br_f (by decide) (br_t rfl (zf_rb (n := 10) h1 h0)))
  · exact br_f (by decide) (br_f (by decide) (br_f (by decide) (br_t rfl (zf_rb (n := c) (fun g => zf_nb (n := c) (fun g2 => h1 ⟨g, g2⟩) (fun g2 => h0 (fun q => g2 q.2))) (fun g => h0 (fun q => g q.1))))))
  · exact br_f (by decide) (br_f (by decide) (br_f (by decide) (br_f (by decide) (br_t rfl (zf_rb (n := c) (fun g => zf_nb (n := c) (fun g2 => h1 ⟨g, g2⟩) (fun g2 => h0 (fun q => g2 q.2))) (fun g => h0 (fun q => g q.1)))))))
  · exact br_f (by decide) (br_f (by decide) (br_f (by decide) (br_f (by decide) (br_f (by decide) (br_t rfl (h1 trivial))))))
  · exact br_f (by decide) (br_f (by decide) (br_f (by decide) (br_f (by decide) (br_f (by decide) (br_f (by decide) (br_t rfl (br_c (fun e => h1 (by rw [e]; exact ⟨by decide, by decide⟩)) (fun e => br_c (fun e2 => h1 (by rw [e2]; exact ⟨by decide, by decide⟩)) (fun e2 => h0 (fun q => by obtain ⟨f, hf, rfl⟩ := zf_r_nat (by decide) q; rcases Nat.lt_or_ge f 1 with g | g; (· exact e (congrArg nI (show f = 0 by omega))); (· exact e2 (congrArg nI (show f = 1 by omega)))))))))))))
  · exact br_f (by decide) (br_f (by decide) (br_f (by decide) (br_f (by decide) (br_f (by decide) (br_f (by decide) (br_f (by decide) (br_t rfl (zx_isChar_b (fun g => ⟨n1, h1 g⟩) (fun g => ⟨n0, h0 g⟩)))))))))
  · exact br_f (by decide) (br_f (by decide) (br_f (by decide) (br_f (by decide) (br_f (by decide) (br_f (by decide) (br_f (by decide) (br_f (by decide) (br_t rfl (zx_isChar_b (fun g => br_f q1 (zx_orNone_b (fun g2 => br_f q1 (h1 ⟨g, g2⟩)) (fun g2 => br_t rfl (h0 (fun q => g2 q.2))))) (fun g => br_t rfl (h0 (fun q => g q.1))))))))))))
  · exact br_f (by decide) (br_f (by decide) (br_f (by decide) (br_f (by decide) (br_f (by decide) (br_f (by decide) (br_f (by decide) (br_f (by decide) (br_f (by decide) (br_t rfl (zx_orNone_b (fun g => ⟨n1, h1 g⟩) (fun g => ⟨n0, h0 g⟩)))))))))))
  · exact br_f (by decide) (br_f (by decide) (br_f (by decide) (br_f (by decide) (br_f (by decide) (br_f (by decide) (br_f (by decide) (br_f (by decide) (br_f (by decide) (br_f (by decide) (br_t rfl (zf_rb (n := 8) h1 h0)))))))))))
  · exact br_f (by decide) (br_f (by decide) (br_f (by decide) (br_f (by decide) (br_f (by decide) (br_f (by decide) (br_f (by decide) (br_f (by decide) (br_f (by decide) (br_f (by decide) (br_f (by decide) (br_t rfl (zf_rb (n := 100) (fun g => zf_rb (n := 100) (fun g2 => h1 ⟨g, g2⟩) (fun g2 => h0 (fun q => g2 q.2))) (fun g => h0 (fun q => g q.1))))))))))))))
  · exact br_f (by decide) (br_f (by decide) (br_f (by decide) (br_f (by decide) (br_f (by decide) (br_f (by decide) (br_f (by decide) (br_f (by decide) (br_f (by decide) (br_f (by decide) (br_f (by decide) (br_f (by decide) (br_t rfl (zx_isChar_b (fun g => br_f q1 (zx_isChar_b (fun g2 => br_f q1 (h1 ⟨g, g2⟩)) (fun g2 => br_t rfl (h0 (fun q => g2 q.2))))) (fun g => br_t rfl (h0 (fun q => g q.1))))))))))))))))
  · exact br_f (by decide) (br_f (by decide) (br_f (by decide) (br_f (by decide) (br_f (by decide) (br_f (by decide) (br_f (by decide) (br_f (by decide) (br_f (by decide) (br_f (by decide) (br_f (by decide) (br_f (by decide) (br_f (by decide) (br_t rfl (h1 trivial))))))))))))))
  · exact br_f (by decide) (br_f (by decide) (br_f (by decide) (br_f (by decide) (br_f (by decide) (br_f (by decide) (br_f (by decide) (br_f (by decide) (br_f (by decide) (br_f (by decide) (br_f (by decide) (br_f (by decide) (br_f (by decide) (br_f (by decide) (br_t rfl (zx_isChar_b (fun g => br_f q1 (zx_isChar_b (fun g2 => br_f q1 (h1 ⟨g, g2⟩)) (fun g2 => br_t rfl (h0 (fun q => g2 q.2))))) (fun g => br_t rfl (h0 (fun q => g q.1))))))))))))))))))
  · exact br_f (by decide) (br_f (by decide) (br_f (by decide) (br_f (by decide) (br_f (by decide) (br_f (by decide) (br_f (by decide) (br_f (by decide) (br_f (by decide) (br_f (by decide) (br_f (by decide) (br_f (by decide) (br_f (by decide) (br_f (by decide) (br_f (by decide) (br_t rfl (zx_isChar_b (fun g => ⟨n1, h1 g⟩) (fun g => ⟨n0, h0 g⟩)))))))))))))))))
  · exact br_f (by decide) (br_t (by decide) (br_t rfl (zf_rb (n := 7) h1 h0)))
theorem zy_desc {post : Int32 → SY → Prop} {c w : Nat} {a b : Int32} (hc : c < 48) (hw : w < 15) (h1 : zf_v c a b w → wY_describe_185 post (nI c) (nI w) a b (nI cn) rs nn (za_F O) (za_F W) pA pB (za_F LO) (za_F UA) UB LA (za_F KI) wt EA yB (za_F DI) E (za_F CA) (za_F CB) (za_F CT) lo (za_F T) (za_F LN) re yr fo fl ele els eb yl se pg yo) (h0 : ¬ zf_v c a b w → post 0 ((nI cn), rs, nn, (za_F O), (za_F W), pA, pB, (za_F LO), (za_F UA), UB, LA, (za_F KI), wt, EA, yB, (za_F DI), E, (za_F CA), (za_F CB), (za_F CT), lo, (za_F T), (za_F LN), re, yr, fo, fl, ele, els, eb, yl, se, pg, yo)) : wpY_describe post ((nI cn), rs, nn, (za_F O), (za_F W), pA, pB, (za_F LO), (za_F UA), UB, LA, (za_F KI), wt, EA, yB, (za_F DI), E, (za_F CA), (za_F CB), (za_F CT), lo, (za_F T), (za_F LN), re, yr, fo, fl, ele, els, eb, yl, se, pg, yo) (nI c) (nI w) a b := by
  have q1 : ¬ (1 : Int32) = 0 := by decide
  unfold wpY_describe
  dsimp only
  refine zy_isChar_t hc (br_f q1 (zy_in_t (a := 0) (b := 14) (Nat.zero_le _) (by omega) (by decide) (br_f q1 ?_)))
  rcases zf_15 hw with rfl | rfl | rfl | rfl | rfl | rfl | rfl | rfl | rfl | rfl | rfl | rfl | rfl | rfl | rfl
  · exact br_t rfl (br_t rfl (br_f (by decide) (br_f (by decide) (br_f (by decide) (zy_in_rb 9 (by decide) (fun g => br_f q1 (br_f (by decide) (br_f (by decide) (br_f (by decide) (br_f (by decide) (br_f (by decide) (br_f (by decide) (h1 g)))))))) (fun g => br_t rfl (h0 g)))))))
  · exact br_f (by decide) (br_f (by decide) (br_f (by decide) (br_f (by decide) (br_f (by decide) (br_t rfl (br_f (by decide) (br_f (by decide) (br_f (by decide) (zy_in_rc hc (fun g => br_f q1 (br_t rfl (zy_in_nc hc (by have := zf_r_nat (by omega) g; obtain ⟨f, hf, _⟩ := this; omega) (fun g2 => br_f q1 (br_f (by decide) (br_f (by decide) (br_f (by decide) (h1 ⟨g, g2⟩))))) (fun g2 => br_t rfl (h0 (fun q => g2 q.2)))))) (fun g => br_t rfl (h0 (fun q => g q.1))))))))))))
  · exact br_f (by decide) (br_f (by decide) (br_f (by decide) (br_f (by decide) (br_f (by decide) (br_f (by decide) (br_t rfl (br_f (by decide) (br_f (by decide) (br_f (by decide) (zy_in_rc hc (fun g => br_f q1 (br_f (by decide) (br_t rfl (zy_in_nc hc (by have := zf_r_nat (by omega) g; obtain ⟨f, hf, _⟩ := this; omega) (fun g2 => br_f q1 (br_f (by decide) (br_f (by decide) (br_f (by decide) (h1 ⟨g, g2⟩))))) (fun g2 => br_t rfl (h0 (fun q => g2 q.2))))))) (fun g => br_t rfl (h0 (fun q => g q.1)))))))))))))
  · exact br_f (by decide) (br_f (by decide) (br_f (by decide) (br_f (by decide) (br_f (by decide) (br_f (by decide) (br_f (by decide) (br_t rfl (br_f (by decide) (br_f (by decide) (br_f (by decide) (br_f (by decide) (br_f (by decide) (br_f (by decide) (h1 trivial))))))))))))))
  · exact br_f (by decide) (br_f (by decide) (br_t rfl (br_f (by decide) (br_f (by decide) (br_f (by decide) (zy_in_rb 1 (by decide) (fun g => br_f q1 (br_f (by decide) (br_f (by decide) (br_f (by decide) (br_f (by decide) (br_f (by decide) (br_f (by decide) (h1 g)))))))) (fun g => br_t rfl (h0 g))))))))
  · exact br_f (by decide) (br_f (by decide) (br_f (by decide) (br_f (by decide) (br_f (by decide) (br_f (by decide) (br_f (by decide) (br_f (by decide) (br_f (by decide) (br_f (by decide) (zy_in_rb 47 (by decide) (fun g => br_f q1 (br_f (by decide) (br_f (by decide) (br_f (by decide) (br_f (by decide) (br_f (by decide) (br_f (by decide) (h1 g)))))))) (fun g => br_t rfl (h0 g))))))))))))
  · exact br_f (by decide) (br_f (by decide) (br_f (by decide) (br_f (by decide) (br_f (by decide) (br_f (by decide) (br_f (by decide) (br_f (by decide) (br_f (by decide) (br_f (by decide) (zy_in_rb 47 (by decide) (fun g => br_f q1 (br_f (by decide) (br_f (by decide) (br_t rfl (zy_in_nb 47 (by decide) (fun g2 => br_f q1 (br_f (by decide) (br_f (by decide) (br_f (by decide) (h1 ⟨g, g2⟩))))) (fun g2 => br_t rfl (h0 (fun q => g2 q.2)))))))) (fun g => br_t rfl (h0 (fun q => g q.1)))))))))))))
  · exact br_f (by decide) (br_f (by decide) (br_f (by decide) (br_f (by decide) (br_f (by decide) (br_f (by decide) (br_f (by decide) (br_f (by decide) (br_f (by decide) (br_t rfl (zy_in_nb 47 (by decide) (fun g => br_f q1 (br_f (by decide) (br_f (by decide) (br_f (by decide) (br_f (by decide) (br_f (by decide) (br_f (by decide) (h1 g)))))))) (fun g => br_t rfl (h0 g))))))))))))
  · exact br_f (by decide) (br_t rfl (br_f (by decide) (br_f (by decide) (br_f (by decide) (br_f (by decide) (zy_in_rb 7 (by decide) (fun g => br_f q1 (br_f (by decide) (br_f (by decide) (br_f (by decide) (br_f (by decide) (br_f (by decide) (br_f (by decide) (h1 g)))))))) (fun g => br_t rfl (h0 g))))))))
  · exact br_f (by decide) (br_f (by decide) (br_f (by decide) (br_t rfl (br_f (by decide) (br_f (by decide) (br_f (by decide) (zy_in_rb 99 (by decide) (fun g => br_f q1 (br_f (by decide) (br_f (by decide) (br_f (by decide) (br_t rfl (zy_in_rb 99 (by decide) (fun g2 => br_f q1 (h1 ⟨g, g2⟩)) (fun g2 => br_t rfl (h0 (fun q => g2 q.2))))))))) (fun g => br_t rfl (h0 (fun q => g q.1))))))))))
  · exact br_f (by decide) (br_f (by decide) (br_f (by decide) (br_f (by decide) (br_f (by decide) (br_f (by decide) (br_f (by decide) (br_f (by decide) (br_f (by decide) (br_f (by decide) (zy_in_rb 47 (by decide) (fun g => br_f q1 (br_f (by decide) (br_f (by decide) (br_f (by decide) (br_f (by decide) (br_t rfl (zy_in_rb 47 (by decide) (fun g2 => br_f q1 (h1 ⟨g, g2⟩)) (fun g2 => br_t rfl (h0 (fun q => g2 q.2)))))))))) (fun g => br_t rfl (h0 (fun q => g q.1)))))))))))))
  · exact br_f (by decide) (br_f (by decide) (br_f (by decide) (br_f (by decide) (br_f (by decide) (br_f (by decide) (br_f (by decide) (br_f (by decide) (br_t rfl (br_f (by decide) (br_f (by decide) (br_f (by decide) (br_f (by decide) (br_f (by decide) (br_f (by decide) (h1 trivial)))))))))))))))
  · exact br_f (by decide) (br_f (by decide) (br_f (by decide) (br_f (by decide) (br_f (by decide) (br_f (by decide) (br_f (by decide) (br_f (by decide) (br_f (by decide) (br_f (by decide) (zy_in_rb 47 (by decide) (fun g => br_f q1 (br_f (by decide) (br_f (by decide) (br_f (by decide) (br_f (by decide) (br_f (by decide) (br_t rfl (zy_in_rb 47 (by decide) (fun g2 => br_f q1 (h1 ⟨g, g2⟩)) (fun g2 => br_t rfl (h0 (fun q => g2 q.2))))))))))) (fun g => br_t rfl (h0 (fun q => g q.1)))))))))))))
  · exact br_f (by decide) (br_f (by decide) (br_f (by decide) (br_f (by decide) (br_f (by decide) (br_f (by decide) (br_f (by decide) (br_f (by decide) (br_f (by decide) (br_f (by decide) (zy_in_rb 47 (by decide) (fun g => br_f q1 (br_f (by decide) (br_f (by decide) (br_f (by decide) (br_f (by decide) (br_f (by decide) (br_f (by decide) (h1 g)))))))) (fun g => br_t rfl (h0 g))))))))))))
  · exact br_f (by decide) (br_f (by decide) (br_f (by decide) (br_f (by decide) (br_t rfl (br_f (by decide) (br_f (by decide) (br_f (by decide) (zy_in_rb 6 (by decide) (fun g => br_f q1 (br_f (by decide) (br_f (by decide) (br_f (by decide) (br_f (by decide) (br_f (by decide) (br_f (by decide) (h1 g)))))))) (fun g => br_t rfl (h0 g))))))))))
end
end
section
section
variable {cn : Nat} {rg rs nn : Int32} {O W LO UA KI F1 F2 F3 DI CA CB CT T LN : Nat → Nat} {E UB LA EA dA dB eB fu fz pr wh ro sz em hg lv bh rl rr rv ou nx sl pA pB wt yB lo re yr fo fl ele els eb yl se pg yo : Nat → Int32}
variable {A B : Nat → Nat}
theorem zx_conOn {post : Int32 → SX → Prop} {a b z i cn' : Nat} (hcn : cn ≤ 6) (ha : a < 48) (hb : b < 48) (hz : z < 48) (hC : ∀ j, j < 6 → CA j < 48 ∧ CB j < 48 ∧ CT j < 48)
    (hi : i = if zq_k CA CB a b cn = 0 then cn else zq_k CA CB a b cn - 1) (hn : cn' = if zq_k CA CB a b cn = 0 then cn + 1 else cn)
    (H0 : zq_k CA CB a b cn = 0 ∧ cn = 6 → post 0 ((nI cn), rg, (za_F O), (za_F W), dA, dB, E, (za_F LO), (za_F UA), UB, LA, (za_F KI), (za_F F1), (za_F F2), (za_F F3), (za_F DI), EA, eB, (za_F CA), (za_F CB), (za_F CT), fu, fz, pr, wh, (za_F T), (za_F LN), ro, sz, em, hg, lv, bh, rl, rr, rv, ou, nx, sl))
    (H1 : ¬ (zq_k CA CB a b cn = 0 ∧ cn = 6) → post 1 ((nI cn'), rg, (za_F O), (za_F W), dA, dB, E, (za_F LO), (za_F UA), UB, LA, (za_F KI), (za_F F1), (za_F F2), (za_F F3), (za_F DI), EA, eB, (za_F (za_U CA i a)), (za_F (za_U CB i b)), (za_F (za_U CT i z)), fu, fz, pr, wh, (za_F T), (za_F LN), ro, sz, em, hg, lv, bh, rl, rr, rv, ou, nx, sl)) :
    wpX_contraction post ((nI cn), rg, (za_F O), (za_F W), dA, dB, E, (za_F LO), (za_F UA), UB, LA, (za_F KI), (za_F F1), (za_F F2), (za_F F3), (za_F DI), EA, eB, (za_F CA), (za_F CB), (za_F CT), fu, fz, pr, wh, (za_F T), (za_F LN), ro, sz, em, hg, lv, bh, rl, rr, rv, ou, nx, sl) (nI a) (nI b) (nI z) := by
  have hq := zq_le (CA := CA) (CB := CB) (a := a) (b := b) cn
  have h108 : ∀ (j m : Nat), j < 6 → (post 1 ((nI m), rg, (za_F O), (za_F W), dA, dB, E, (za_F LO), (za_F UA), UB, LA, (za_F KI), (za_F F1), (za_F F2), (za_F F3), (za_F DI), EA, eB, (za_F (za_U CA j a)), (za_F (za_U CB j b)), (za_F (za_U CT j z)), fu, fz, pr, wh, (za_F T), (za_F LN), ro, sz, em, hg, lv, bh, rl, rr, rv, ou, nx, sl)) → wX_contraction_108 post (nI a) (nI b) (nI z) (nI j) (nI m) rg (za_F O) (za_F W) dA dB E (za_F LO) (za_F UA) UB LA (za_F KI) (za_F F1) (za_F F2) (za_F F3) (za_F DI) EA eB (za_F CA) (za_F CB) (za_F CT) fu fz pr wh (za_F T) (za_F LN) ro sz em hg lv bh rl rr rv ou nx sl := by
    intro j m hj hp
    have hv : vp_in (nI j) 6 := vp_in_nI hj (by decide)
    have ej : (nI j).toNatClampNeg = j := nI_clamp (by omega)
    exact ⟨hv, nm_r (e' := za_F (za_U CA j a)) (by rw [ej, za_nb2 (by omega), za_Fu]) ⟨hv, nm_r (e' := za_F (za_U CB j b)) (by rw [ej, za_nb2 (by omega), za_Fu]) ⟨hv, nm_r (e' := za_F (za_U CT j z)) (by rw [ej, za_nb2 (by omega), za_Fu]) hp⟩⟩⟩
  unfold wpX_contraction
  dsimp only
  refine zx_conOf hcn ha hb hC (br_t (nI_pos' (by omega)) ?_)
  by_cases h : zq_k CA CB a b cn = 0
  · rw [if_pos h] at hi hn
    rw [h]
    refine br_f (by decide) (pk_eq cn 6 (fun e => H0 ⟨h, e⟩) (fun e => nm_r (nI_1 _) ?_))
    have := H1 (fun q => e q.2)
    rw [hi, hn] at this
    exact h108 cn (cn + 1) (by omega) this
  · rw [if_neg h] at hi hn
    rw [za_p1 (by omega)]
    refine br_t (nI_pos' (by omega)) ?_
    have := H1 (fun q => h q.1)
    rw [hi, hn] at this
    exact h108 _ cn (by omega) this
theorem zx_conOff {post : Int32 → SX → Prop} {a b : Nat} (hcn : cn ≤ 6) (ha : a < 48) (hb : b < 48) (hC : ∀ j, j < 6 → CA j < 48 ∧ CB j < 48 ∧ CT j < 48)
    (H0 : zq_k CA CB a b cn = 0 → post 1 ((nI cn), rg, (za_F O), (za_F W), dA, dB, E, (za_F LO), (za_F UA), UB, LA, (za_F KI), (za_F F1), (za_F F2), (za_F F3), (za_F DI), EA, eB, (za_F CA), (za_F CB), (za_F CT), fu, fz, pr, wh, (za_F T), (za_F LN), ro, sz, em, hg, lv, bh, rl, rr, rv, ou, nx, sl))
    (H1 : zq_k CA CB a b cn ≠ 0 → post 1 ((nI (cn - 1)), rg, (za_F O), (za_F W), dA, dB, E, (za_F LO), (za_F UA), UB, LA, (za_F KI), (za_F F1), (za_F F2), (za_F F3), (za_F DI), EA, eB, (za_F (za_U CA (zq_k CA CB a b cn - 1) (CA (cn - 1)))), (za_F (za_U CB (zq_k CA CB a b cn - 1) (CB (cn - 1)))), (za_F (za_U CT (zq_k CA CB a b cn - 1) (CT (cn - 1)))), fu, fz, pr, wh, (za_F T), (za_F LN), ro, sz, em, hg, lv, bh, rl, rr, rv, ou, nx, sl)) :
    wpX_contraction post ((nI cn), rg, (za_F O), (za_F W), dA, dB, E, (za_F LO), (za_F UA), UB, LA, (za_F KI), (za_F F1), (za_F F2), (za_F F3), (za_F DI), EA, eB, (za_F CA), (za_F CB), (za_F CT), fu, fz, pr, wh, (za_F T), (za_F LN), ro, sz, em, hg, lv, bh, rl, rr, rv, ou, nx, sl) (nI a) (nI b) (-1) := by
  have hq := zq_le (CA := CA) (CB := CB) (a := a) (b := b) cn
  unfold wpX_contraction
  dsimp only
  refine zx_conOf hcn ha hb hC (br_f (by decide) ?_)
  by_cases h : zq_k CA CB a b cn = 0
  · have := H0 h
    rw [h]
    exact br_f (by decide) this
  · rw [za_p1 (by omega)]
    have hv : vp_in (nI (zq_k CA CB a b cn - 1)) 6 := vp_in_nI (by omega) (by decide)
    have hv2 : vp_in (nI (cn - 1)) 6 := vp_in_nI (by omega) (by decide)
    have ej : (nI (zq_k CA CB a b cn - 1)).toNatClampNeg = zq_k CA CB a b cn - 1 := nI_clamp (by omega)
    have em : (nI (cn - 1)).toNatClampNeg = cn - 1 := nI_clamp (by omega)
    have hc := hC (cn - 1) (by omega)
    refine br_t (nI_pos' (by omega)) (nm_r (za_p1 (by omega)) ⟨hv2, hv, ?_⟩)
    refine nm_r (e' := za_F (za_U CA (zq_k CA CB a b cn - 1) (CA (cn - 1)))) (by rw [ej, em, za_Fa, za_nb (by omega), za_Fu]) ⟨hv2, hv, ?_⟩
    refine nm_r (e' := za_F (za_U CB (zq_k CA CB a b cn - 1) (CB (cn - 1)))) (by rw [ej, em, za_Fa, za_nb (by omega), za_Fu]) ⟨hv2, hv, ?_⟩
    refine nm_r (e' := za_F (za_U CT (zq_k CA CB a b cn - 1) (CT (cn - 1)))) (by rw [ej, em, za_Fa, za_nb (by omega), za_Fu]) ?_
    exact H1 h
theorem zy_conOn {post : Int32 → SY → Prop} {a b z i cn' : Nat} (hcn : cn ≤ 6) (ha : a < 48) (hb : b < 48) (hC : ∀ j, j < 6 → CA j < 48 ∧ CB j < 48 ∧ CT j < 48)
    (hi : i = if zq_k CA CB a b cn = 0 then cn else zq_k CA CB a b cn - 1) (hn : cn' = if zq_k CA CB a b cn = 0 then cn + 1 else cn)
    (H0 : zq_k CA CB a b cn = 0 ∧ cn = 6 → post 0 ((nI cn), rs, nn, (za_F O), (za_F W), pA, pB, (za_F LO), (za_F UA), UB, LA, (za_F KI), wt, EA, yB, (za_F DI), E, (za_F CA), (za_F CB), (za_F CT), lo, (za_F T), (za_F LN), re, yr, fo, fl, ele, els, eb, yl, se, pg, yo))
    (H1 : ¬ (zq_k CA CB a b cn = 0 ∧ cn = 6) → post 1 ((nI cn'), rs, nn, (za_F O), (za_F W), pA, pB, (za_F LO), (za_F UA), UB, LA, (za_F KI), wt, EA, yB, (za_F DI), E, (za_F (za_U CA i a)), (za_F (za_U CB i b)), (za_F (za_U CT i z)), lo, (za_F T), (za_F LN), re, yr, fo, fl, ele, els, eb, yl, se, pg, yo)) :
    wpY_contract post ((nI cn), rs, nn, (za_F O), (za_F W), pA, pB, (za_F LO), (za_F UA), UB, LA, (za_F KI), wt, EA, yB, (za_F DI), E, (za_F CA), (za_F CB), (za_F CT), lo, (za_F T), (za_F LN), re, yr, fo, fl, ele, els, eb, yl, se, pg, yo) (nI a) (nI b) (nI z) 1 := by
  have hq := zq_le (CA := CA) (CB := CB) (a := a) (b := b) cn
  have h52 : ∀ (j m : Nat), j < 6 → (post 1 ((nI m), rs, nn, (za_F O), (za_F W), pA, pB, (za_F LO), (za_F UA), UB, LA, (za_F KI), wt, EA, yB, (za_F DI), E, (za_F (za_U CA j a)), (za_F (za_U CB j b)), (za_F (za_U CT j z)), lo, (za_F T), (za_F LN), re, yr, fo, fl, ele, els, eb, yl, se, pg, yo)) → wY_contract_52 post (nI a) (nI b) (nI z) 1 (nI j) (nI m) rs nn (za_F O) (za_F W) pA pB (za_F LO) (za_F UA) UB LA (za_F KI) wt EA yB (za_F DI) E (za_F CA) (za_F CB) (za_F CT) lo (za_F T) (za_F LN) re yr fo fl ele els eb yl se pg yo := by
    intro j m hj hp
    have hv : vp_in (nI j) 6 := vp_in_nI hj (by decide)
    have ej : (nI j).toNatClampNeg = j := nI_clamp (by omega)
    exact br_f (by decide) ⟨hv, nm_r (e' := za_F (za_U CA j a)) (by rw [ej, za_Fu]) ⟨hv, nm_r (e' := za_F (za_U CB j b)) (by rw [ej, za_Fu]) ⟨hv, nm_r (e' := za_F (za_U CT j z)) (by rw [ej, za_Fu]) hp⟩⟩⟩
  unfold wpY_contract
  dsimp only
  refine zy_con hcn ha hb hC (br_f (by decide) ?_)
  by_cases h : zq_k CA CB a b cn = 0
  · rw [if_pos h] at hi hn
    rw [h]
    refine br_f (by decide) (pk_eq cn 6 (fun e => H0 ⟨h, e⟩) (fun e => br_f (by decide) (br_f (by decide) (nm_r (nI_1 _) ?_))))
    have := H1 (fun q => e q.2)
    rw [hi, hn] at this
    exact h52 cn (cn + 1) (by omega) this
  · rw [if_neg h] at hi hn
    rw [za_p1 (by omega)]
    refine br_t (nI_pos' (by omega)) (br_f (by decide) (br_t (nI_pos' (by omega)) ?_))
    have := H1 (fun q => h q.1)
    rw [hi, hn] at this
    exact h52 _ cn (by omega) this
theorem zy_conOff {post : Int32 → SY → Prop} {a b : Nat} {z : Int32} (hcn : cn ≤ 6) (ha : a < 48) (hb : b < 48) (hC : ∀ j, j < 6 → CA j < 48 ∧ CB j < 48 ∧ CT j < 48)
    (H0 : zq_k CA CB a b cn = 0 → post 1 ((nI cn), rs, nn, (za_F O), (za_F W), pA, pB, (za_F LO), (za_F UA), UB, LA, (za_F KI), wt, EA, yB, (za_F DI), E, (za_F CA), (za_F CB), (za_F CT), lo, (za_F T), (za_F LN), re, yr, fo, fl, ele, els, eb, yl, se, pg, yo))
    (H1 : zq_k CA CB a b cn ≠ 0 → post 1 ((nI (cn - 1)), rs, nn, (za_F O), (za_F W), pA, pB, (za_F LO), (za_F UA), UB, LA, (za_F KI), wt, EA, yB, (za_F DI), E, (za_F (za_U CA (zq_k CA CB a b cn - 1) (CA (cn - 1)))), (za_F (za_U CB (zq_k CA CB a b cn - 1) (CB (cn - 1)))), (za_F (za_U CT (zq_k CA CB a b cn - 1) (CT (cn - 1)))), lo, (za_F T), (za_F LN), re, yr, fo, fl, ele, els, eb, yl, se, pg, yo)) :
    wpY_contract post ((nI cn), rs, nn, (za_F O), (za_F W), pA, pB, (za_F LO), (za_F UA), UB, LA, (za_F KI), wt, EA, yB, (za_F DI), E, (za_F CA), (za_F CB), (za_F CT), lo, (za_F T), (za_F LN), re, yr, fo, fl, ele, els, eb, yl, se, pg, yo) (nI a) (nI b) z 0 := by
  have hq := zq_le (CA := CA) (CB := CB) (a := a) (b := b) cn
  unfold wpY_contract
  dsimp only
  refine zy_con hcn ha hb hC (br_t rfl (br_t rfl (br_t rfl ?_)))
  by_cases h : zq_k CA CB a b cn = 0
  · have := H0 h
    rw [h]
    exact br_t (by decide) this
  · rw [za_p1 (by omega)]
    have hv : vp_in (nI (zq_k CA CB a b cn - 1)) 6 := vp_in_nI (by omega) (by decide)
    have hv2 : vp_in (nI (cn - 1)) 6 := vp_in_nI (by omega) (by decide)
    have ej : (nI (zq_k CA CB a b cn - 1)).toNatClampNeg = zq_k CA CB a b cn - 1 := nI_clamp (by omega)
    have em : (nI (cn - 1)).toNatClampNeg = cn - 1 := nI_clamp (by omega)
    refine br_f (nI_pos (by omega)) (nm_r (za_p1 (by omega)) ⟨hv2, hv, ?_⟩)
    refine nm_r (e' := za_F (za_U CA (zq_k CA CB a b cn - 1) (CA (cn - 1)))) (by rw [ej, em, za_Fa, za_Fu]) ⟨hv2, hv, ?_⟩
    refine nm_r (e' := za_F (za_U CB (zq_k CA CB a b cn - 1) (CB (cn - 1)))) (by rw [ej, em, za_Fa, za_Fu]) ⟨hv2, hv, ?_⟩
    refine nm_r (e' := za_F (za_U CT (zq_k CA CB a b cn - 1) (CT (cn - 1)))) (by rw [ej, em, za_Fa, za_Fu]) ?_
    exact H1 h
end
end
section
section
variable {cn : Nat} {rg rs nn : Int32} {O W LO UA KI F1 F2 F3 DI CA CB CT T LN : Nat → Nat} {E UB LA EA dA dB eB fu fz pr wh ro sz em hg lv bh rl rr rv ou nx sl pA pB wt yB lo re yr fo fl ele els eb yl se pg yo : Nat → Int32}
variable {A B : Nat → Nat} {R : List Nat} {k : Nat}
theorem zr_sO (h : zr_St cn O W LO UA KI F1 F2 F3 DI CA CB CT T LN E UB LA EA dA dB eB fu fz pr wh pA pB wt yB A B) {c v : Nat} (hv : v < 10) : zr_St cn (za_U O c v) W LO UA KI F1 F2 F3 DI CA CB CT T LN E UB LA EA dA dB eB fu fz pr wh pA pB wt yB A B := ⟨fun d hd => by
    have g := h.1 d hd
    by_cases e : d = c
    · subst e; rw [za_Us]; exact ⟨⟨hv, g.1.2⟩, g.2⟩
    · rw [za_Un e]; exact g, h.2⟩
theorem zr_sLO (h : zr_St cn O W LO UA KI F1 F2 F3 DI CA CB CT T LN E UB LA EA dA dB eB fu fz pr wh pA pB wt yB A B) {c v : Nat} (hv : v < 48) : zr_St cn O W (za_U LO c v) UA KI F1 F2 F3 DI CA CB CT T LN E UB LA EA dA dB eB fu fz pr wh pA pB wt yB A B := ⟨fun d hd => by
    have g := h.1 d hd
    by_cases e : d = c
    · subst e; rw [za_Us]; exact ⟨⟨g.1.1, g.1.2.1, hv, g.1.2.2.2⟩, g.2⟩
    · rw [za_Un e]; exact g, h.2⟩
theorem zr_sUA (h : zr_St cn O W LO UA KI F1 F2 F3 DI CA CB CT T LN E UB LA EA dA dB eB fu fz pr wh pA pB wt yB A B) {c v : Nat} (hv : v < 48) : zr_St cn O W LO (za_U UA c v) KI F1 F2 F3 DI CA CB CT T LN E UB LA EA dA dB eB fu fz pr wh pA pB wt yB A B := ⟨fun d hd => by
    have g := h.1 d hd
    by_cases e : d = c
    · subst e; rw [za_Us]; exact ⟨⟨g.1.1, g.1.2.1, g.1.2.2.1, hv, g.1.2.2.2.2⟩, g.2⟩
    · rw [za_Un e]; exact g, h.2⟩
theorem zr_sKI (h : zr_St cn O W LO UA KI F1 F2 F3 DI CA CB CT T LN E UB LA EA dA dB eB fu fz pr wh pA pB wt yB A B) {c v : Nat} (hv : v < 8) : zr_St cn O W LO UA (za_U KI c v) F1 F2 F3 DI CA CB CT T LN E UB LA EA dA dB eB fu fz pr wh pA pB wt yB A B := ⟨fun d hd => by
    have g := h.1 d hd
    by_cases e : d = c
    · subst e; rw [za_Us]; exact ⟨⟨g.1.1, g.1.2.1, g.1.2.2.1, g.1.2.2.2.1, hv⟩, g.2⟩
    · rw [za_Un e]; exact g, h.2⟩
theorem zr_sDI (h : zr_St cn O W LO UA KI F1 F2 F3 DI CA CB CT T LN E UB LA EA dA dB eB fu fz pr wh pA pB wt yB A B) {c v : Nat} (hv : v < 7) : zr_St cn O W LO UA KI F1 F2 F3 (za_U DI c v) CA CB CT T LN E UB LA EA dA dB eB fu fz pr wh pA pB wt yB A B := ⟨fun d hd => by
    have g := h.1 d hd
    by_cases e : d = c
    · subst e; rw [za_Us]; exact ⟨g.1, ⟨g.2.1.1, g.2.1.2.1, g.2.1.2.2.1, hv⟩, g.2.2⟩
    · rw [za_Un e]; exact g, h.2⟩
theorem zr_sUB (h : zr_St cn O W LO UA KI F1 F2 F3 DI CA CB CT T LN E UB LA EA dA dB eB fu fz pr wh pA pB wt yB A B) {c : Nat} {x : Int32} (hx : za_o x) : zr_St cn O W LO UA KI F1 F2 F3 DI CA CB CT T LN E (upd UB c x) LA EA dA dB eB fu fz pr wh pA pB wt yB A B := ⟨fun d hd => by
    have g := h.1 d hd
    by_cases e : d = c
    · subst e; rw [pk_us]; exact ⟨g.1, g.2.1, g.2.2.1, hx, g.2.2.2.2⟩
    · rw [pk_un e]; exact g, h.2⟩
theorem zr_sLA (h : zr_St cn O W LO UA KI F1 F2 F3 DI CA CB CT T LN E UB LA EA dA dB eB fu fz pr wh pA pB wt yB A B) {c : Nat} {x : Int32} (hx : za_o x) : zr_St cn O W LO UA KI F1 F2 F3 DI CA CB CT T LN E UB (upd LA c x) EA dA dB eB fu fz pr wh pA pB wt yB A B := ⟨fun d hd => by
    have g := h.1 d hd
    by_cases e : d = c
    · subst e; rw [pk_us]; exact ⟨g.1, g.2.1, g.2.2.1, g.2.2.2.1, hx⟩
    · rw [pk_un e]; exact g, h.2⟩
theorem zr_sF (h : zr_St cn O W LO UA KI F1 F2 F3 DI CA CB CT T LN E UB LA EA dA dB eB fu fz pr wh pA pB wt yB A B) {c v1 v2 v3 : Nat} (h1 : v1 < 100) (h2 : v2 < 10) (h3 : v3 < 10) : zr_St cn O W LO UA KI (za_U F1 c v1) (za_U F2 c v2) (za_U F3 c v3) DI CA CB CT T LN E UB LA EA dA dB eB fu fz pr wh pA pB (upd (upd (upd wt (3 * c) (nI v1)) (3 * c + 1) (nI v2)) (3 * c + 2) (nI v3)) yB A B := ⟨fun d hd => by
    have g := h.1 d hd
    by_cases e : d = c
    · subst e; rw [za_Us, za_Us, za_Us]; exact ⟨g.1, ⟨h1, h2, h3, g.2.1.2.2.2⟩, g.2.2⟩
    · rw [za_Un e, za_Un e, za_Un e]; exact g, h.2.1, h.2.2.1, h.2.2.2.1, h.2.2.2.2.1, h.2.2.2.2.2.1, h.2.2.2.2.2.2.1, fun d hd => by
    have g := h.2.2.2.2.2.2.2.1 d hd
    by_cases e : d = c
    · subst e
      rw [za_Us, za_Us, za_Us]
      refine ⟨?_, ?_, ?_⟩
      · rw [pk_un (by omega), pk_un (by omega), pk_us]
      · rw [pk_un (by omega), pk_us]
      · exact pk_us
    · rw [za_Un e, za_Un e, za_Un e, pk_un (by omega), pk_un (by omega), pk_un (by omega), pk_un (by omega), pk_un (by omega), pk_un (by omega), pk_un (by omega), pk_un (by omega), pk_un (by omega)]
      exact g, h.2.2.2.2.2.2.2.2⟩
theorem zr_sE (h : zr_St cn O W LO UA KI F1 F2 F3 DI CA CB CT T LN E UB LA EA dA dB eB fu fz pr wh pA pB wt yB A B) {c : Nat} {x : Int32} {fu' fz' pr' wh' : Nat → Int32} (hx : x = 0 ∨ x = 1) (h1 : zx_tb W A B fu' fz' 48) (h2 : zh_T pr' wh' 48 (fun a b => zc_o W A B (upd E c x) a b 48)) : zr_St cn O W LO UA KI F1 F2 F3 DI CA CB CT T LN (upd E c x) UB LA EA dA dB eB fu' fz' pr' wh' pA pB wt yB A B := ⟨fun d hd => by
    have g := h.1 d hd
    by_cases e : d = c
    · subst e; rw [pk_us]; exact ⟨g.1, g.2.1, hx, g.2.2.2⟩
    · rw [pk_un e]; exact g, h.2.1, h.2.2.1, h.2.2.2.1, h.2.2.2.2.1, ⟨h1, h2⟩, h.2.2.2.2.2.2⟩
theorem zr_sX (h : zr_St cn O W LO UA KI F1 F2 F3 DI CA CB CT T LN E UB LA EA dA dB eB fu fz pr wh pA pB wt yB A B) {c : Nat} {x y z : Int32} (hx : (x = -1) ∨ ∃ a b, a < 48 ∧ b < 48 ∧ x = nI a ∧ y = nI b ∧ z = nI b) : zr_St cn O W LO UA KI F1 F2 F3 DI CA CB CT T LN E UB LA (upd EA c x) dA dB (upd eB c y) fu fz pr wh pA pB wt (upd yB c z) A B :=
  ⟨h.1, h.2.1, h.2.2.1, h.2.2.2.1, h.2.2.2.2.1, h.2.2.2.2.2.1, fun d hd => by
    have g := h.2.2.2.2.2.2.1 d hd
    by_cases e : d = c
    · subst e; rw [pk_us, pk_us, pk_us]; exact hx
    · rw [pk_un e, pk_un e, pk_un e]; exact g, h.2.2.2.2.2.2.2⟩
theorem zr_sX2 (h : zr_St cn O W LO UA KI F1 F2 F3 DI CA CB CT T LN E UB LA EA dA dB eB fu fz pr wh pA pB wt yB A B) {c : Nat} {y : Int32} : zr_St cn O W LO UA KI F1 F2 F3 DI CA CB CT T LN E UB LA (upd EA c (-1)) dA dB (upd eB c y) fu fz pr wh pA pB wt yB A B :=
  ⟨h.1, h.2.1, h.2.2.1, h.2.2.2.1, h.2.2.2.2.1, h.2.2.2.2.2.1, fun d hd => by
    have g := h.2.2.2.2.2.2.1 d hd
    by_cases e : d = c
    · subst e; rw [pk_us, pk_us]; exact Or.inl rfl
    · rw [pk_un e, pk_un e]; exact g, h.2.2.2.2.2.2.2⟩
theorem zr_sC (h : zr_St cn O W LO UA KI F1 F2 F3 DI CA CB CT T LN E UB LA EA dA dB eB fu fz pr wh pA pB wt yB A B) {cn' : Nat} {CA' CB' CT' : Nat → Nat} (hC : zr_C cn' CA' CB' CT') : zr_St cn' O W LO UA KI F1 F2 F3 DI CA' CB' CT' T LN E UB LA EA dA dB eB fu fz pr wh pA pB wt yB A B := ⟨h.1, hC, h.2.2⟩
theorem zr_sW (h : zr_St cn O W LO UA KI F1 F2 F3 DI CA CB CT T LN E UB LA EA dA dB eB fu fz pr wh pA pB wt yB A B) {w c : Nat} {A' B' : Nat → Nat} {dA' dB' pA' pB' fu' fz' pr' wh' : Nat → Int32} (hw : w ≤ 2) (hA : zr_A (za_U W c w) A' B' dA' dB' pA' pB') (hW : zd_W (za_U W c w) A' B') (hG : zd_G (za_U W c w) A' B') (hX : zr_X (za_U W c w) A' B' E fu' fz' pr' wh') :
    zr_St cn O (za_U W c w) LO UA KI F1 F2 F3 DI CA CB CT T LN E UB LA EA dA' dB' eB fu' fz' pr' wh' pA' pB' wt yB A' B' := ⟨fun d hd => by
    have g := h.1 d hd
    by_cases e : d = c
    · subst e; rw [za_Us]; exact ⟨⟨g.1.1, hw, g.1.2.2⟩, g.2⟩
    · rw [za_Un e]; exact g, h.2.1, hA, hW, hG, hX, h.2.2.2.2.2.2⟩
theorem zr_sW0 (h : zr_St cn O W LO UA KI F1 F2 F3 DI CA CB CT T LN E UB LA EA dA dB eB fu fz pr wh pA pB wt yB A B) {dA' dB' pA' pB' fu' fz' pr' wh' : Nat → Int32} (hA : zr_A W A B dA' dB' pA' pB') (hX : zr_X W A B E fu' fz' pr' wh') :
    zr_St cn O W LO UA KI F1 F2 F3 DI CA CB CT T LN E UB LA EA dA' dB' eB fu' fz' pr' wh' pA' pB' wt yB A B := ⟨h.1, h.2.1, hA, h.2.2.2.1, h.2.2.2.2.1, hX, h.2.2.2.2.2.2⟩
theorem zf_o {f n : Nat} (hf : f ≤ n) (hn : n ≤ 48) : za_o (nI f - 1) := by
  rcases Nat.eq_zero_or_pos f with h | h
  · rw [h]; exact Or.inl (by decide)
  · rw [za_p1 h]; exact Or.inr ⟨f - 1, by omega, rfl⟩
theorem zv_d0 (hS : zr_St cn O W LO UA KI F1 F2 F3 DI CA CB CT T LN E UB LA EA dA dB eB fu fz pr wh pA pB wt yB A B) (hR : zr_R R ro sz re rs) {c : Nat} (hc : c < 48) {a b : Int32} (hv : zf_v c a b 0) : wpX_describe (fun r u' => wpY_describe (fun r' v' => r' = r ∧ i_Rel (k + 5) u' v') ((nI cn), rs, nn, (za_F O), (za_F W), pA, pB, (za_F LO), (za_F UA), UB, LA, (za_F KI), wt, EA, yB, (za_F DI), E, (za_F CA), (za_F CB), (za_F CT), lo, (za_F T), (za_F LN), re, yr, fo, fl, ele, els, eb, yl, se, pg, yo) (nI c) (nI 0) a b) ((nI cn), rg, (za_F O), (za_F W), dA, dB, E, (za_F LO), (za_F UA), UB, LA, (za_F KI), (za_F F1), (za_F F2), (za_F F3), (za_F DI), EA, eB, (za_F CA), (za_F CB), (za_F CT), fu, fz, pr, wh, (za_F T), (za_F LN), ro, sz, em, hg, lv, bh, rl, rr, rv, ou, nx, sl) (nI c) (nI 0) a b := by
  have hvc : vp_in (nI c) 48 := vp_in_nI hc (by decide)
  have ec : (nI c).toNatClampNeg = c := nI_clamp (by omega)
  have n1 : narrow .boolean (.int (1 : Int32)) = .int (1 : Int32) := rfl
  have n0 : narrow .boolean (.int (0 : Int32)) = .int (0 : Int32) := rfl
  have h10 : ¬ (10 : Int32) = 0 := by decide
  unfold wpX_describe
  dsimp only
  refine zx_isChar_t hc (br_f (by decide) (zx_fits (w := 0) (by omega) (fun _ => br_f (by decide) ?_) (fun h => absurd hv h)))
  obtain ⟨f, hf, rfl⟩ := zf_r_nat (by decide) hv
  refine br_f (by decide) (br_t rfl ⟨hvc, nm_r (e' := za_F (za_U O c f)) (by rw [ec, za_nb2 (by omega), za_Fu]) ⟨n1, ?_⟩⟩)
  exact zy_desc hc (by omega) (fun _ => br_f (by decide) (br_f (by decide) (br_f (by decide) (br_f (by decide) (br_t rfl ⟨hvc, nm_r (e' := za_F (za_U O c f)) (by rw [ec, za_Fu]) (br_f (by decide) (br_f (by decide) (br_f (by decide) (br_f (by decide) (br_f (by decide) (br_f (by decide) (br_f (by decide) (br_f (by decide) (br_f (by decide) (br_f (by decide) (br_f (by decide) (⟨rfl, zr_in (zr_sO hS hf) hR⟩))))))))))))⟩))))) (fun h => absurd hv h)
theorem zv_d5 (hS : zr_St cn O W LO UA KI F1 F2 F3 DI CA CB CT T LN E UB LA EA dA dB eB fu fz pr wh pA pB wt yB A B) (hR : zr_R R ro sz re rs) {c : Nat} (hc : c < 48) {a b : Int32} (hv : zf_v c a b 5) : wpX_describe (fun r u' => wpY_describe (fun r' v' => r' = r ∧ i_Rel (k + 5) u' v') ((nI cn), rs, nn, (za_F O), (za_F W), pA, pB, (za_F LO), (za_F UA), UB, LA, (za_F KI), wt, EA, yB, (za_F DI), E, (za_F CA), (za_F CB), (za_F CT), lo, (za_F T), (za_F LN), re, yr, fo, fl, ele, els, eb, yl, se, pg, yo) (nI c) (nI 5) a b) ((nI cn), rg, (za_F O), (za_F W), dA, dB, E, (za_F LO), (za_F UA), UB, LA, (za_F KI), (za_F F1), (za_F F2), (za_F F3), (za_F DI), EA, eB, (za_F CA), (za_F CB), (za_F CT), fu, fz, pr, wh, (za_F T), (za_F LN), ro, sz, em, hg, lv, bh, rl, rr, rv, ou, nx, sl) (nI c) (nI 5) a b := by
  have hvc : vp_in (nI c) 48 := vp_in_nI hc (by decide)
  have ec : (nI c).toNatClampNeg = c := nI_clamp (by omega)
  have n1 : narrow .boolean (.int (1 : Int32)) = .int (1 : Int32) := rfl
  have n0 : narrow .boolean (.int (0 : Int32)) = .int (0 : Int32) := rfl
  have h10 : ¬ (10 : Int32) = 0 := by decide
  unfold wpX_describe
  dsimp only
  refine zx_isChar_t hc (br_f (by decide) (zx_fits (w := 5) (by omega) (fun _ => br_f (by decide) ?_) (fun h => absurd hv h)))
  obtain ⟨f, hf, rfl⟩ := zf_r_nat (by decide) hv
  refine br_t (by decide) (br_f (by decide) (br_f (by decide) (br_f (by decide) (br_f (by decide) (br_f (by decide) (br_t rfl (⟨hvc, nm_r (e' := za_F (za_U LO c f)) (by rw [ec, za_nb2 (by omega), za_Fu]) (br_f (by decide) ?_)⟩)))))))
  exact zy_desc hc (by omega) (fun _ => br_f (by decide) (br_f (by decide) (br_f (by decide) (br_f (by decide) (br_f (by decide) (br_f (by decide) (br_f (by decide) (br_t rfl (⟨hvc, nm_r (e' := za_F (za_U LO c f)) (by rw [ec, za_Fu]) (br_f (by decide) (br_f (by decide) (br_f (by decide) (br_f (by decide) (br_f (by decide) (br_f (by decide) (br_f (by decide) (br_f (by decide) (⟨rfl, zr_in (zr_sLO hS hf) hR⟩)))))))))⟩))))))))) (fun h => absurd hv h)
theorem zv_d8 (hS : zr_St cn O W LO UA KI F1 F2 F3 DI CA CB CT T LN E UB LA EA dA dB eB fu fz pr wh pA pB wt yB A B) (hR : zr_R R ro sz re rs) {c : Nat} (hc : c < 48) {a b : Int32} (hv : zf_v c a b 8) : wpX_describe (fun r u' => wpY_describe (fun r' v' => r' = r ∧ i_Rel (k + 5) u' v') ((nI cn), rs, nn, (za_F O), (za_F W), pA, pB, (za_F LO), (za_F UA), UB, LA, (za_F KI), wt, EA, yB, (za_F DI), E, (za_F CA), (za_F CB), (za_F CT), lo, (za_F T), (za_F LN), re, yr, fo, fl, ele, els, eb, yl, se, pg, yo) (nI c) (nI 8) a b) ((nI cn), rg, (za_F O), (za_F W), dA, dB, E, (za_F LO), (za_F UA), UB, LA, (za_F KI), (za_F F1), (za_F F2), (za_F F3), (za_F DI), EA, eB, (za_F CA), (za_F CB), (za_F CT), fu, fz, pr, wh, (za_F T), (za_F LN), ro, sz, em, hg, lv, bh, rl, rr, rv, ou, nx, sl) (nI c) (nI 8) a b := by
  have hvc : vp_in (nI c) 48 := vp_in_nI hc (by decide)
  have ec : (nI c).toNatClampNeg = c := nI_clamp (by omega)
  have n1 : narrow .boolean (.int (1 : Int32)) = .int (1 : Int32) := rfl
  have n0 : narrow .boolean (.int (0 : Int32)) = .int (0 : Int32) := rfl
  have h10 : ¬ (10 : Int32) = 0 := by decide
  unfold wpX_describe
  dsimp only
  refine zx_isChar_t hc (br_f (by decide) (zx_fits (w := 8) (by omega) (fun _ => br_f (by decide) ?_) (fun h => absurd hv h)))
  obtain ⟨f, hf, rfl⟩ := zf_r_nat (by decide) hv
  refine br_t (by decide) (br_f (by decide) (br_f (by decide) (br_f (by decide) (br_f (by decide) (br_f (by decide) (br_f (by decide) (br_f (by decide) (br_f (by decide) (br_t rfl (⟨hvc, nm_r (e' := za_F (za_U KI c f)) (by rw [ec, za_nb2 (by omega), za_Fu]) (br_f (by decide) ?_)⟩))))))))))
  exact zy_desc hc (by omega) (fun _ => br_f (by decide) (br_f (by decide) (br_f (by decide) (br_f (by decide) (br_f (by decide) (br_f (by decide) (br_f (by decide) (br_f (by decide) (br_f (by decide) (br_f (by decide) (br_t rfl (⟨hvc, nm_r (e' := za_F (za_U KI c f)) (by rw [ec, za_Fu]) (br_f (by decide) (br_f (by decide) (br_f (by decide) (br_f (by decide) (br_f (by decide) (⟨rfl, zr_in (zr_sKI hS hf) hR⟩))))))⟩)))))))))))) (fun h => absurd hv h)
theorem zv_d14 (hS : zr_St cn O W LO UA KI F1 F2 F3 DI CA CB CT T LN E UB LA EA dA dB eB fu fz pr wh pA pB wt yB A B) (hR : zr_R R ro sz re rs) {c : Nat} (hc : c < 48) {a b : Int32} (hv : zf_v c a b 14) : wpX_describe (fun r u' => wpY_describe (fun r' v' => r' = r ∧ i_Rel (k + 5) u' v') ((nI cn), rs, nn, (za_F O), (za_F W), pA, pB, (za_F LO), (za_F UA), UB, LA, (za_F KI), wt, EA, yB, (za_F DI), E, (za_F CA), (za_F CB), (za_F CT), lo, (za_F T), (za_F LN), re, yr, fo, fl, ele, els, eb, yl, se, pg, yo) (nI c) (nI 14) a b) ((nI cn), rg, (za_F O), (za_F W), dA, dB, E, (za_F LO), (za_F UA), UB, LA, (za_F KI), (za_F F1), (za_F F2), (za_F F3), (za_F DI), EA, eB, (za_F CA), (za_F CB), (za_F CT), fu, fz, pr, wh, (za_F T), (za_F LN), ro, sz, em, hg, lv, bh, rl, rr, rv, ou, nx, sl) (nI c) (nI 14) a b := by
  have hvc : vp_in (nI c) 48 := vp_in_nI hc (by decide)
  have ec : (nI c).toNatClampNeg = c := nI_clamp (by omega)
  have n1 : narrow .boolean (.int (1 : Int32)) = .int (1 : Int32) := rfl
  have n0 : narrow .boolean (.int (0 : Int32)) = .int (0 : Int32) := rfl
  have h10 : ¬ (10 : Int32) = 0 := by decide
  unfold wpX_describe
  dsimp only
  refine zx_isChar_t hc (br_f (by decide) (zx_fits (w := 14) (by omega) (fun _ => br_f (by decide) ?_) (fun h => absurd hv h)))
  obtain ⟨f, hf, rfl⟩ := zf_r_nat (by decide) hv
  refine br_t (by decide) (br_f (by decide) (br_f (by decide) (br_f (by decide) (br_f (by decide) (br_f (by decide) (br_f (by decide) (br_f (by decide) (br_f (by decide) (br_f (by decide) (br_f (by decide) (br_f (by decide) (br_f (by decide) (br_f (by decide) (br_f (by decide) (br_t rfl (⟨hvc, nm_r (e' := za_F (za_U DI c f)) (by rw [ec, za_nb2 (by omega), za_Fu]) (br_f (by decide) ?_)⟩))))))))))))))))
  exact zy_desc hc (by omega) (fun _ => br_f (by decide) (br_f (by decide) (br_f (by decide) (br_f (by decide) (br_f (by decide) (br_f (by decide) (br_f (by decide) (br_f (by decide) (br_f (by decide) (br_f (by decide) (br_f (by decide) (br_f (by decide) (br_f (by decide) (br_f (by decide) (br_f (by decide) (br_t rfl (⟨hvc, nm_r (e' := za_F (za_U DI c f)) (by rw [ec, za_Fu]) (⟨rfl, zr_in (zr_sDI hS hf) hR⟩)⟩))))))))))))))))) (fun h => absurd hv h)
theorem zv_d7 (hS : zr_St cn O W LO UA KI F1 F2 F3 DI CA CB CT T LN E UB LA EA dA dB eB fu fz pr wh pA pB wt yB A B) (hR : zr_R R ro sz re rs) {c : Nat} (hc : c < 48) {a b : Int32} (hv : zf_v c a b 7) : wpX_describe (fun r u' => wpY_describe (fun r' v' => r' = r ∧ i_Rel (k + 5) u' v') ((nI cn), rs, nn, (za_F O), (za_F W), pA, pB, (za_F LO), (za_F UA), UB, LA, (za_F KI), wt, EA, yB, (za_F DI), E, (za_F CA), (za_F CB), (za_F CT), lo, (za_F T), (za_F LN), re, yr, fo, fl, ele, els, eb, yl, se, pg, yo) (nI c) (nI 7) a b) ((nI cn), rg, (za_F O), (za_F W), dA, dB, E, (za_F LO), (za_F UA), UB, LA, (za_F KI), (za_F F1), (za_F F2), (za_F F3), (za_F DI), EA, eB, (za_F CA), (za_F CB), (za_F CT), fu, fz, pr, wh, (za_F T), (za_F LN), ro, sz, em, hg, lv, bh, rl, rr, rv, ou, nx, sl) (nI c) (nI 7) a b := by
  have hvc : vp_in (nI c) 48 := vp_in_nI hc (by decide)
  have ec : (nI c).toNatClampNeg = c := nI_clamp (by omega)
  have n1 : narrow .boolean (.int (1 : Int32)) = .int (1 : Int32) := rfl
  have n0 : narrow .boolean (.int (0 : Int32)) = .int (0 : Int32) := rfl
  have h10 : ¬ (10 : Int32) = 0 := by decide
  unfold wpX_describe
  dsimp only
  refine zx_isChar_t hc (br_f (by decide) (zx_fits (w := 7) (by omega) (fun _ => br_f (by decide) ?_) (fun h => absurd hv h)))
  obtain ⟨f, hf, rfl⟩ := zf_n_nat (by decide) hv
  have ho : za_o (nI f - 1) := zf_o hf (by omega)
  refine br_t (by decide) (br_f (by decide) (br_f (by decide) (br_f (by decide) (br_f (by decide) (br_f (by decide) (br_f (by decide) (br_f (by decide) (br_t rfl (⟨hvc, nm_r (e' := upd LA c (nI f - 1)) (by rw [ec, za_on2 ho]) (br_f (by decide) ?_)⟩)))))))))
  exact zy_desc hc (by omega) (fun _ => br_f (by decide) (br_f (by decide) (br_f (by decide) (br_f (by decide) (br_f (by decide) (br_f (by decide) (br_f (by decide) (br_f (by decide) (br_f (by decide) (br_t rfl (⟨hvc, nm_r (e' := upd LA c (nI f - 1)) (by rw [ec]) (br_f (by decide) (br_f (by decide) (br_f (by decide) (br_f (by decide) (br_f (by decide) (br_f (by decide) (⟨rfl, zr_in (zr_sLA hS ho) hR⟩)))))))⟩))))))))))) (fun h => absurd hv h)
theorem zv_d6 (hS : zr_St cn O W LO UA KI F1 F2 F3 DI CA CB CT T LN E UB LA EA dA dB eB fu fz pr wh pA pB wt yB A B) (hR : zr_R R ro sz re rs) {c : Nat} (hc : c < 48) {a b : Int32} (hv : zf_v c a b 6) : wpX_describe (fun r u' => wpY_describe (fun r' v' => r' = r ∧ i_Rel (k + 5) u' v') ((nI cn), rs, nn, (za_F O), (za_F W), pA, pB, (za_F LO), (za_F UA), UB, LA, (za_F KI), wt, EA, yB, (za_F DI), E, (za_F CA), (za_F CB), (za_F CT), lo, (za_F T), (za_F LN), re, yr, fo, fl, ele, els, eb, yl, se, pg, yo) (nI c) (nI 6) a b) ((nI cn), rg, (za_F O), (za_F W), dA, dB, E, (za_F LO), (za_F UA), UB, LA, (za_F KI), (za_F F1), (za_F F2), (za_F F3), (za_F DI), EA, eB, (za_F CA), (za_F CB), (za_F CT), fu, fz, pr, wh, (za_F T), (za_F LN), ro, sz, em, hg, lv, bh, rl, rr, rv, ou, nx, sl) (nI c) (nI 6) a b := by
  have hvc : vp_in (nI c) 48 := vp_in_nI hc (by decide)
  have ec : (nI c).toNatClampNeg = c := nI_clamp (by omega)
  have n1 : narrow .boolean (.int (1 : Int32)) = .int (1 : Int32) := rfl
  have n0 : narrow .boolean (.int (0 : Int32)) = .int (0 : Int32) := rfl
  have h10 : ¬ (10 : Int32) = 0 := by decide
  unfold wpX_describe
  dsimp only
  refine zx_isChar_t hc (br_f (by decide) (zx_fits (w := 6) (by omega) (fun _ => br_f (by decide) ?_) (fun h => absurd hv h)))
  obtain ⟨f, hf, rfl⟩ := zf_r_nat (by decide) hv.1
  obtain ⟨g, hg_, rfl⟩ := zf_n_nat (by decide) hv.2
  have ho : za_o (nI g - 1) := zf_o hg_ (by omega)
  refine br_t (by decide) (br_f (by decide) (br_f (by decide) (br_f (by decide) (br_f (by decide) (br_f (by decide) (br_f (by decide) (br_t rfl (⟨hvc, nm_r (e' := za_F (za_U UA c f)) (by rw [ec, za_nb2 (by omega), za_Fu]) ⟨hvc, nm_r (e' := upd UB c (nI g - 1)) (by rw [ec, za_on2 ho]) (br_f (by decide) ?_)⟩⟩))))))))
  exact zy_desc hc (by omega) (fun _ => br_f (by decide) (br_f (by decide) (br_f (by decide) (br_f (by decide) (br_f (by decide) (br_f (by decide) (br_f (by decide) (br_f (by decide) (br_t rfl (⟨hvc, nm_r (e' := za_F (za_U UA c f)) (by rw [ec, za_Fu]) ⟨hvc, nm_r (e' := upd UB c (nI g - 1)) (by rw [ec]) (br_f (by decide) (br_f (by decide) (br_f (by decide) (br_f (by decide) (br_f (by decide) (br_f (by decide) (br_f (by decide) (⟨rfl, zr_in (zr_sUB (zr_sUA hS hf) ho) hR⟩))))))))⟩⟩)))))))))) (fun h => absurd hv h)
theorem zv_d9 (hS : zr_St cn O W LO UA KI F1 F2 F3 DI CA CB CT T LN E UB LA EA dA dB eB fu fz pr wh pA pB wt yB A B) (hR : zr_R R ro sz re rs) {c : Nat} (hc : c < 48) {a b : Int32} (hv : zf_v c a b 9) : wpX_describe (fun r u' => wpY_describe (fun r' v' => r' = r ∧ i_Rel (k + 5) u' v') ((nI cn), rs, nn, (za_F O), (za_F W), pA, pB, (za_F LO), (za_F UA), UB, LA, (za_F KI), wt, EA, yB, (za_F DI), E, (za_F CA), (za_F CB), (za_F CT), lo, (za_F T), (za_F LN), re, yr, fo, fl, ele, els, eb, yl, se, pg, yo) (nI c) (nI 9) a b) ((nI cn), rg, (za_F O), (za_F W), dA, dB, E, (za_F LO), (za_F UA), UB, LA, (za_F KI), (za_F F1), (za_F F2), (za_F F3), (za_F DI), EA, eB, (za_F CA), (za_F CB), (za_F CT), fu, fz, pr, wh, (za_F T), (za_F LN), ro, sz, em, hg, lv, bh, rl, rr, rv, ou, nx, sl) (nI c) (nI 9) a b := by
  have hvc : vp_in (nI c) 48 := vp_in_nI hc (by decide)
  have ec : (nI c).toNatClampNeg = c := nI_clamp (by omega)
  have n1 : narrow .boolean (.int (1 : Int32)) = .int (1 : Int32) := rfl
  have n0 : narrow .boolean (.int (0 : Int32)) = .int (0 : Int32) := rfl
  have h10 : ¬ (10 : Int32) = 0 := by decide
  unfold wpX_describe
  dsimp only
  refine zx_isChar_t hc (br_f (by decide) (zx_fits (w := 9) (by omega) (fun _ => br_f (by decide) ?_) (fun h => absurd hv h)))
  obtain ⟨f, hf, rfl⟩ := zf_r_nat (by decide) hv.1
  obtain ⟨g, hg_, rfl⟩ := zf_r_nat (by decide) hv.2
  have ed : nI g / 10 = nI (g / 10) := pk_div (d := 10) (by omega) (by omega) (by omega)
  have er : nI g - nI g / 10 * 10 = nI (g % 10) := pk_rem (d := 10) (by omega) (by omega) (by omega)
  have e30 : 3 * nI c = nI (3 * c) := pk_mul 3 c
  have e31 : 3 * nI c + 1 = nI (3 * c + 1) := by rw [e30, nI_1]
  have e32 : 3 * nI c + 2 = nI (3 * c + 2) := by rw [e30]; exact nI_add (3 * c) 2
  refine br_t (by decide) (br_f (by decide) (br_f (by decide) (br_f (by decide) (br_f (by decide) (br_f (by decide) (br_f (by decide) (br_f (by decide) (br_f (by decide) (br_f (by decide) (br_t rfl (⟨hvc, nm_r (e' := za_F (za_U F1 c f)) (by rw [ec, za_nb2 (by omega), za_Fu]) ⟨h10, hvc, nm_r (e' := za_F (za_U F2 c (g / 10))) (by rw [ec, ed, za_nb2 (by omega), za_Fu]) ⟨h10, hvc, nm_r (e' := za_F (za_U F3 c (g % 10))) (by rw [ec, er, za_nb2 (by omega), za_Fu]) (br_f (by decide) ?_)⟩⟩⟩)))))))))))
  exact zy_desc hc (by omega) (fun _ => br_f (by decide) (br_f (by decide) (br_f (by decide) (br_f (by decide) (br_f (by decide) (br_f (by decide) (br_f (by decide) (br_f (by decide) (br_f (by decide) (br_f (by decide) (br_f (by decide) (br_t rfl (⟨by rw [e30]; exact vp_in_nI (by omega) (by decide), nm_r (e' := upd wt (3 * c) (nI f)) (by rw [e30, nI_clamp (by omega)]) ⟨h10, by rw [e31]; exact vp_in_nI (by omega) (by decide), nm_r (e' := upd (upd wt (3 * c) (nI f)) (3 * c + 1) (nI (g / 10))) (by rw [e31, ed, nI_clamp (by omega)]) ⟨h10, by rw [e32]; exact vp_in_nI (by omega) (by decide), nm_r (e' := upd (upd (upd wt (3 * c) (nI f)) (3 * c + 1) (nI (g / 10))) (3 * c + 2) (nI (g % 10))) (by rw [e32, er, nI_clamp (by omega)]) (br_f (by decide) (br_f (by decide) (br_f (by decide) (br_f (by decide) (⟨rfl, zr_in (zr_sF hS hf (by omega) (by omega)) hR⟩)))))⟩⟩⟩))))))))))))) (fun h => absurd hv h)
theorem zv_d10 (hS : zr_St cn O W LO UA KI F1 F2 F3 DI CA CB CT T LN E UB LA EA dA dB eB fu fz pr wh pA pB wt yB A B) (hR : zr_R R ro sz re rs) {c : Nat} (hc : c < 48) {a b : Int32} (hv : zf_v c a b 10) : wpX_describe (fun r u' => wpY_describe (fun r' v' => r' = r ∧ i_Rel (k + 5) u' v') ((nI cn), rs, nn, (za_F O), (za_F W), pA, pB, (za_F LO), (za_F UA), UB, LA, (za_F KI), wt, EA, yB, (za_F DI), E, (za_F CA), (za_F CB), (za_F CT), lo, (za_F T), (za_F LN), re, yr, fo, fl, ele, els, eb, yl, se, pg, yo) (nI c) (nI 10) a b) ((nI cn), rg, (za_F O), (za_F W), dA, dB, E, (za_F LO), (za_F UA), UB, LA, (za_F KI), (za_F F1), (za_F F2), (za_F F3), (za_F DI), EA, eB, (za_F CA), (za_F CB), (za_F CT), fu, fz, pr, wh, (za_F T), (za_F LN), ro, sz, em, hg, lv, bh, rl, rr, rv, ou, nx, sl) (nI c) (nI 10) a b := by
  have hvc : vp_in (nI c) 48 := vp_in_nI hc (by decide)
  have ec : (nI c).toNatClampNeg = c := nI_clamp (by omega)
  have n1 : narrow .boolean (.int (1 : Int32)) = .int (1 : Int32) := rfl
  have n0 : narrow .boolean (.int (0 : Int32)) = .int (0 : Int32) := rfl
  have h10 : ¬ (10 : Int32) = 0 := by decide
  unfold wpX_describe
  dsimp only
  refine zx_isChar_t hc (br_f (by decide) (zx_fits (w := 10) (by omega) (fun _ => br_f (by decide) ?_) (fun h => absurd hv h)))
  obtain ⟨f, hf, rfl⟩ := zf_r_nat (by decide) hv.1
  obtain ⟨g, hg_, rfl⟩ := zf_r_nat (by decide) hv.2
  refine br_t (by decide) (br_f (by decide) (br_f (by decide) (br_f (by decide) (br_f (by decide) (br_f (by decide) (br_f (by decide) (br_f (by decide) (br_f (by decide) (br_f (by decide) (br_f (by decide) (br_t rfl (br_t rfl ⟨hvc, nm_r (e' := upd EA c (nI f)) (by rw [ec, za_nb2 (by omega)]) (br_t rfl ⟨hvc, nm_r (e' := upd eB c (nI g)) (by rw [ec, za_nb2 (by omega)]) (br_f (by decide) ?_)⟩)⟩))))))))))))
  exact zy_desc hc (by omega) (fun _ => br_f (by decide) (br_f (by decide) (br_f (by decide) (br_f (by decide) (br_f (by decide) (br_f (by decide) (br_f (by decide) (br_f (by decide) (br_f (by decide) (br_f (by decide) (br_f (by decide) (br_f (by decide) (br_t rfl (br_t rfl ⟨hvc, nm_r (e' := upd EA c (nI f)) (by rw [ec]) (br_t rfl ⟨hvc, nm_r (e' := upd yB c (nI g)) (by rw [ec]) (br_f (by decide) ⟨rfl, zr_in (zr_sX hS (Or.inr ⟨f, g, hf, hg_, rfl, rfl, rfl⟩)) hR⟩)⟩)⟩)))))))))))))) (fun h => absurd hv h)
theorem zv_d11 (hS : zr_St cn O W LO UA KI F1 F2 F3 DI CA CB CT T LN E UB LA EA dA dB eB fu fz pr wh pA pB wt yB A B) (hR : zr_R R ro sz re rs) {c : Nat} (hc : c < 48) {a b : Int32} (hv : zf_v c a b 11) : wpX_describe (fun r u' => wpY_describe (fun r' v' => r' = r ∧ i_Rel (k + 5) u' v') ((nI cn), rs, nn, (za_F O), (za_F W), pA, pB, (za_F LO), (za_F UA), UB, LA, (za_F KI), wt, EA, yB, (za_F DI), E, (za_F CA), (za_F CB), (za_F CT), lo, (za_F T), (za_F LN), re, yr, fo, fl, ele, els, eb, yl, se, pg, yo) (nI c) (nI 11) a b) ((nI cn), rg, (za_F O), (za_F W), dA, dB, E, (za_F LO), (za_F UA), UB, LA, (za_F KI), (za_F F1), (za_F F2), (za_F F3), (za_F DI), EA, eB, (za_F CA), (za_F CB), (za_F CT), fu, fz, pr, wh, (za_F T), (za_F LN), ro, sz, em, hg, lv, bh, rl, rr, rv, ou, nx, sl) (nI c) (nI 11) a b := by
  have hvc : vp_in (nI c) 48 := vp_in_nI hc (by decide)
  have ec : (nI c).toNatClampNeg = c := nI_clamp (by omega)
  have n1 : narrow .boolean (.int (1 : Int32)) = .int (1 : Int32) := rfl
  have n0 : narrow .boolean (.int (0 : Int32)) = .int (0 : Int32) := rfl
  have h10 : ¬ (10 : Int32) = 0 := by decide
  unfold wpX_describe
  dsimp only
  refine zx_isChar_t hc (br_f (by decide) (zx_fits (w := 11) (by omega) (fun _ => br_f (by decide) ?_) (fun h => absurd hv h)))
  refine br_t (by decide) (br_f (by decide) (br_f (by decide) (br_f (by decide) (br_f (by decide) (br_f (by decide) (br_f (by decide) (br_f (by decide) (br_f (by decide) (br_f (by decide) (br_f (by decide) (br_f (by decide) (br_t rfl (br_f (by decide) ⟨hvc, nm_r (e' := upd EA c (-1)) (by rw [ec, za_nbm2]) (br_f (by decide) ⟨hvc, nm_e (br_f (by decide) ?_)⟩)⟩)))))))))))))
  rw [ec]
  exact zy_desc hc (by omega) (fun _ => br_f (by decide) (br_f (by decide) (br_f (by decide) (br_f (by decide) (br_f (by decide) (br_f (by decide) (br_f (by decide) (br_f (by decide) (br_f (by decide) (br_f (by decide) (br_f (by decide) (br_f (by decide) (br_f (by decide) (br_t rfl (br_f (by decide) ⟨hvc, nm_r (e' := upd EA c (-1)) (by rw [ec]) (br_f (by decide) (br_f (by decide) ⟨rfl, zr_in (zr_sX2 hS) hR⟩))⟩))))))))))))))) (fun h => absurd hv h)
theorem zv_d4 (hS : zr_St cn O W LO UA KI F1 F2 F3 DI CA CB CT T LN E UB LA EA dA dB eB fu fz pr wh pA pB wt yB A B) (hR : zr_R R ro sz re rs) {c : Nat} (hc : c < 48) {a b : Int32} (hv : zf_v c a b 4) : wpX_describe (fun r u' => wpY_describe (fun r' v' => r' = r ∧ i_Rel (k + 5) u' v') ((nI cn), rs, nn, (za_F O), (za_F W), pA, pB, (za_F LO), (za_F UA), UB, LA, (za_F KI), wt, EA, yB, (za_F DI), E, (za_F CA), (za_F CB), (za_F CT), lo, (za_F T), (za_F LN), re, yr, fo, fl, ele, els, eb, yl, se, pg, yo) (nI c) (nI 4) a b) ((nI cn), rg, (za_F O), (za_F W), dA, dB, E, (za_F LO), (za_F UA), UB, LA, (za_F KI), (za_F F1), (za_F F2), (za_F F3), (za_F DI), EA, eB, (za_F CA), (za_F CB), (za_F CT), fu, fz, pr, wh, (za_F T), (za_F LN), ro, sz, em, hg, lv, bh, rl, rr, rv, ou, nx, sl) (nI c) (nI 4) a b := by
  have hvc : vp_in (nI c) 48 := vp_in_nI hc (by decide)
  have ec : (nI c).toNatClampNeg = c := nI_clamp (by omega)
  have n1 : narrow .boolean (.int (1 : Int32)) = .int (1 : Int32) := rfl
  have n0 : narrow .boolean (.int (0 : Int32)) = .int (0 : Int32) := rfl
  have h10 : ¬ (10 : Int32) = 0 := by decide
  unfold wpX_describe
  dsimp only
  refine zx_isChar_t hc (br_f (by decide) (zx_fits (w := 4) (by omega) (fun _ => br_f (by decide) ?_) (fun h => absurd hv h)))
  have key : ∀ z : Int32, (z = 0 ∨ z = 1) → (∀ (p : Int32 → SY → Prop), p 1 ((nI cn), rs, nn, (za_F O), (za_F W), pA, pB, (za_F LO), (za_F UA), UB, LA, (za_F KI), wt, EA, yB, (za_F DI), (upd E c z), (za_F CA), (za_F CB), (za_F CT), lo, (za_F T), (za_F LN), re, yr, fo, fl, ele, els, eb, yl, se, pg, yo) → wpY_describe p ((nI cn), rs, nn, (za_F O), (za_F W), pA, pB, (za_F LO), (za_F UA), UB, LA, (za_F KI), wt, EA, yB, (za_F DI), E, (za_F CA), (za_F CB), (za_F CT), lo, (za_F T), (za_F LN), re, yr, fo, fl, ele, els, eb, yl, se, pg, yo) (nI c) (nI 4) a b) → wX_describe_143 (fun r u' => wpY_describe (fun r' v' => r' = r ∧ i_Rel (k + 5) u' v') ((nI cn), rs, nn, (za_F O), (za_F W), pA, pB, (za_F LO), (za_F UA), UB, LA, (za_F KI), wt, EA, yB, (za_F DI), E, (za_F CA), (za_F CB), (za_F CT), lo, (za_F T), (za_F LN), re, yr, fo, fl, ele, els, eb, yl, se, pg, yo) (nI c) (nI 4) a b) (nI 4) z (nI c) (nI cn) rg (za_F O) (za_F W) dA dB E (za_F LO) (za_F UA) UB LA (za_F KI) (za_F F1) (za_F F2) (za_F F3) (za_F DI) EA eB (za_F CA) (za_F CB) (za_F CT) fu fz pr wh (za_F T) (za_F LN) ro sz em hg lv bh rl rr rv ou nx sl := by
    intro z hz hY
    have hn : vp_nar .boolean z = z := by rcases hz with rfl | rfl <;> rfl
    refine ⟨hvc, nm_r (e' := upd E c z) (by rw [ec, hn]) (br_t rfl ?_)⟩
    refine zx_learn (zr_dW hS) (zr_W2 hS) (zr_dA hS) (fun _ fu' fz' pr' wh' t1 t2 => ?_) (fun g => absurd (zr_dG hS) g)
    exact hY _ ⟨rfl, zr_in (zr_sE hS hz t1 t2) hR⟩
  refine br_t (by decide) (br_f (by decide) (br_f (by decide) (br_f (by decide) (br_f (by decide) (br_t rfl (br_c (fun e => key 1 (Or.inr rfl) (fun p hp => ?_)) (fun e => key 0 (Or.inl rfl) (fun p hp => ?_))))))))
  · exact zy_desc hc (by omega) (fun _ => br_f (by decide) (br_f (by decide) (br_f (by decide) (br_f (by decide) (br_f (by decide) (br_f (by decide) (br_t rfl (br_t e ⟨hvc, nm_r (e' := upd E c 1) (by rw [ec]; rfl) (br_f (by decide) (br_f (by decide) (br_f (by decide) (br_f (by decide) (br_f (by decide) (br_f (by decide) (br_f (by decide) (br_f (by decide) (br_f (by decide) (hp))))))))))⟩)))))))) (fun h => absurd hv h)
  · exact zy_desc hc (by omega) (fun _ => br_f (by decide) (br_f (by decide) (br_f (by decide) (br_f (by decide) (br_f (by decide) (br_f (by decide) (br_t rfl (br_f e ⟨hvc, nm_r (e' := upd E c 0) (by rw [ec]; rfl) (br_f (by decide) (br_f (by decide) (br_f (by decide) (br_f (by decide) (br_f (by decide) (br_f (by decide) (br_f (by decide) (br_f (by decide) (br_f (by decide) (hp))))))))))⟩)))))))) (fun h => absurd hv h)
theorem zv_d12 (hS : zr_St cn O W LO UA KI F1 F2 F3 DI CA CB CT T LN E UB LA EA dA dB eB fu fz pr wh pA pB wt yB A B) (hR : zr_R R ro sz re rs) {c : Nat} (hc : c < 48) {a b : Int32} (hv : zf_v c a b 12) : wpX_describe (fun r u' => wpY_describe (fun r' v' => r' = r ∧ i_Rel (k + 5) u' v') ((nI cn), rs, nn, (za_F O), (za_F W), pA, pB, (za_F LO), (za_F UA), UB, LA, (za_F KI), wt, EA, yB, (za_F DI), E, (za_F CA), (za_F CB), (za_F CT), lo, (za_F T), (za_F LN), re, yr, fo, fl, ele, els, eb, yl, se, pg, yo) (nI c) (nI 12) a b) ((nI cn), rg, (za_F O), (za_F W), dA, dB, E, (za_F LO), (za_F UA), UB, LA, (za_F KI), (za_F F1), (za_F F2), (za_F F3), (za_F DI), EA, eB, (za_F CA), (za_F CB), (za_F CT), fu, fz, pr, wh, (za_F T), (za_F LN), ro, sz, em, hg, lv, bh, rl, rr, rv, ou, nx, sl) (nI c) (nI 12) a b := by
  have hvc : vp_in (nI c) 48 := vp_in_nI hc (by decide)
  have ec : (nI c).toNatClampNeg = c := nI_clamp (by omega)
  have n1 : narrow .boolean (.int (1 : Int32)) = .int (1 : Int32) := rfl
  have n0 : narrow .boolean (.int (0 : Int32)) = .int (0 : Int32) := rfl
  have h10 : ¬ (10 : Int32) = 0 := by decide
  unfold wpX_describe
  dsimp only
  refine zx_isChar_t hc (br_f (by decide) (zx_fits (w := 12) (by omega) (fun _ => br_f (by decide) ?_) (fun h => absurd hv h)))
  obtain ⟨f, hf, rfl⟩ := zf_r_nat (by decide) hv.1
  obtain ⟨g, hg_, rfl⟩ := zf_r_nat (by decide) hv.2
  have hC := hS.2.1
  have hq := zq_le (CA := CA) (CB := CB) (a := c) (b := f) cn
  have h6 := hC.1
  refine br_t (by decide) (br_t rfl (br_t rfl (zx_conOn hC.1 hc hf hg_ hC.2 rfl rfl (fun h0 => ⟨n0, ?_⟩) (fun h1 => ⟨n1, ?_⟩))))
  · exact zy_desc hc (by omega) (fun _ => br_f (by decide) (br_f (by decide) (br_t rfl (br_t rfl (zy_conOn hC.1 hc hf hC.2 rfl rfl (fun _ => ⟨n0, rfl, zr_in hS hR⟩) (fun h1 => absurd h0 h1)))))) (fun h => absurd hv h)
  · refine zy_desc hc (by omega) (fun _ => br_f (by decide) (br_f (by decide) (br_t rfl (br_t rfl (zy_conOn hC.1 hc hf hC.2 rfl rfl (fun h0 => absurd h0 h1) (fun _ => ⟨n1, rfl, ?_⟩)))))) (fun h => absurd hv h)
    refine zr_in (zr_sC hS ⟨?_, fun j hj => ?_⟩) hR
    · split <;> omega
    · have hj2 := hC.2 j hj
      generalize (if zq_k CA CB c f cn = 0 then cn else zq_k CA CB c f cn - 1) = i
      by_cases e : j = i
      · subst e
        rw [za_Us, za_Us, za_Us]; exact ⟨hc, hf, hg_⟩
      · rw [za_Un e, za_Un e, za_Un e]; exact hj2
theorem zv_d13 (hS : zr_St cn O W LO UA KI F1 F2 F3 DI CA CB CT T LN E UB LA EA dA dB eB fu fz pr wh pA pB wt yB A B) (hR : zr_R R ro sz re rs) {c : Nat} (hc : c < 48) {a b : Int32} (hv : zf_v c a b 13) : wpX_describe (fun r u' => wpY_describe (fun r' v' => r' = r ∧ i_Rel (k + 5) u' v') ((nI cn), rs, nn, (za_F O), (za_F W), pA, pB, (za_F LO), (za_F UA), UB, LA, (za_F KI), wt, EA, yB, (za_F DI), E, (za_F CA), (za_F CB), (za_F CT), lo, (za_F T), (za_F LN), re, yr, fo, fl, ele, els, eb, yl, se, pg, yo) (nI c) (nI 13) a b) ((nI cn), rg, (za_F O), (za_F W), dA, dB, E, (za_F LO), (za_F UA), UB, LA, (za_F KI), (za_F F1), (za_F F2), (za_F F3), (za_F DI), EA, eB, (za_F CA), (za_F CB), (za_F CT), fu, fz, pr, wh, (za_F T), (za_F LN), ro, sz, em, hg, lv, bh, rl, rr, rv, ou, nx, sl) (nI c) (nI 13) a b := by
  have hvc : vp_in (nI c) 48 := vp_in_nI hc (by decide)
  have ec : (nI c).toNatClampNeg = c := nI_clamp (by omega)
  have n1 : narrow .boolean (.int (1 : Int32)) = .int (1 : Int32) := rfl
  have n0 : narrow .boolean (.int (0 : Int32)) = .int (0 : Int32) := rfl
  have h10 : ¬ (10 : Int32) = 0 := by decide
  unfold wpX_describe
  dsimp only
  refine zx_isChar_t hc (br_f (by decide) (zx_fits (w := 13) (by omega) (fun _ => br_f (by decide) ?_) (fun h => absurd hv h)))
  obtain ⟨f, hf, rfl⟩ := zf_r_nat (by decide) hv
  have hC := hS.2.1
  have hq := zq_le (CA := CA) (CB := CB) (a := c) (b := f) cn
  have h6 := hC.1
  refine br_t (by decide) (br_f (by decide) (br_t rfl (br_f (by decide) (zx_conOff hC.1 hc hf hC.2 (fun h0 => ⟨n1, ?_⟩) (fun h1 => ⟨n1, ?_⟩)))))
  · exact zy_desc hc (by omega) (fun _ => br_f (by decide) (br_f (by decide) (br_f (by decide) (br_t rfl (br_f (by decide) (zy_conOff hC.1 hc hf hC.2 (fun _ => ⟨n1, rfl, zr_in hS hR⟩) (fun h1 => absurd h0 h1))))))) (fun h => absurd hv h)
  · refine zy_desc hc (by omega) (fun _ => br_f (by decide) (br_f (by decide) (br_f (by decide) (br_t rfl (br_f (by decide) (zy_conOff hC.1 hc hf hC.2 (fun h0 => absurd h0 h1) (fun _ => ⟨n1, rfl, ?_⟩))))))) (fun h => absurd hv h)
    refine zr_in (zr_sC hS ⟨by omega, fun j hj => ?_⟩) hR
    have hj2 := hC.2 j hj
    have hl2 := hC.2 (cn - 1) (by omega)
    generalize zq_k CA CB c f cn - 1 = i
    by_cases e : j = i
    · subst e
      rw [za_Us, za_Us, za_Us]; exact hl2
    · rw [za_Un e, za_Un e, za_Un e]; exact hj2
theorem zv_d3 (hS : zr_St cn O W LO UA KI F1 F2 F3 DI CA CB CT T LN E UB LA EA dA dB eB fu fz pr wh pA pB wt yB A B) (hR : zr_R R ro sz re rs) {c : Nat} (hc : c < 48) {a b : Int32} (hv : zf_v c a b 3) : wpX_describe (fun r u' => wpY_describe (fun r' v' => r' = r ∧ i_Rel (k + 5) u' v') ((nI cn), rs, nn, (za_F O), (za_F W), pA, pB, (za_F LO), (za_F UA), UB, LA, (za_F KI), wt, EA, yB, (za_F DI), E, (za_F CA), (za_F CB), (za_F CT), lo, (za_F T), (za_F LN), re, yr, fo, fl, ele, els, eb, yl, se, pg, yo) (nI c) (nI 3) a b) ((nI cn), rg, (za_F O), (za_F W), dA, dB, E, (za_F LO), (za_F UA), UB, LA, (za_F KI), (za_F F1), (za_F F2), (za_F F3), (za_F DI), EA, eB, (za_F CA), (za_F CB), (za_F CT), fu, fz, pr, wh, (za_F T), (za_F LN), ro, sz, em, hg, lv, bh, rl, rr, rv, ou, nx, sl) (nI c) (nI 3) a b := by
  have hvc : vp_in (nI c) 48 := vp_in_nI hc (by decide)
  have ec : (nI c).toNatClampNeg = c := nI_clamp (by omega)
  have n1 : narrow .boolean (.int (1 : Int32)) = .int (1 : Int32) := rfl
  have n0 : narrow .boolean (.int (0 : Int32)) = .int (0 : Int32) := rfl
  have h10 : ¬ (10 : Int32) = 0 := by decide
  unfold wpX_describe
  dsimp only
  refine zx_isChar_t hc (br_f (by decide) (zx_fits (w := 3) (by omega) (fun _ => br_f (by decide) ?_) (fun h => absurd hv h)))
  have hG' : zd_G (za_U W c 0) A B := fun d hd => Nat.le_trans (zd_off 48 d) (zr_dG hS d hd)
  have hne : ∀ d, za_U W c 0 d ≠ 0 → d ≠ c ∧ W d ≠ 0 := by
    intro d h
    by_cases e : d = c
    · rw [e, za_Us] at h; exact absurd rfl h
    · rw [za_Un e] at h; exact ⟨e, h⟩
  have hW' : zd_W (za_U W c 0) A B := fun d hd h => zr_dW hS d hd (hne d h).2
  refine br_f (by decide) (br_f (by decide) ⟨hvc, nm_r (e' := nI (W c)) (by rw [ec]; rfl) ⟨hvc, nm_r (e' := dA c) (by rw [ec]) ⟨hvc, nm_r (e' := dB c) (by rw [ec]) (br_t rfl ?_)⟩⟩⟩)
  refine zx_s53 (w := 0) (A := A) (B := B) (A' := A) (B' := B) hc (by omega) (zr_W2 hS) (zr_dW hS) (zr_dA hS) hW' (fun d hd h => ?_) (fun _ fu' fz' pr' wh' t1 t2 => ⟨n1, ?_⟩) (zr_dG hS) (fun g => absurd hG' g)
  · rw [pk_un (hne d h).1, pk_un (hne d h).1]
    exact zr_dA hS d hd (hne d h).2
  · refine zy_desc hc (by omega) (fun _ => br_f (by decide) (br_f (by decide) (br_f (by decide) (br_f (by decide) (br_f (by decide) (br_t rfl (⟨hvc, nm_r (e' := za_F (za_U W c 0)) (by rw [ec]; exact za_Fu W c 0) (br_f (by decide) (br_f (by decide) (br_f (by decide) (br_f (by decide) (br_f (by decide) (br_f (by decide) (br_f (by decide) (br_f (by decide) (br_f (by decide) (br_f (by decide) (⟨rfl, zr_in (zr_sW hS (by omega) (fun d hd h => ?_) hW' hG' ⟨t1, t2⟩) hR⟩)))))))))))⟩))))))) (fun h => absurd hv h)
    dsimp only
    rw [pk_un (hne d h).1, pk_un (hne d h).1]
    exact hS.2.2.1 d hd (hne d h).2
theorem zv_d1 (hS : zr_St cn O W LO UA KI F1 F2 F3 DI CA CB CT T LN E UB LA EA dA dB eB fu fz pr wh pA pB wt yB A B) (hR : zr_R R ro sz re rs) {c : Nat} (hc : c < 48) {a b : Int32} (hv : zf_v c a b 1) : wpX_describe (fun r u' => wpY_describe (fun r' v' => r' = r ∧ i_Rel (k + 5) u' v') ((nI cn), rs, nn, (za_F O), (za_F W), pA, pB, (za_F LO), (za_F UA), UB, LA, (za_F KI), wt, EA, yB, (za_F DI), E, (za_F CA), (za_F CB), (za_F CT), lo, (za_F T), (za_F LN), re, yr, fo, fl, ele, els, eb, yl, se, pg, yo) (nI c) (nI 1) a b) ((nI cn), rg, (za_F O), (za_F W), dA, dB, E, (za_F LO), (za_F UA), UB, LA, (za_F KI), (za_F F1), (za_F F2), (za_F F3), (za_F DI), EA, eB, (za_F CA), (za_F CB), (za_F CT), fu, fz, pr, wh, (za_F T), (za_F LN), ro, sz, em, hg, lv, bh, rl, rr, rv, ou, nx, sl) (nI c) (nI 1) a b := by
  have hvc : vp_in (nI c) 48 := vp_in_nI hc (by decide)
  have ec : (nI c).toNatClampNeg = c := nI_clamp (by omega)
  have n1 : narrow .boolean (.int (1 : Int32)) = .int (1 : Int32) := rfl
  have n0 : narrow .boolean (.int (0 : Int32)) = .int (0 : Int32) := rfl
  have h10 : ¬ (10 : Int32) = 0 := by decide
  unfold wpX_describe
  dsimp only
  refine zx_isChar_t hc (br_f (by decide) (zx_fits (w := 1) (by omega) (fun _ => br_f (by decide) ?_) (fun h => absurd hv h)))
  obtain ⟨f, hf, rfl⟩ := zf_r_nat (by omega) hv.1
  obtain ⟨g, hg_, rfl⟩ := zf_n_nat (by omega) hv.2
  have ho : za_o (nI g - 1) := zf_o hg_ (by omega)
  have hW' : zd_W (za_U W c 1) (za_U A c f) (za_U B c g) := by
    intro d hd h
    by_cases e : d = c
    · rw [e, za_Us, za_Us]; exact ⟨hf, hg_⟩
    · rw [za_Un e] at h
      rw [za_Un e, za_Un e]; exact zr_dW hS d hd h
  have hA' : ∀ (p q : Nat → Int32), (∀ d, d < 48 → W d ≠ 0 → p d = nI (A d) ∧ q d = nI (B d) - 1) → ∀ d, d < 48 → za_U W c 1 d ≠ 0 → upd p c (nI f) d = nI (za_U A c f d) ∧ upd q c (nI g - 1) d = nI (za_U B c g d) - 1 := by
    intro p q hp d hd h
    by_cases e : d = c
    · rw [e, pk_us, pk_us, za_Us, za_Us]; exact ⟨rfl, rfl⟩
    · rw [za_Un e] at h
      rw [pk_un e, pk_un e, za_Un e, za_Un e]; exact hp d hd h
  have hY : ∀ (p : Int32 → SY → Prop), (zd_G (za_U W c 1) (za_U A c f) (za_U B c g) → ∀ lo', p 1 ((nI cn), rs, nn, (za_F O), (za_F (za_U W c 1)), (upd pA c (nI f)), (upd pB c (nI g - 1)), (za_F LO), (za_F UA), UB, LA, (za_F KI), wt, EA, yB, (za_F DI), E, (za_F CA), (za_F CB), (za_F CT), lo', (za_F T), (za_F LN), re, yr, fo, fl, ele, els, eb, yl, se, pg, yo)) →
      (¬ zd_G (za_U W c 1) (za_U A c f) (za_U B c g) → ∀ lo' pA' pB', (∀ d, d < 48 → W d ≠ 0 → pA' d = nI (A d) ∧ pB' d = nI (B d) - 1) → p 0 ((nI cn), rs, nn, (za_F O), (za_F W), pA', pB', (za_F LO), (za_F UA), UB, LA, (za_F KI), wt, EA, yB, (za_F DI), E, (za_F CA), (za_F CB), (za_F CT), lo', (za_F T), (za_F LN), re, yr, fo, fl, ele, els, eb, yl, se, pg, yo)) → wpY_describe p ((nI cn), rs, nn, (za_F O), (za_F W), pA, pB, (za_F LO), (za_F UA), UB, LA, (za_F KI), wt, EA, yB, (za_F DI), E, (za_F CA), (za_F CB), (za_F CT), lo, (za_F T), (za_F LN), re, yr, fo, fl, ele, els, eb, yl, se, pg, yo) (nI c) (nI 1) (nI f) (nI g - 1) := by
    intro p h1 h0
    refine zy_desc hc (by omega) (fun _ => br_t rfl (?_)) (fun h => absurd hv h)
    refine ⟨hvc, nm_r (e' := nI (W c)) (by rw [ec]; rfl) ⟨hvc, nm_r (e' := pA c) (by rw [ec]) ⟨hvc, nm_r (e' := pB c) (by rw [ec]) ⟨hvc, nm_r (e' := za_F (za_U W c 1)) (by rw [ec]; exact za_Fu W c 1) ⟨hvc, nm_r (e' := upd pA c (nI f)) (by rw [ec]) ⟨hvc, nm_r (e' := upd pB c (nI g - 1)) (by rw [ec]) ?_⟩⟩⟩⟩⟩⟩
    refine zy_dec52 hc (fun d hd => ?_) hW' (hA' pA pB (zr_pA hS)) (fun hg lo' => ⟨n1, h1 hg lo'⟩) (fun hg lo' => ⟨n0, ?_⟩)
    · unfold za_U; split
      · omega
      · exact zr_W2 hS d hd
    · rw [za_Fu, za_UU]
      refine h0 hg lo' _ _ (fun d hd h => ?_)
      by_cases e : d = c
      · rw [e, pk_us, pk_us]; rw [e] at h; exact zr_pA hS c hc h
      · rw [pk_un e, pk_un e, pk_un e, pk_un e]; exact zr_pA hS d hd h
  refine br_f (by decide) (br_f (by decide) ⟨hvc, nm_r (e' := nI (W c)) (by rw [ec]; rfl) ⟨hvc, nm_r (e' := dA c) (by rw [ec]) ⟨hvc, nm_r (e' := dB c) (by rw [ec]) (br_f (by decide) ?_)⟩⟩⟩)
  have ef : vp_nar .byte (nI f).toInt8.toInt32 = nI f := za_nb2 (by omega)
  have eg : vp_nar .byte (nI g - 1).toInt8.toInt32 = nI g - 1 := za_on2 ho
  refine zx_s53 (w := 1) (A := A) (B := B) (A' := za_U A c f) (B' := za_U B c g) hc (by omega) (zr_W2 hS) (zr_dW hS) (zr_dA hS) hW' (by rw [ef, eg]; exact hA' dA dB (zr_dA hS)) (fun hg fu' fz' pr' wh' t1 t2 => ⟨n1, ?_⟩) (zr_dG hS) (fun hg dA' dB' fu' fz' pr' wh' t0 t1 t2 => ⟨n0, ?_⟩)
  · rw [ef, eg]
    refine hY _ (fun _ lo' => ⟨rfl, zr_in (zr_sW hS (by omega) (fun d hd h => ⟨hA' dA dB (zr_dA hS) d hd h, hA' pA pB (zr_pA hS) d hd h⟩) hW' hg ⟨t1, t2⟩) hR⟩) (fun hn => absurd hg hn)
  · exact hY _ (fun hn => absurd hn hg) (fun _ lo' pA' pB' t3 => ⟨rfl, zr_in (zr_sW0 hS (fun d hd h => ⟨t0 d hd h, t3 d hd h⟩) ⟨t1, t2⟩) hR⟩)
theorem zv_d2 (hS : zr_St cn O W LO UA KI F1 F2 F3 DI CA CB CT T LN E UB LA EA dA dB eB fu fz pr wh pA pB wt yB A B) (hR : zr_R R ro sz re rs) {c : Nat} (hc : c < 48) {a b : Int32} (hv : zf_v c a b 2) : wpX_describe (fun r u' => wpY_describe (fun r' v' => r' = r ∧ i_Rel (k + 5) u' v') ((nI cn), rs, nn, (za_F O), (za_F W), pA, pB, (za_F LO), (za_F UA), UB, LA, (za_F KI), wt, EA, yB, (za_F DI), E, (za_F CA), (za_F CB), (za_F CT), lo, (za_F T), (za_F LN), re, yr, fo, fl, ele, els, eb, yl, se, pg, yo) (nI c) (nI 2) a b) ((nI cn), rg, (za_F O), (za_F W), dA, dB, E, (za_F LO), (za_F UA), UB, LA, (za_F KI), (za_F F1), (za_F F2), (za_F F3), (za_F DI), EA, eB, (za_F CA), (za_F CB), (za_F CT), fu, fz, pr, wh, (za_F T), (za_F LN), ro, sz, em, hg, lv, bh, rl, rr, rv, ou, nx, sl) (nI c) (nI 2) a b := by
  have hvc : vp_in (nI c) 48 := vp_in_nI hc (by decide)
  have ec : (nI c).toNatClampNeg = c := nI_clamp (by omega)
  have n1 : narrow .boolean (.int (1 : Int32)) = .int (1 : Int32) := rfl
  have n0 : narrow .boolean (.int (0 : Int32)) = .int (0 : Int32) := rfl
  have h10 : ¬ (10 : Int32) = 0 := by decide
  unfold wpX_describe
  dsimp only
  refine zx_isChar_t hc (br_f (by decide) (zx_fits (w := 2) (by omega) (fun _ => br_f (by decide) ?_) (fun h => absurd hv h)))
  obtain ⟨f, hf, rfl⟩ := zf_r_nat (by omega) hv.1
  obtain ⟨g, hg_, rfl⟩ := zf_n_nat (by omega) hv.2
  have ho : za_o (nI g - 1) := zf_o hg_ (by omega)
  have hW' : zd_W (za_U W c 2) (za_U A c f) (za_U B c g) := by
    intro d hd h
    by_cases e : d = c
    · rw [e, za_Us, za_Us]; exact ⟨hf, hg_⟩
    · rw [za_Un e] at h
      rw [za_Un e, za_Un e]; exact zr_dW hS d hd h
  have hA' : ∀ (p q : Nat → Int32), (∀ d, d < 48 → W d ≠ 0 → p d = nI (A d) ∧ q d = nI (B d) - 1) → ∀ d, d < 48 → za_U W c 2 d ≠ 0 → upd p c (nI f) d = nI (za_U A c f d) ∧ upd q c (nI g - 1) d = nI (za_U B c g d) - 1 := by
    intro p q hp d hd h
    by_cases e : d = c
    · rw [e, pk_us, pk_us, za_Us, za_Us]; exact ⟨rfl, rfl⟩
    · rw [za_Un e] at h
      rw [pk_un e, pk_un e, za_Un e, za_Un e]; exact hp d hd h
  have hY : ∀ (p : Int32 → SY → Prop), (zd_G (za_U W c 2) (za_U A c f) (za_U B c g) → ∀ lo', p 1 ((nI cn), rs, nn, (za_F O), (za_F (za_U W c 2)), (upd pA c (nI f)), (upd pB c (nI g - 1)), (za_F LO), (za_F UA), UB, LA, (za_F KI), wt, EA, yB, (za_F DI), E, (za_F CA), (za_F CB), (za_F CT), lo', (za_F T), (za_F LN), re, yr, fo, fl, ele, els, eb, yl, se, pg, yo)) →
      (¬ zd_G (za_U W c 2) (za_U A c f) (za_U B c g) → ∀ lo' pA' pB', (∀ d, d < 48 → W d ≠ 0 → pA' d = nI (A d) ∧ pB' d = nI (B d) - 1) → p 0 ((nI cn), rs, nn, (za_F O), (za_F W), pA', pB', (za_F LO), (za_F UA), UB, LA, (za_F KI), wt, EA, yB, (za_F DI), E, (za_F CA), (za_F CB), (za_F CT), lo', (za_F T), (za_F LN), re, yr, fo, fl, ele, els, eb, yl, se, pg, yo)) → wpY_describe p ((nI cn), rs, nn, (za_F O), (za_F W), pA, pB, (za_F LO), (za_F UA), UB, LA, (za_F KI), wt, EA, yB, (za_F DI), E, (za_F CA), (za_F CB), (za_F CT), lo, (za_F T), (za_F LN), re, yr, fo, fl, ele, els, eb, yl, se, pg, yo) (nI c) (nI 2) (nI f) (nI g - 1) := by
    intro p h1 h0
    refine zy_desc hc (by omega) (fun _ => br_f (by decide) (br_t rfl (?_))) (fun h => absurd hv h)
    refine ⟨hvc, nm_r (e' := nI (W c)) (by rw [ec]; rfl) ⟨hvc, nm_r (e' := pA c) (by rw [ec]) ⟨hvc, nm_r (e' := pB c) (by rw [ec]) ⟨hvc, nm_r (e' := za_F (za_U W c 2)) (by rw [ec]; exact za_Fu W c 2) ⟨hvc, nm_r (e' := upd pA c (nI f)) (by rw [ec]) ⟨hvc, nm_r (e' := upd pB c (nI g - 1)) (by rw [ec]) ?_⟩⟩⟩⟩⟩⟩
    refine zy_dec52 hc (fun d hd => ?_) hW' (hA' pA pB (zr_pA hS)) (fun hg lo' => ⟨n1, h1 hg lo'⟩) (fun hg lo' => ⟨n0, ?_⟩)
    · unfold za_U; split
      · omega
      · exact zr_W2 hS d hd
    · rw [za_Fu, za_UU]
      refine h0 hg lo' _ _ (fun d hd h => ?_)
      by_cases e : d = c
      · rw [e, pk_us, pk_us]; rw [e] at h; exact zr_pA hS c hc h
      · rw [pk_un e, pk_un e, pk_un e, pk_un e]; exact zr_pA hS d hd h
  refine br_f (by decide) (br_f (by decide) ⟨hvc, nm_r (e' := nI (W c)) (by rw [ec]; rfl) ⟨hvc, nm_r (e' := dA c) (by rw [ec]) ⟨hvc, nm_r (e' := dB c) (by rw [ec]) (br_f (by decide) ?_)⟩⟩⟩)
  have ef : vp_nar .byte (nI f).toInt8.toInt32 = nI f := za_nb2 (by omega)
  have eg : vp_nar .byte (nI g - 1).toInt8.toInt32 = nI g - 1 := za_on2 ho
  refine zx_s53 (w := 2) (A := A) (B := B) (A' := za_U A c f) (B' := za_U B c g) hc (by omega) (zr_W2 hS) (zr_dW hS) (zr_dA hS) hW' (by rw [ef, eg]; exact hA' dA dB (zr_dA hS)) (fun hg fu' fz' pr' wh' t1 t2 => ⟨n1, ?_⟩) (zr_dG hS) (fun hg dA' dB' fu' fz' pr' wh' t0 t1 t2 => ⟨n0, ?_⟩)
  · rw [ef, eg]
    refine hY _ (fun _ lo' => ⟨rfl, zr_in (zr_sW hS (by omega) (fun d hd h => ⟨hA' dA dB (zr_dA hS) d hd h, hA' pA pB (zr_pA hS) d hd h⟩) hW' hg ⟨t1, t2⟩) hR⟩) (fun hn => absurd hg hn)
  · exact hY _ (fun hn => absurd hn hg) (fun _ lo' pA' pB' t3 => ⟨rfl, zr_in (zr_sW0 hS (fun d hd h => ⟨t0 d hd h, t3 d hd h⟩) ⟨t1, t2⟩) hR⟩)
theorem zv_describe (hS : zr_St cn O W LO UA KI F1 F2 F3 DI CA CB CT T LN E UB LA EA dA dB eB fu fz pr wh pA pB wt yB A B) (hR : zr_R R ro sz re rs) (v1 v2 v3 v4 : Int32) : wpX_describe (fun r u' => wpY_describe (fun r' v' => r' = r ∧ i_Rel (k + 5) u' v') ((nI cn), rs, nn, (za_F O), (za_F W), pA, pB, (za_F LO), (za_F UA), UB, LA, (za_F KI), wt, EA, yB, (za_F DI), E, (za_F CA), (za_F CB), (za_F CT), lo, (za_F T), (za_F LN), re, yr, fo, fl, ele, els, eb, yl, se, pg, yo) v1 v2 v3 v4) ((nI cn), rg, (za_F O), (za_F W), dA, dB, E, (za_F LO), (za_F UA), UB, LA, (za_F KI), (za_F F1), (za_F F2), (za_F F3), (za_F DI), EA, eB, (za_F CA), (za_F CB), (za_F CT), fu, fz, pr, wh, (za_F T), (za_F LN), ro, sz, em, hg, lv, bh, rl, rr, rv, ou, nx, sl) v1 v2 v3 v4 := by
  have hI : (0 : Int32) = 0 ∧ i_Rel (k + 5) ((nI cn), rg, (za_F O), (za_F W), dA, dB, E, (za_F LO), (za_F UA), UB, LA, (za_F KI), (za_F F1), (za_F F2), (za_F F3), (za_F DI), EA, eB, (za_F CA), (za_F CB), (za_F CT), fu, fz, pr, wh, (za_F T), (za_F LN), ro, sz, em, hg, lv, bh, rl, rr, rv, ou, nx, sl) ((nI cn), rs, nn, (za_F O), (za_F W), pA, pB, (za_F LO), (za_F UA), UB, LA, (za_F KI), wt, EA, yB, (za_F DI), E, (za_F CA), (za_F CB), (za_F CT), lo, (za_F T), (za_F LN), re, yr, fo, fl, ele, els, eb, yl, se, pg, yo) := ⟨rfl, zr_in hS hR⟩
  rcases zr_char v1 with ⟨c, hc, rfl⟩ | hn
  · rcases zr_rng v2 (n := 15) (by decide) with ⟨w, hw, rfl⟩ | hneg | ⟨hnn, w, hw, hw2, rfl⟩
    · by_cases hv : zf_v c v3 v4 w
      · rcases zf_15 hw with rfl | rfl | rfl | rfl | rfl | rfl | rfl | rfl | rfl | rfl | rfl | rfl | rfl | rfl | rfl
        · exact zv_d0 hS hR hc hv
        · exact zv_d1 hS hR hc hv
        · exact zv_d2 hS hR hc hv
        · exact zv_d3 hS hR hc hv
        · exact zv_d4 hS hR hc hv
        · exact zv_d5 hS hR hc hv
        · exact zv_d6 hS hR hc hv
        · exact zv_d7 hS hR hc hv
        · exact zv_d8 hS hR hc hv
        · exact zv_d9 hS hR hc hv
        · exact zv_d10 hS hR hc hv
        · exact zv_d11 hS hR hc hv
        · exact zv_d12 hS hR hc hv
        · exact zv_d13 hS hR hc hv
        · exact zv_d14 hS hR hc hv
      · unfold wpX_describe
        dsimp only
        refine zx_isChar_t hc (br_f (by decide) (zx_fits hw (fun h => absurd h hv) (fun _ => br_t rfl ?_)))
        exact zy_desc hc hw (fun h => absurd h hv) (fun _ => hI)
    · unfold wpX_describe wpY_describe
      dsimp only
      refine zx_isChar_t hc (br_f (by decide) ?_)
      unfold wpX_fits
      dsimp only
      refine br_t hneg (br_f (fun e => ?_) (br_t rfl ?_))
      · rw [e] at hneg; exact absurd hneg (by decide)
      · exact zy_isChar_t hc (br_f (by decide) (zy_in_l hneg (br_t rfl hI)))
    · unfold wpX_describe wpY_describe
      dsimp only
      refine zx_isChar_t hc (br_f (by decide) ?_)
      unfold wpX_fits
      dsimp only
      refine br_f hnn (pk_lt 13 w (fun _ => ?_) (fun h => by omega))
      refine pk_eq w 14 (fun h => by omega) (fun _ => br_t rfl ?_)
      exact zy_isChar_t hc (br_f (by decide) (zy_in_g (nI_lt (a := 14) (b := w) (by omega) hw2) (br_t rfl hI)))
  · unfold wpX_describe wpY_describe
    dsimp only
    exact zx_isChar_f hn (br_t rfl (zy_isChar_f hn (br_t rfl hI)))
end
end
section
def zi_f (g : Nat → Nat) (i : Nat) : Nat → Nat := fun j => if j < i then g j else 0
def zi_m (i : Nat) : Nat → Int32 := fun j => if j < i then -1 else 0
theorem zi_f0 (g : Nat → Nat) : (fun _ => (0 : Int32)) = za_F (zi_f g 0) := by
  funext j; show _ = nI (zi_f g 0 j); unfold zi_f; rw [if_neg (by omega)]; rfl
theorem zi_m0 : (fun _ => (0 : Int32)) = zi_m 0 := by
  funext j; unfold zi_m; rw [if_neg (by omega)]
theorem zi_fs {g : Nat → Nat} {i v : Nat} (h : v = g i) : upd (za_F (zi_f g i)) i (nI v) = za_F (zi_f g (i + 1)) := by
  rw [za_Fu]
  refine congrArg za_F ?_
  funext j
  unfold za_U zi_f
  by_cases e : j = i
  · rw [if_pos e, if_pos (by omega), h, e]
  · rw [if_neg e]
    by_cases e2 : j < i
    · rw [if_pos e2, if_pos (by omega)]
    · rw [if_neg e2, if_neg (by omega)]
theorem zi_ms {i : Nat} : upd (zi_m i) i (-1) = zi_m (i + 1) := by
  funext j
  unfold zi_m
  by_cases e : j = i
  · rw [e, pk_us, if_pos (by omega)]
  · rw [pk_un e]
    by_cases e2 : j < i
    · rw [if_pos e2, if_pos (by omega)]
    · rw [if_neg e2, if_neg (by omega)]
def zi_z : Nat → Int32 := fun _ => 0
def zi_0 : Nat → Nat := fun _ => 0
theorem zi_z0 : zi_z = za_F zi_0 := rfl
theorem zi_dW {A B : Nat → Nat} : zd_W zi_0 A B := fun c _ h => absurd rfl h
theorem zi_dd {A B : Nat → Nat} {m c : Nat} : zd_d zi_0 A B m c = [c] := zd_no (Or.inl rfl)
theorem zi_dG {A B : Nat → Nat} : zd_G zi_0 A B := fun c _ => by rw [zi_dd]; simp
theorem zx_init {post : SX → Prop}
    (H : ∀ fu fz pr wh, zx_tb zi_0 zi_0 zi_0 fu fz 48 → zh_T pr wh 48 (fun a b => zc_o zi_0 zi_0 zi_0 zi_z a b 48) →
      post ((nI 0), 0, (za_F zi_0), (za_F zi_0), zi_z, (zi_m 48), zi_z, (za_F (zi_f (fun j => j) 48)), (za_F (zi_f (fun j => j) 48)), (zi_m 48), (zi_m 48), (za_F zi_0), (za_F (zi_f (fun j => j + 1) 48)), (za_F (zi_f (fun _ => 1) 48)), (za_F (zi_f (fun _ => 1) 48)), (za_F zi_0), (zi_m 48), zi_z, (za_F zi_0), (za_F zi_0), (za_F zi_0), fu, fz, pr, wh, (za_F zi_0), (za_F zi_0), zi_z, zi_z, zi_z, zi_z, zi_z, zi_z, zi_z, zi_z, zi_z, zi_z, zi_z, (upd (upd zi_z 0 (-1)) 1 (-1)))) : wpX_init post := by
  have key : ∀ n i (a_lower a_upperA a_upperB a_last a_first a_second a_third a_expA a_decB : Nat → Int32), 48 < n + i → i ≤ 48 →
      a_lower = za_F (zi_f (fun j => j) i) → a_upperA = za_F (zi_f (fun j => j) i) → a_upperB = zi_m i → a_last = zi_m i → a_first = za_F (zi_f (fun j => j + 1) i) → a_second = za_F (zi_f (fun _ => 1) i) → a_third = za_F (zi_f (fun _ => 1) i) → a_expA = zi_m i → a_decB = zi_m i →
      wX_init_302 post 0 0 n (nI i) zi_z zi_z zi_z a_decB zi_z a_lower a_upperA a_upperB a_last zi_z a_first a_second a_third zi_z a_expA zi_z zi_z zi_z zi_z zi_z zi_z zi_z zi_z zi_z zi_z zi_z zi_z zi_z zi_z zi_z zi_z zi_z zi_z zi_z zi_z zi_z zi_z := by
    intro n
    induction n with
    | zero => intro i _ _ _ _ _ _ _ _ _ h1 h2; omega
    | succ n ih =>
      intro i a_lower a_upperA a_upperB a_last a_first a_second a_third a_expA a_decB h1 h2 e1 e2 e3 e4 e5 e6 e7 e8 e9
      refine pk_le 48 i (fun h => ?_) (fun h => ?_)
      · have : i = 48 := by omega
        subst this
        rw [e1, e2, e3, e4, e5, e6, e7, e8, e9]
        refine nm_r (e' := upd zi_z 0 (-1)) (by rw [za_nbm]) (nm_r (e' := upd (upd zi_z 0 (-1)) 1 (-1)) (by rw [za_nbm]) ?_)
        refine zx_learn (cn := 0) (rg := 0) (O := zi_0) (W := zi_0) (A := zi_0) (B := zi_0) (LO := zi_f (fun j => j) 48) (UA := zi_f (fun j => j) 48) (KI := zi_0) (F1 := zi_f (fun j => j + 1) 48) (F2 := zi_f (fun _ => 1) 48) (F3 := zi_f (fun _ => 1) 48) (DI := zi_0) (CA := zi_0) (CB := zi_0) (CT := zi_0) (T := zi_0) (LN := zi_0) zi_dW (fun c _ => Nat.zero_le _) (fun c _ h => absurd rfl h) (fun _ fu fz pr wh t1 t2 => ?_) (fun g => absurd zi_dG g)
        exact H fu fz pr wh t1 t2
      · have hv : vp_in (nI i) 48 := vp_in_nI h (by decide)
        have ei : (nI i).toNatClampNeg = i := nI_clamp (by omega)
        refine ⟨hv, nm_e ⟨hv, nm_e ⟨hv, nm_e ⟨hv, nm_e ⟨hv, nm_e ⟨hv, nm_e ⟨hv, nm_e ⟨hv, nm_e ⟨hv, nm_e ?_⟩⟩⟩⟩⟩⟩⟩⟩⟩
        refine nm_r (nI_1 i) (ih (i + 1) _ _ _ _ _ _ _ _ _ (by omega) (by omega) ?_ ?_ ?_ ?_ ?_ ?_ ?_ ?_ ?_)
        · rw [ei, za_nb2 (by omega), e1]; exact zi_fs rfl
        · rw [ei, za_nb2 (by omega), e2]; exact zi_fs rfl
        · rw [ei, za_nbm, e3]; exact zi_ms
        · rw [ei, za_nbm, e4]; exact zi_ms
        · rw [ei, nI_1, za_nb2 (by omega), e5]; exact zi_fs rfl
        · rw [ei, e6, show vp_nar .byte 1 = nI 1 from za_nb (v := 1) (by omega)]; exact zi_fs rfl
        · rw [ei, e7, show vp_nar .byte 1 = nI 1 from za_nb (v := 1) (by omega)]; exact zi_fs rfl
        · rw [ei, za_nbm, e8]; exact zi_ms
        · rw [ei, za_nbm, e9]; exact zi_ms
  exact ⟨49, key 49 0 _ _ _ _ _ _ _ _ _ (by omega) (by omega) (zi_f0 _) (zi_f0 _) zi_m0 zi_m0 (zi_f0 _) (zi_f0 _) (zi_f0 _) zi_m0 zi_m0⟩
theorem zy_init {post : SY → Prop}
    (H : ∀ wt, zr_W wt (zi_f (fun j => j + 1) 48) (zi_f (fun _ => 1) 48) (zi_f (fun _ => 1) 48) →
      post ((nI 0), 0, 0, (za_F zi_0), (za_F zi_0), zi_z, zi_z, (za_F (zi_f (fun j => j) 48)), (za_F (zi_f (fun j => j) 48)), (zi_m 48), (zi_m 48), (za_F zi_0), wt, (zi_m 48), zi_z, (za_F zi_0), zi_z, (za_F zi_0), (za_F zi_0), (za_F zi_0), zi_z, (za_F zi_0), (za_F zi_0), zi_z, zi_z, zi_z, zi_z, zi_z, zi_z, zi_z, zi_z, zi_z, zi_z, zi_z)) : wpY_init post := by
  have key : ∀ n i (a_lower a_upperA a_upperB a_last a_expA wt : Nat → Int32), 48 < n + i → i ≤ 48 →
      a_lower = za_F (zi_f (fun j => j) i) → a_upperA = za_F (zi_f (fun j => j) i) → a_upperB = zi_m i → a_last = zi_m i → a_expA = zi_m i → (∀ c, c < i → wt (3 * c) = nI (c + 1) ∧ wt (3 * c + 1) = nI 1 ∧ wt (3 * c + 2) = nI 1) →
      wY_init_254 post 0 0 0 n (nI i) zi_z zi_z zi_z zi_z a_lower a_upperA a_upperB a_last zi_z wt a_expA zi_z zi_z zi_z zi_z zi_z zi_z zi_z zi_z zi_z zi_z zi_z zi_z zi_z zi_z zi_z zi_z zi_z zi_z zi_z zi_z := by
    intro n
    induction n with
    | zero => intro i _ _ _ _ _ _ h1 h2; omega
    | succ n ih =>
      intro i a_lower a_upperA a_upperB a_last a_expA wt h1 h2 e1 e2 e3 e4 e5 e6
      refine pk_le 48 i (fun h => ?_) (fun h => ?_)
      · have : i = 48 := by omega
        subst this
        rw [e1, e2, e3, e4, e5]
        refine H wt (fun c hc => ?_)
        have := e6 c hc
        unfold zi_f
        rw [if_pos hc, if_pos hc]
        exact this
      · have hv : vp_in (nI i) 48 := vp_in_nI h (by decide)
        have ei : (nI i).toNatClampNeg = i := nI_clamp (by omega)
        have e30 : 3 * nI i = nI (3 * i) := pk_mul 3 i
        have e31 : 3 * nI i + 1 = nI (3 * i + 1) := by rw [e30, nI_1]
        have e32 : 3 * nI i + 2 = nI (3 * i + 2) := by rw [e30]; exact nI_add (3 * i) 2
        refine ⟨hv, nm_e ⟨hv, nm_e ⟨hv, nm_e ⟨hv, nm_e ⟨hv, nm_e ⟨by rw [e30]; exact vp_in_nI (by omega) (by decide), ?_⟩⟩⟩⟩⟩⟩
        refine nm_r (e' := upd wt (3 * i) (nI (i + 1))) (by rw [e30, nI_clamp (by omega), nI_1]) ⟨by rw [e31]; exact vp_in_nI (by omega) (by decide), ?_⟩
        refine nm_r (e' := upd (upd wt (3 * i) (nI (i + 1))) (3 * i + 1) (nI 1)) (by rw [e31, nI_clamp (by omega)]; rfl) ⟨by rw [e32]; exact vp_in_nI (by omega) (by decide), ?_⟩
        refine nm_r (e' := upd (upd (upd wt (3 * i) (nI (i + 1))) (3 * i + 1) (nI 1)) (3 * i + 2) (nI 1)) (by rw [e32, nI_clamp (by omega)]; rfl) ?_
        refine nm_r (nI_1 i) (ih (i + 1) _ _ _ _ _ _ (by omega) (by omega) ?_ ?_ ?_ ?_ ?_ ?_)
        · rw [ei, e1]; exact zi_fs rfl
        · rw [ei, e2]; exact zi_fs rfl
        · rw [ei, e3]; exact zi_ms
        · rw [ei, e4]; exact zi_ms
        · rw [ei, e5]; exact zi_ms
        · intro c hc
          by_cases e : c = i
          · subst e
            refine ⟨?_, ?_, ?_⟩
            · rw [pk_un (by omega), pk_un (by omega), pk_us]
            · rw [pk_un (by omega), pk_us]
            · exact pk_us
          · rw [pk_un (by omega), pk_un (by omega), pk_un (by omega), pk_un (by omega), pk_un (by omega), pk_un (by omega), pk_un (by omega), pk_un (by omega), pk_un (by omega)]
            exact e6 c (by omega)
  exact ⟨49, key 49 0 _ _ _ _ _ _ (by omega) (by omega) (zi_f0 _) (zi_f0 _) zi_m0 zi_m0 zi_m0 (fun c hc => by omega)⟩
theorem zv_init : wpX_init (fun u => wpY_init (fun v => i_Rel 0 u v)) := by
  refine zx_init (fun fu fz pr wh t1 t2 => zy_init (fun wt h => ?_))
  have z48 : 0 < 48 := by decide
  refine zr_in (A := zi_0) (B := zi_0) (R := []) ⟨fun c hc => ?_, ⟨by omega, fun j _ => ⟨z48, z48, z48⟩⟩, fun c _ h => absurd rfl h, zi_dW, zi_dG, ⟨t1, t2⟩, fun c hc => ?_, h, ⟨fun j _ => z48, fun j _ => Nat.zero_le _⟩⟩ ⟨⟨trivial, rfl⟩, trivial, rfl, by simp, fun x hx => by simp at hx⟩
  · have h1 : zi_f (fun j => j) 48 c = c := if_pos hc
    have h2 : zi_f (fun j => j + 1) 48 c = c + 1 := if_pos hc
    have h3 : zi_f (fun _ => 1) 48 c = 1 := if_pos hc
    have h4 : zi_m 48 c = -1 := if_pos hc
    rw [h1, h2, h3, h4]
    refine ⟨⟨show 0 < 10 by decide, show 0 ≤ 2 by decide, hc, hc, show 0 < 8 by decide⟩, ⟨by omega, by omega, by omega, show 0 < 7 by decide⟩, Or.inl rfl, Or.inl rfl, Or.inl rfl⟩
  · exact Or.inl (if_pos hc)
end
section
/-! sets of places as bits; kinds; breaks -/
theorem zb_1 : ∀ i, i < 32 → bt 1 i = decide (i = 0) := by decide +kernel
theorem zb_sh {p i : Nat} (hp : p < 32) (hi : i < 32) : bt ((1 : Int32) <<< (nI p &&& 31)) i = decide (i = p) := by
  rw [b_shl p hp 1 hi]
  by_cases h : p ≤ i
  · rw [zb_1 (i - p) (by omega), decide_eq_true h, Bool.true_and]
    by_cases e : i = p
    · rw [decide_eq_true e, decide_eq_true (by omega)]
    · rw [decide_eq_false e, decide_eq_false (by omega)]
  · rw [decide_eq_false h, Bool.false_and, decide_eq_false (by omega)]
theorem zb_or {x : Int32} {p i : Nat} (hp : p < 32) (hi : i < 32) : bt (x ||| ((1 : Int32) <<< (nI p &&& 31))) i = (bt x i || decide (i = p)) := by
  rw [b_or, zb_sh hp hi]
theorem zb_add {x : Int32} {p : Nat} (hp : p < 32) (h : bt x p = false) : x + ((1 : Int32) <<< (nI p &&& 31)) = x ||| ((1 : Int32) <<< (nI p &&& 31)) := by
  apply Int32.toBitVec_inj.mp
  rw [Int32.toBitVec_add, Int32.toBitVec_or]
  apply BitVec.add_eq_or_of_and_eq_zero
  apply BitVec.eq_of_getLsbD_eq
  intro i hi
  rw [BitVec.getLsbD_and]
  have e := zb_sh hp hi
  unfold bt at e h
  rw [e]
  by_cases g : i = p
  · rw [g, h]; simp
  · rw [decide_eq_false g]; simp
theorem zb_test {x : Int32} {p : Nat} (hp : p < 31) : ((x >>> (nI p &&& 31)) &&& 1) = 0 ↔ bt x p = false := by
  constructor
  · intro h
    have e : bt ((x >>> (nI p &&& 31)) &&& 1) 0 = bt x p := by
      rw [b_and, zb_1 0 (by omega), b_sshr p (by omega) x (by omega), if_pos (by omega)]
      simp
    rw [← e, h, b_0]
  · intro h
    apply b_ext
    intro i hi
    rw [b_and, b_0, zb_1 i hi]
    by_cases e : i = 0
    · subst e
      rw [b_sshr p (by omega) x (by omega), if_pos (by omega)]
      simp [h]
    · rw [decide_eq_false e, Bool.and_false]
def zb_k (KI T : Nat → Nat) (t i : Nat) : Nat := KI (T (16 * t + i))
/-- a cluster break -/
def zb_c (kk : Nat → Nat) (n p : Nat) : Bool :=
  if p = 0 ∨ p = n then decide (0 < n) else !(decide (kk p = 2 ∧ kk (p - 1) ≠ 1)) && (decide (kk (p - 1) ≠ 3 ∨ kk p = 1))
/-- the carrier, what is behind -/
def zb_a (kk : Nat → Nat) : Nat → Nat
  | 0 => 0
  | k + 1 => if kk (k + 1) = 2 ∧ kk k ≠ 1 then zb_a kk k else k + 1
def zb_b (kk : Nat → Nat) (n : Nat) : Nat → Nat
  | 0 => 0
  | d + 1 => if kk (n - (d + 1)) = 2 then zb_b kk n d else kk (n - (d + 1)) + 1
theorem zb_a_le (kk : Nat → Nat) : ∀ k, zb_a kk k ≤ k
  | 0 => Nat.le_refl _
  | k + 1 => by
    have := zb_a_le kk k
    unfold zb_a; split <;> omega
theorem zb_b_lt {kk : Nat → Nat} {n : Nat} (h : ∀ i, i < n → kk i < 8) : ∀ d, d ≤ n → zb_b kk n d ≤ 8
  | 0, _ => Nat.zero_le _
  | d + 1, hd => by
    have := zb_b_lt h d (by omega)
    have := h (n - (d + 1)) (by omega)
    unfold zb_b; split <;> omega
def zb_w1 (k : Nat) : Bool := decide (k = 4 ∨ k = 5)
def zb_g (before x y behind : Nat) : Bool :=
  (zb_w1 x && (zb_w1 y || decide (y = 7))) || (decide (x = 7) && (zb_w1 y || decide (y = 7))) || (zb_w1 x && decide (y = 6) && decide (behind = x + 1)) || (zb_w1 y && decide (x = 6) && decide (before = y + 1))
/-- what is before a carrier: 0 or its kind + 1 -/
def zb_f (kk : Nat → Nat) (i : Nat) : Nat := if i = 0 then 0 else kk (zb_a kk (i - 1)) + 1
/-- a word break -/
def zb_w (kk : Nat → Nat) (n p : Nat) : Bool :=
  if p = 0 ∨ p = n then decide (0 < n) else
    if kk p = 2 ∧ kk (p - 1) ≠ 1 then false else !(zb_g (zb_f kk (zb_a kk (p - 1))) (kk (zb_a kk (p - 1))) (kk p) (zb_b kk n (n - (p + 1))))
def zb_2 (v : Nat) : Nat := if v = 2 then 0 else v
def zb_2c (v : Nat) : Nat := if v = 3 then 1 else v
theorem zb_g2 {b x y h : Nat} : zb_g (zb_2c b) (zb_2 x) y h = zb_g b x y h := by
  have e1 : zb_w1 (zb_2 x) = zb_w1 x := by
    unfold zb_w1 zb_2
    by_cases e : x = 2
    · rw [if_pos e, e]; rfl
    · rw [if_neg e]
  have e2 : decide (zb_2 x = 7) = decide (x = 7) := by
    unfold zb_2
    by_cases e : x = 2
    · rw [if_pos e, e]; rfl
    · rw [if_neg e]
  have e3 : decide (zb_2 x = 6) = decide (x = 6) := by
    unfold zb_2
    by_cases e : x = 2
    · rw [if_pos e, e]; rfl
    · rw [if_neg e]
  have e4 : (zb_w1 x && decide (y = 6) && decide (h = zb_2 x + 1)) = (zb_w1 x && decide (y = 6) && decide (h = x + 1)) := by
    unfold zb_2
    by_cases e : x = 2
    · have : zb_w1 x = false := by rw [e]; rfl
      rw [this]; rfl
    · rw [if_neg e]
  have e5 : (zb_w1 y && decide (x = 6) && decide (zb_2c b = y + 1)) = (zb_w1 y && decide (x = 6) && decide (b = y + 1)) := by
    unfold zb_2c
    by_cases e : b = 3
    · rw [if_pos e, e]
      by_cases hy : zb_w1 y = true
      · have : y = 4 ∨ y = 5 := by unfold zb_w1 at hy; exact of_decide_eq_true hy
        rw [decide_eq_false (p := (1 : Nat) = y + 1) (by omega), decide_eq_false (p := 3 = y + 1) (by omega)]
      · have : zb_w1 y = false := by cases h : zb_w1 y with
          | true => exact absurd h hy
          | false => rfl
        rw [this]; rfl
    · rw [if_neg e]
  unfold zb_g
  rw [e1, e2, e3, e4, e5]
/-- X's last two bases at p -/
def zb_X (kk : Nat → Nat) (p : Nat) : Nat := zb_2 (kk (zb_a kk p))
def zb_B (kk : Nat → Nat) (p : Nat) : Nat := zb_2c (zb_f kk (zb_a kk p))
theorem zb_on {kk : Nat → Nat} {p : Nat} (h : kk (p + 1) = 2 ∧ kk p ≠ 1) : zb_X kk (p + 1) = zb_X kk p ∧ zb_B kk (p + 1) = zb_B kk p := by
  unfold zb_X zb_B
  have e : zb_a kk (p + 1) = zb_a kk p := by rw [zb_a, if_pos h]
  rw [e]; exact ⟨rfl, rfl⟩
theorem zb_off {kk : Nat → Nat} {p : Nat} (h : ¬ (kk (p + 1) = 2 ∧ kk p ≠ 1)) : zb_X kk (p + 1) = zb_2 (kk (p + 1)) ∧ zb_B kk (p + 1) = zb_X kk p + 1 := by
  unfold zb_X zb_B
  have e : zb_a kk (p + 1) = p + 1 := by rw [zb_a, if_neg h]
  rw [e]
  refine ⟨rfl, ?_⟩
  have e2 : zb_f kk (p + 1) = kk (zb_a kk p) + 1 := by
    unfold zb_f; rw [if_neg (by omega), Nat.add_sub_cancel]
  rw [e2]
  unfold zb_2c zb_2
  by_cases g : kk (zb_a kk p) = 2
  · rw [if_pos g, g]; rfl
  · rw [if_neg g, if_neg (show ¬ kk (zb_a kk p) + 1 = 3 by omega)]
theorem zb_B0 (kk : Nat → Nat) : zb_B kk 0 = 0 := rfl
theorem zb_X_lt {kk : Nat → Nat} {n p : Nat} (h : ∀ i, i < n → kk i < 8) (hp : p < n) : zb_X kk p < 8 := by
  unfold zb_X zb_2
  have := zb_a_le kk p
  have := h (zb_a kk p) (by omega)
  split <;> omega
theorem zb_B_lt {kk : Nat → Nat} {n p : Nat} (h : ∀ i, i < n → kk i < 8) (hp : p < n) : zb_B kk p ≤ 8 := by
  have := zb_a_le kk p
  have := zb_a_le kk (zb_a kk p - 1)
  have := h (zb_a kk (zb_a kk p - 1)) (by omega)
  have hf : zb_f kk (zb_a kk p) ≤ 8 := by unfold zb_f; split <;> omega
  unfold zb_B zb_2c
  split <;> omega
/-- letters beside a place, but for MIDDLE and EXTEND -/
def zb_l (kk : Nat → Nat) : Nat → Nat
  | 0 => 0
  | p + 1 => if kk p = 2 ∨ kk p = 6 then zb_l kk p else p + 1
def zb_r (kk : Nat → Nat) (n : Nat) : Nat → Nat
  | 0 => 0
  | d + 1 => if kk (n - (d + 1)) = 2 ∨ kk (n - (d + 1)) = 6 then zb_r kk n d else n - (d + 1) + 1
def zb_L (kk : Nat → Nat) (p : Nat) : Bool := decide (zb_l kk p ≠ 0 ∧ kk (zb_l kk p - 1) = 4)
def zb_R (kk : Nat → Nat) (n d : Nat) : Bool := decide (zb_r kk n d ≠ 0 ∧ kk (zb_r kk n d - 1) = 4)
theorem zb_l_le (kk : Nat → Nat) : ∀ p, zb_l kk p ≤ p
  | 0 => Nat.le_refl _
  | p + 1 => by
    have := zb_l_le kk p
    unfold zb_l; split <;> omega
theorem zb_r_le (kk : Nat → Nat) (n : Nat) : ∀ d, d ≤ n → zb_r kk n d ≤ n
  | 0, _ => Nat.zero_le _
  | d + 1, h => by
    have := zb_r_le kk n d (by omega)
    unfold zb_r; split <;> omega
theorem zb_L_s {kk : Nat → Nat} {p : Nat} : zb_L kk (p + 1) = if kk p = 2 ∨ kk p = 6 then zb_L kk p else decide (kk p = 4) := by
  unfold zb_L
  rw [zb_l]
  by_cases h : kk p = 2 ∨ kk p = 6
  · rw [if_pos h, if_pos h]
  · rw [if_neg h, if_neg h, Nat.add_sub_cancel]
    simp
theorem zb_R_s {kk : Nat → Nat} {n d : Nat} : zb_R kk n (d + 1) = if kk (n - (d + 1)) = 2 ∨ kk (n - (d + 1)) = 6 then zb_R kk n d else decide (kk (n - (d + 1)) = 4) := by
  unfold zb_R
  rw [zb_r]
  by_cases h : kk (n - (d + 1)) = 2 ∨ kk (n - (d + 1)) = 6
  · rw [if_pos h, if_pos h]
  · rw [if_neg h, if_neg h, Nat.add_sub_cancel]
    simp
end
section
theorem zb_eq {b x : Nat} (hb : b < 2 ^ 30) (hx : x < 2 ^ 30) : nI b - 1 = nI x ↔ b = x + 1 := by
  rcases Nat.eq_zero_or_pos b with h | h
  · rw [h]
    constructor
    · intro e
      have := nI_pos (n := x) (by omega)
      rw [← e] at this
      exact absurd (by decide) this
    · intro e; omega
  · rw [za_p1 h, nI_eq (by omega) (by omega)]; omega
theorem zb_ne {b x : Nat} (hb : b < 2 ^ 30) (hx : x < 2 ^ 30) {P Q : Prop} (h1 : b = x + 1 → P) (h0 : b ≠ x + 1 → Q) : (nI b - 1 = nI x → P) ∧ (¬ nI b - 1 = nI x → Q) :=
  ⟨fun e => h1 ((zb_eq hb hx).mp e), fun e => h0 (fun q => e ((zb_eq hb hx).mpr q))⟩
theorem zx_wordly {post : Int32 → Prop} {k : Nat} (hk : k < 8) (h1 : zb_w1 k = true → post 1) (h0 : zb_w1 k = false → post 0) : wpX_wordly post (nI k) := by
  refine pk_eq k 4 (fun e => h1 (by rw [e]; rfl)) (fun e => pk_eq k 5 (fun e2 => h1 (by rw [e2]; rfl)) (fun e2 => h0 ?_))
  unfold zb_w1; exact decide_eq_false (by omega)
theorem zx_goesOn {post : Int32 → Prop} {b x y h : Nat} (hb : b ≤ 8) (hx : x < 8) (hy : y < 8) (hh : h ≤ 8) (h1 : zb_g b x y h = true → post 1) (h0 : zb_g b x y h = false → post 0) : wpX_goesOn post (nI b - 1) (nI x) (nI y) (nI h - 1) := by
  have q1 : ¬ (1 : Int32) = 0 := by decide
  have h43 : (zb_w1 x && (zb_w1 y || decide (y = 7))) = false → (decide (x = 7) && (zb_w1 y || decide (y = 7))) = false → wX_goesOn_43 post (nI b - 1) (nI x) (nI y) (nI h - 1) := by
    intro e1 e2
    have eg : zb_g b x y h = ((zb_w1 x && decide (y = 6) && decide (h = x + 1)) || (zb_w1 y && decide (x = 6) && decide (b = y + 1))) := by
      unfold zb_g; rw [e1, e2, Bool.false_or, Bool.false_or]
    rw [eg] at h1 h0
    refine pk_eq y 6 (fun e6 => ?_) (fun e6 => ?_)
    · have ey : zb_w1 y = false := by rw [e6]; rfl
      rw [ey, decide_eq_true e6, Bool.false_and, Bool.false_and, Bool.or_false, Bool.and_true] at h1 h0
      refine zx_wordly hx (fun w => br_f q1 ?_) (fun w => br_t rfl (h0 (by rw [w]; rfl)))
      rw [w, Bool.true_and] at h1 h0
      exact zb_ne (by omega) (by omega) (fun g => h1 (decide_eq_true g)) (fun g => h0 (decide_eq_false g))
    · rw [decide_eq_false e6, Bool.and_false, Bool.false_and, Bool.false_or] at h1 h0
      refine pk_eq x 6 (fun g6 => ?_) (fun g6 => h0 (by rw [decide_eq_false g6, Bool.and_false, Bool.false_and]))
      rw [decide_eq_true g6, Bool.and_true] at h1 h0
      refine zx_wordly hy (fun w => br_f q1 ?_) (fun w => br_t rfl (h0 (by rw [w]; rfl)))
      rw [w, Bool.true_and] at h1 h0
      exact zb_ne (by omega) (by omega) (fun g => h1 (decide_eq_true g)) (fun g => h0 (decide_eq_false g))
  have h22 : (zb_w1 x && (zb_w1 y || decide (y = 7))) = false → wX_goesOn_22 post (nI b - 1) (nI x) (nI y) (nI h - 1) := by
    intro e1
    refine pk_eq x 7 (fun e7 => ?_) (fun e7 => h43 e1 (by rw [decide_eq_false e7]; rfl))
    refine zx_wordly hy (fun w => br_f q1 (h1 ?_)) (fun w => br_t rfl (pk_eq y 7 (fun g7 => h1 ?_) (fun g7 => h43 e1 ?_)))
    · unfold zb_g; rw [e1, decide_eq_true e7, w]; rfl
    · unfold zb_g; rw [e1, decide_eq_true e7, decide_eq_true g7, w]; rfl
    · rw [w, decide_eq_false g7]; simp
  refine zx_wordly hx (fun w => br_f q1 ?_) (fun w => br_t rfl (h22 (by rw [w]; rfl)))
  refine zx_wordly hy (fun w2 => br_f q1 (h1 ?_)) (fun w2 => br_t rfl (pk_eq y 7 (fun g7 => h1 ?_) (fun g7 => h22 ?_)))
  · unfold zb_g; rw [w, w2]; rfl
  · unfold zb_g; rw [w, w2, decide_eq_true g7]; rfl
  · rw [w2, decide_eq_false g7]; simp
section
variable {cn : Nat} {rg : Int32} {O W LO UA KI F1 F2 F3 DI CA CB CT T LN : Nat → Nat} {E UB LA EA dA dB eB fu fz pr wh ro sz em hg lv bh rl rr rv ou nx sl : Nat → Int32}
theorem zx_joins {post : Int32 → Prop} {x y : Nat} (hx : x < 8) (hy : y < 8) (h1 : y = 2 ∧ x ≠ 1 → post 1) (h0 : ¬ (y = 2 ∧ x ≠ 1) → post 0) : wpX_joins post ((nI cn), rg, (za_F O), (za_F W), dA, dB, E, (za_F LO), (za_F UA), UB, LA, (za_F KI), (za_F F1), (za_F F2), (za_F F3), (za_F DI), EA, eB, (za_F CA), (za_F CB), (za_F CT), fu, fz, pr, wh, (za_F T), (za_F LN), ro, sz, em, hg, lv, bh, rl, rr, rv, ou, nx, sl) (nI x) (nI y) :=
  pk_eq y 2 (fun e => pk_eq x 1 (fun g => h0 (by omega)) (fun g => h1 ⟨e, g⟩)) (fun e => h0 (by omega))
/-- a character's kind: within, and its value -/
theorem zb_rd {KI T : Nat → Nat} {t i : Nat} {x : Int32} (ht : t < 2) (hi : i < 16) (hT : ∀ j, j < 32 → T j < 48) (hx : x = nI (16 * t + i)) :
    vp_in x 32 ∧ vp_in (za_F T x.toNatClampNeg) 48 ∧ za_F KI (za_F T x.toNatClampNeg).toNatClampNeg = nI (zb_k KI T t i) := by
  have h := hT (16 * t + i) (by omega)
  subst hx
  have e : za_F T (nI (16 * t + i)).toNatClampNeg = nI (T (16 * t + i)) := by rw [nI_clamp (by omega)]; rfl
  rw [e, nI_clamp (show T (16 * t + i) < 2 ^ 31 by omega)]
  exact ⟨vp_in_nI (by omega) (by decide), vp_in_nI h (by decide), rfl⟩
theorem zx_clusters {post : Int32 → Prop} {t : Nat} (ht : t < 2) (hl : LN t ≤ 16) (hT : ∀ j, j < 32 → T j < 48) (hK : ∀ x, x < 48 → KI x < 8)
    (H : ∀ v, (∀ i, i < 32 → bt v i = (decide (i ≤ LN t) && zb_c (zb_k KI T t) (LN t) i)) → post v) : wpX_clusters post ((nI cn), rg, (za_F O), (za_F W), dA, dB, E, (za_F LO), (za_F UA), UB, LA, (za_F KI), (za_F F1), (za_F F2), (za_F F3), (za_F DI), EA, eB, (za_F CA), (za_F CB), (za_F CT), fu, fz, pr, wh, (za_F T), (za_F LN), ro, sz, em, hg, lv, bh, rl, rr, rv, ou, nx, sl) (nI t) := by
  have hk : ∀ i, i < 16 → zb_k KI T t i < 8 := fun i hi => hK _ (hT _ (by omega))
  have elen : za_F LN (nI t).toNatClampNeg = nI (LN t) := by rw [nI_clamp (by omega)]; rfl
  have key : ∀ n p v, LN t < n + p → 0 < p → 0 < LN t → p ≤ LN t → (∀ i, i < 32 → bt v i = ((decide (i = 0) || decide (i = LN t)) || (decide (i < p) && zb_c (zb_k KI T t) (LN t) i))) → wX_clusters_24 post (nI t) (nI (LN t)) (nI cn) rg (za_F O) (za_F W) dA dB E (za_F LO) (za_F UA) UB LA (za_F KI) (za_F F1) (za_F F2) (za_F F3) (za_F DI) EA eB (za_F CA) (za_F CB) (za_F CT) fu fz pr wh (za_F T) (za_F LN) ro sz em hg lv bh rl rr rv ou nx sl n v (nI p) := by
    intro n
    induction n with
    | zero => intro p v h1 h2 h3 h4; omega
    | succ n ih =>
      intro p v h1 h2 h3 h4 hv
      refine pk_le (LN t) p (fun h => H v (fun i hi => ?_)) (fun h => ?_)
      · have ep : p = LN t := by omega
        rw [hv i hi, ep]
        rcases Nat.lt_trichotomy i (LN t) with g | g | g
        · rw [decide_eq_false (show ¬ i = LN t by omega), decide_eq_true g, decide_eq_true (show i ≤ LN t by omega), Bool.or_false, Bool.true_and]
          by_cases e0 : i = 0
          · rw [decide_eq_true e0, Bool.true_or]
            unfold zb_c; rw [if_pos (Or.inl e0), decide_eq_true h3]
          · rw [decide_eq_false e0, Bool.false_or]
        · rw [decide_eq_true g, Bool.or_true, Bool.true_or, decide_eq_true (show i ≤ LN t by omega), Bool.true_and]
          unfold zb_c; rw [if_pos (Or.inr g), decide_eq_true h3]
        · rw [decide_eq_false (show ¬ i = LN t by omega), decide_eq_false (show ¬ i < LN t by omega), decide_eq_false (show ¬ i ≤ LN t by omega), decide_eq_false (show ¬ i = 0 by omega)]; rfl
      · have e1 : 16 * nI t + nI p - 1 = nI (16 * t + (p - 1)) := by rw [za_x16, za_p1 (by omega)]; exact congrArg nI (by omega)
        obtain ⟨a1, a2, a3⟩ := zb_rd (KI := KI) (T := T) ht (show p - 1 < 16 by omega) hT e1
        obtain ⟨b1, b2, b3⟩ := zb_rd (KI := KI) (T := T) ht (show p < 16 by omega) hT (za_x16 t p)
        have k1 := hk (p - 1) (by omega)
        have k2 := hk p (by omega)
        have hc : zb_c (zb_k KI T t) (LN t) p = (!(decide (zb_k KI T t p = 2 ∧ zb_k KI T t (p - 1) ≠ 1)) && (decide (zb_k KI T t (p - 1) ≠ 3 ∨ zb_k KI T t p = 1))) := by
          unfold zb_c; rw [if_neg (by omega)]
        have hyes : zb_c (zb_k KI T t) (LN t) p = true → wX_clusters_93 post (wX_clusters_24 post (nI t) (nI (LN t)) (nI cn) rg (za_F O) (za_F W) dA dB E (za_F LO) (za_F UA) UB LA (za_F KI) (za_F F1) (za_F F2) (za_F F3) (za_F DI) EA eB (za_F CA) (za_F CB) (za_F CT) fu fz pr wh (za_F T) (za_F LN) ro sz em hg lv bh rl rr rv ou nx sl n) (nI t) (nI (LN t)) v (nI p) (nI cn) rg (za_F O) (za_F W) dA dB E (za_F LO) (za_F UA) UB LA (za_F KI) (za_F F1) (za_F F2) (za_F F3) (za_F DI) EA eB (za_F CA) (za_F CB) (za_F CT) fu fz pr wh (za_F T) (za_F LN) ro sz em hg lv bh rl rr rv ou nx sl := by
          intro hc
          refine nm_e (nm_r (nI_1 p) (ih (p + 1) _ (by omega) (by omega) h3 (by omega) (fun i hi => ?_)))
          rw [zb_or (by omega) hi, hv i hi]
          by_cases g : i = p
          · rw [g, hc, decide_eq_true (show p < p + 1 by omega), decide_eq_true (show p = p from rfl)]; simp
          · rw [decide_eq_false g, Bool.or_false]
            by_cases g2 : i < p
            · rw [decide_eq_true g2, decide_eq_true (show i < p + 1 by omega)]
            · rw [decide_eq_false g2, decide_eq_false (show ¬ i < p + 1 by omega)]
        have hno : zb_c (zb_k KI T t) (LN t) p = false → wX_clusters_24 post (nI t) (nI (LN t)) (nI cn) rg (za_F O) (za_F W) dA dB E (za_F LO) (za_F UA) UB LA (za_F KI) (za_F F1) (za_F F2) (za_F F3) (za_F DI) EA eB (za_F CA) (za_F CB) (za_F CT) fu fz pr wh (za_F T) (za_F LN) ro sz em hg lv bh rl rr rv ou nx sl n v (nI (p + 1)) := by
          intro hc
          refine ih (p + 1) _ (by omega) (by omega) h3 (by omega) (fun i hi => ?_)
          rw [hv i hi]
          by_cases g : i = p
          · rw [g, hc, Bool.and_false, Bool.and_false]
          · by_cases g2 : i < p
            · rw [decide_eq_true g2, decide_eq_true (show i < p + 1 by omega)]
            · rw [decide_eq_false g2, decide_eq_false (show ¬ i < p + 1 by omega)]
        refine ⟨a1, a2, nm_r a3 ⟨b1, b2, nm_r b3 ?_⟩⟩
        refine zx_joins k1 k2 (fun j => br_f (by decide) (nm_r (nI_1 p) (hno ?_))) (fun j => br_t rfl ?_)
        · rw [hc, decide_eq_true j]; rfl
        · rw [decide_eq_false j] at hc
          refine pk_eq (zb_k KI T t (p - 1)) 3 (fun g => pk_eq (zb_k KI T t p) 1 (fun g2 => hyes ?_) (fun g2 => nm_r (nI_1 p) (hno ?_))) (fun g => hyes ?_)
          · rw [hc, decide_eq_true (Or.inr g2)]; rfl
          · rw [hc, decide_eq_false (by omega)]; rfl
          · rw [hc, decide_eq_true (Or.inl g)]; rfl
  refine ⟨vp_in_nI ht (by decide), nm_r elen ?_⟩
  refine pk_le (LN t) 0 (fun h => ⟨1, ?_⟩) (fun h => ?_)
  · refine pk_le (LN t) 1 (fun _ => H 0 (fun i hi => ?_)) (fun g => by omega)
    rw [b_0]
    by_cases g : i ≤ LN t
    · have : i = 0 := by omega
      subst this
      unfold zb_c; rw [if_pos (Or.inl rfl), decide_eq_false (show ¬ 0 < LN t by omega), Bool.and_false]
    · rw [decide_eq_false g]; rfl
  · refine nm_e ⟨LN t + 1, key (LN t + 1) 1 _ (by omega) (by omega) h h (fun i hi => ?_)⟩
    rw [zb_or (by omega) hi, zb_1 i hi]
    by_cases g : i = 0
    · rw [decide_eq_true g]; rfl
    · rw [decide_eq_false (show ¬ i < 1 by omega), Bool.false_and, Bool.or_false]
theorem zx_words {post : Int32 → SX → Prop} {t : Nat} (ht : t < 2) (hl : LN t ≤ 16) (hT : ∀ j, j < 32 → T j < 48) (hK : ∀ x, x < 48 → KI x < 8)
    (H : ∀ v ro', zx_rf 3 ro ro' sz sz → (∀ i, i < 32 → bt v i = (decide (i ≤ LN t) && zb_w (zb_k KI T t) (LN t) i)) → post v ((nI cn), rg, (za_F O), (za_F W), dA, dB, E, (za_F LO), (za_F UA), UB, LA, (za_F KI), (za_F F1), (za_F F2), (za_F F3), (za_F DI), EA, eB, (za_F CA), (za_F CB), (za_F CT), fu, fz, pr, wh, (za_F T), (za_F LN), ro', sz, em, hg, lv, bh, rl, rr, rv, ou, nx, sl)) : wpX_words post ((nI cn), rg, (za_F O), (za_F W), dA, dB, E, (za_F LO), (za_F UA), UB, LA, (za_F KI), (za_F F1), (za_F F2), (za_F F3), (za_F DI), EA, eB, (za_F CA), (za_F CB), (za_F CT), fu, fz, pr, wh, (za_F T), (za_F LN), ro, sz, em, hg, lv, bh, rl, rr, rv, ou, nx, sl) (nI t) := by
  have hk : ∀ i, i < LN t → zb_k KI T t i < 8 := fun i hi => hK _ (hT _ (by omega))
  have elen : za_F LN (nI t).toNatClampNeg = nI (LN t) := by rw [nI_clamp (by omega)]; rfl
  have l124 : ∀ n p v (ro' : Nat → Int32), zx_rf 3 ro ro' sz sz → (∀ p, p < LN t → ro' (192 + p) = nI (zb_b (zb_k KI T t) (LN t) (LN t - (p + 1))) - 1) → LN t < n + (p + 1) → 0 < LN t → p + 1 ≤ LN t → (∀ i, i < 32 → bt v i = ((decide (i = 0) || decide (i = LN t)) || (decide (i < p + 1) && zb_w (zb_k KI T t) (LN t) i))) →
      wX_words_124 post (nI t) (nI (LN t)) (nI cn) rg (za_F O) (za_F W) dA dB E (za_F LO) (za_F UA) UB LA (za_F KI) (za_F F1) (za_F F2) (za_F F3) (za_F DI) EA eB (za_F CA) (za_F CB) (za_F CT) fu fz pr wh (za_F T) (za_F LN) ro' sz em hg lv bh rl rr rv ou nx sl n v (nI (zb_B (zb_k KI T t) p) - 1) (nI (zb_X (zb_k KI T t) p)) (nI (zb_k KI T t p)) (nI (p + 1)) := by
    intro n
    induction n with
    | zero => intro p v ro' _ _ h1 h3 h4; omega
    | succ n ih =>
      intro p v ro' hrf hro h1 h3 h4 hv
      refine pk_le (LN t) (p + 1) (fun h => H v ro' hrf (fun i hi => ?_)) (fun h => ?_)
      · have ep : p + 1 = LN t := by omega
        rw [hv i hi, ep]
        rcases Nat.lt_trichotomy i (LN t) with g | g | g
        · rw [decide_eq_false (show ¬ i = LN t by omega), decide_eq_true g, decide_eq_true (show i ≤ LN t by omega), Bool.or_false, Bool.true_and]
          by_cases e0 : i = 0
          · rw [decide_eq_true e0, Bool.true_or]
            unfold zb_w; rw [if_pos (Or.inl e0), decide_eq_true h3]
          · rw [decide_eq_false e0, Bool.false_or]
        · rw [decide_eq_true g, Bool.or_true, Bool.true_or, decide_eq_true (show i ≤ LN t by omega), Bool.true_and]
          unfold zb_w; rw [if_pos (Or.inr g), decide_eq_true h3]
        · rw [decide_eq_false (show ¬ i = LN t by omega), decide_eq_false (show ¬ i < LN t by omega), decide_eq_false (show ¬ i ≤ LN t by omega), decide_eq_false (show ¬ i = 0 by omega)]; rfl
      · obtain ⟨b1, b2, b3⟩ := zb_rd (KI := KI) (T := T) ht (show p + 1 < 16 by omega) hT (za_x16 t (p + 1))
        have k1 := hk p (by omega)
        have k2 := hk (p + 1) (by omega)
        have hskip : ∀ v', (∀ i, i < 32 → bt v' i = (bt v i || (decide (i = p + 1) && zb_w (zb_k KI T t) (LN t) (p + 1)))) → (∀ i, i < 32 → bt v' i = ((decide (i = 0) || decide (i = LN t)) || (decide (i < p + 1 + 1) && zb_w (zb_k KI T t) (LN t) i))) := by
          intro v' h i hi
          rw [h i hi, hv i hi]
          by_cases g : i = p + 1
          · rw [g, decide_eq_true (show p + 1 < p + 1 + 1 by omega), decide_eq_false (show ¬ p + 1 < p + 1 by omega), decide_eq_true (show p + 1 = p + 1 from rfl), Bool.false_and, Bool.or_false]
          · rw [decide_eq_false g, Bool.false_and, Bool.or_false]
            by_cases g2 : i < p + 1
            · rw [decide_eq_true g2, decide_eq_true (show i < p + 1 + 1 by omega)]
            · rw [decide_eq_false g2, decide_eq_false (show ¬ i < p + 1 + 1 by omega)]
        refine ⟨b1, b2, nm_r b3 ?_⟩
        refine zx_joins k1 k2 (fun j => br_f (by decide) (nm_r (nI_1 _) ?_)) (fun j => br_t rfl ?_)
        · have hw : zb_w (zb_k KI T t) (LN t) (p + 1) = false := by
            unfold zb_w; rw [if_neg (by omega), Nat.add_sub_cancel, if_pos j]
          have := ih (p + 1) v ro' hrf hro (by omega) h3 (by omega) (hskip v (fun i hi => by rw [hw, Bool.and_false, Bool.or_false]))
          rw [(zb_on j).1, (zb_on j).2] at this
          exact this
        · have e192 : (192 : Int32) + nI (p + 1) = nI (192 + (p + 1)) := nI_add 192 (p + 1)
          have er : ro' (192 + nI (p + 1)).toNatClampNeg = nI (zb_b (zb_k KI T t) (LN t) (LN t - (p + 1 + 1))) - 1 := by
            rw [e192, nI_clamp (by omega)]
            exact hro (p + 1) (by omega)
          refine ⟨by rw [e192]; exact vp_in_nI (by omega) (by decide), ?_⟩
          rw [er]
          have hw : zb_w (zb_k KI T t) (LN t) (p + 1) = !(zb_g (zb_B (zb_k KI T t) p) (zb_X (zb_k KI T t) p) (zb_k KI T t (p + 1)) (zb_b (zb_k KI T t) (LN t) (LN t - (p + 1 + 1)))) := by
            unfold zb_B zb_X
            rw [zb_g2]
            unfold zb_w
            rw [if_neg (by omega), Nat.add_sub_cancel, if_neg j]
          have h196 : ∀ v', (∀ i, i < 32 → bt v' i = (bt v i || (decide (i = p + 1) && zb_w (zb_k KI T t) (LN t) (p + 1)))) → wX_words_196 post (wX_words_124 post (nI t) (nI (LN t)) (nI cn) rg (za_F O) (za_F W) dA dB E (za_F LO) (za_F UA) UB LA (za_F KI) (za_F F1) (za_F F2) (za_F F3) (za_F DI) EA eB (za_F CA) (za_F CB) (za_F CT) fu fz pr wh (za_F T) (za_F LN) ro' sz em hg lv bh rl rr rv ou nx sl n) (nI t) (nI (LN t)) v' (nI (zb_X (zb_k KI T t) p)) (nI (p + 1)) (nI (zb_k KI T t (p + 1))) (nI cn) rg (za_F O) (za_F W) dA dB E (za_F LO) (za_F UA) UB LA (za_F KI) (za_F F1) (za_F F2) (za_F F3) (za_F DI) EA eB (za_F CA) (za_F CB) (za_F CT) fu fz pr wh (za_F T) (za_F LN) ro' sz em hg lv bh rl rr rv ou nx sl := by
            intro v' hv'
            have := ih (p + 1) v' ro' hrf hro (by omega) h3 (by omega) (hskip v' hv')
            rw [(zb_off j).1, (zb_off j).2, nI_pred] at this
            unfold zb_2 at this
            refine pk_eq (zb_k KI T t (p + 1)) 2 (fun g => nm_r (nI_1 _) ?_) (fun g => nm_r (nI_1 _) ?_)
            · rw [if_pos g] at this; exact this
            · rw [if_neg g] at this; exact this
          refine zx_goesOn (zb_B_lt hk (by omega)) (zb_X_lt hk (by omega)) k2 (zb_b_lt hk _ (by omega)) (fun g => br_f (by decide) (h196 v ?_)) (fun g => br_t rfl (nm_e (h196 _ ?_)))
          · intro i hi
            rw [hw, g]; simp
          · intro i hi
            rw [zb_or (by omega) hi, hw, g]; simp
  have l79 : ∀ (ro' : Nat → Int32) (z : Int32), zx_rf 3 ro ro' sz sz → (∀ p, p < LN t → ro' (192 + p) = nI (zb_b (zb_k KI T t) (LN t) (LN t - (p + 1))) - 1) → z = (if LN t = 0 then 0 else 1 ||| ((1 : Int32) <<< (nI (LN t) &&& 31))) → wX_words_79 post (nI t) (nI (LN t)) z (nI cn) rg (za_F O) (za_F W) dA dB E (za_F LO) (za_F UA) UB LA (za_F KI) (za_F F1) (za_F F2) (za_F F3) (za_F DI) EA eB (za_F CA) (za_F CB) (za_F CT) fu fz pr wh (za_F T) (za_F LN) ro' sz em hg lv bh rl rr rv ou nx sl := by
    intro ro' z hrf hro hz
    refine pk_le (LN t) 0 (fun h => ?_) (fun h => ?_)
    · rw [if_pos (by omega)] at hz
      refine br_f (by decide) ⟨1, pk_le (LN t) 1 (fun _ => H z ro' hrf (fun i hi => ?_)) (fun g => by omega)⟩
      rw [hz, b_0]
      by_cases g : i ≤ LN t
      · have : i = 0 := by omega
        subst this
        unfold zb_w; rw [if_pos (Or.inl rfl), decide_eq_false (show ¬ 0 < LN t by omega), Bool.and_false]
      · rw [decide_eq_false g]; rfl
    · rw [if_neg (by omega)] at hz
      have e16 : 16 * nI t = nI (16 * t + 0) := pk_mul 16 t
      obtain ⟨b1, b2, b3⟩ := zb_rd (KI := KI) (T := T) ht (show 0 < 16 by omega) hT e16
      refine ⟨b1, b2, ?_⟩
      rw [b3]
      have k0 := hk 0 h
      have := l124 (LN t) 0 z ro' hrf hro (by omega) h h (fun i hi => by
        rw [hz, zb_or (by omega) hi, zb_1 i hi]
        by_cases g : i = 0
        · rw [decide_eq_true g]; rfl
        · rw [decide_eq_false (show ¬ i < 0 + 1 by omega), Bool.false_and, Bool.or_false])
      have e0 : zb_X (zb_k KI T t) 0 = if zb_k KI T t 0 = 2 then 0 else zb_k KI T t 0 := rfl
      rw [zb_B0, e0] at this
      refine pk_eq (zb_k KI T t 0) 2 (fun g => ⟨LN t, ?_⟩) (fun g => ⟨LN t, ?_⟩)
      · rw [if_pos g] at this; exact this
      · rw [if_neg g] at this; exact this
  have l14 : ∀ d (ro' : Nat → Int32), d ≤ LN t → zx_rf 3 ro ro' sz sz → (∀ p, d ≤ p → p < LN t → ro' (192 + p) = nI (zb_b (zb_k KI T t) (LN t) (LN t - (p + 1))) - 1) → wX_words_14 post (nI t) (nI (LN t)) (nI cn) rg (d + 1) (nI (zb_b (zb_k KI T t) (LN t) (LN t - d)) - 1) (nI d - 1) (za_F O) (za_F W) dA dB E (za_F LO) (za_F UA) UB LA (za_F KI) (za_F F1) (za_F F2) (za_F F3) (za_F DI) EA eB (za_F CA) (za_F CB) (za_F CT) fu fz pr wh (za_F T) (za_F LN) ro' sz em hg lv bh rl rr rv ou nx sl := by
    intro d
    induction d with
    | zero =>
      intro ro' _ hrf hro
      refine br_t (by decide) ?_
      refine pk_le (LN t) 0 (fun h => l79 ro' 0 hrf (fun p hp => hro p (by omega) hp) (by rw [if_pos (by omega)])) (fun h => l79 ro' _ hrf (fun p hp => hro p (by omega) hp) (by rw [if_neg (by omega)]))
    | succ d ih =>
      intro ro' hd hrf hro
      have e1 : nI (d + 1) - 1 = nI d := nI_pred d
      have e192 : (192 : Int32) + (nI (d + 1) - 1) = nI (192 + d) := by rw [e1]; exact nI_add 192 d
      obtain ⟨b1, b2, b3⟩ := zb_rd (KI := KI) (T := T) (x := 16 * nI t + (nI (d + 1) - 1)) ht (show d < 16 by omega) hT (by rw [e1, za_x16])
      have hb8 := zb_b_lt hk (LN t - (d + 1)) (by omega)
      have ho : za_o (nI (zb_b (zb_k KI T t) (LN t) (LN t - (d + 1))) - 1) := zf_o hb8 (by omega)
      refine br_f (by rw [e1]; exact nI_pos (by omega)) ⟨by rw [e192]; exact vp_in_nI (by omega) (by decide), ?_⟩
      refine nm_r (e' := upd ro' (192 + d) (nI (zb_b (zb_k KI T t) (LN t) (LN t - (d + 1))) - 1)) (by rw [e192, nI_clamp (by omega), za_on2 ho]) ⟨b1, b2, nm_r b3 ?_⟩
      have hrf' : zx_rf 3 ro (upd ro' (192 + d) (nI (zb_b (zb_k KI T t) (LN t) (LN t - (d + 1))) - 1)) sz sz := ⟨fun j hj => by rw [pk_un (by omega)]; exact hrf.1 j hj, fun _ _ => rfl⟩
      have := ih _ (by omega) hrf' (fun p h1 h2 => by
        by_cases e : p = d
        · rw [e, pk_us]
        · rw [pk_un (by omega)]; exact hro p (by omega) h2)
      have eb : zb_b (zb_k KI T t) (LN t) (LN t - d) = if zb_k KI T t d = 2 then zb_b (zb_k KI T t) (LN t) (LN t - (d + 1)) else zb_k KI T t d + 1 := by
        rw [show LN t - d = (LN t - (d + 1)) + 1 by omega, zb_b, show LN t - (LN t - (d + 1) + 1) = d by omega]
      have kd := hk d (by omega)
      have eq1 : nI (d + 1) - 1 + (-1) = nI d - 1 := by rw [e1, Int32.sub_eq_add_neg]
      rw [eb] at this
      refine pk_eq (zb_k KI T t d) 2 (fun g => nm_r eq1 ?_) (fun g => nm_r eq1 ?_)
      · rw [if_pos g] at this; exact this
      · rw [if_neg g, nI_pred] at this; exact this
  refine ⟨vp_in_nI ht (by decide), nm_r elen (nm_e ⟨LN t + 1, ?_⟩)⟩
  have := l14 (LN t) ro (Nat.le_refl _) zx_rf_r (fun p h1 h2 => by omega)
  rw [Nat.sub_self] at this
  exact this
end
end
section
section
variable {cn : Nat} {rs nn : Int32} {O W LO UA KI F1 F2 F3 DI CA CB CT T LN : Nat → Nat} {E UB LA EA pA pB wt yB lo re yr fo fl ele els eb yl se pg yo : Nat → Int32}
theorem zy_kindAt {post : Int32 → Prop} {t i : Nat} {x : Int32} (hx : x = nI i) (ht : t < 2) (hi : i < 16) (hT : ∀ j, j < 32 → T j < 48) (H : post (nI (zb_k KI T t i))) : wpY_kindAt post ((nI cn), rs, nn, (za_F O), (za_F W), pA, pB, (za_F LO), (za_F UA), UB, LA, (za_F KI), wt, EA, yB, (za_F DI), E, (za_F CA), (za_F CB), (za_F CT), lo, (za_F T), (za_F LN), re, yr, fo, fl, ele, els, eb, yl, se, pg, yo) (nI t) x := by
  obtain ⟨b1, b2, b3⟩ := zb_rd (KI := KI) (T := T) (x := 16 * nI t + x) ht hi hT (by rw [hx, za_x16])
  refine ⟨b1, b2, ?_⟩
  rw [b3]; exact H
theorem zy_wordLike {post : Int32 → Prop} {k : Nat} (hk : k < 8) (h1 : zb_w1 k = true → post 1) (h0 : zb_w1 k = false → post 0) : wpY_wordLike post (nI k) := zx_wordly hk h1 h0
theorem zy_clusterBreak {post : Int32 → Prop} {t p : Nat} (ht : t < 2) (hl : LN t ≤ 16) (hp : p ≤ LN t) (hT : ∀ j, j < 32 → T j < 48) (hK : ∀ x, x < 48 → KI x < 8)
    (h1 : zb_c (zb_k KI T t) (LN t) p = true → post 1) (h0 : zb_c (zb_k KI T t) (LN t) p = false → post 0) : wpY_clusterBreak post ((nI cn), rs, nn, (za_F O), (za_F W), pA, pB, (za_F LO), (za_F UA), UB, LA, (za_F KI), wt, EA, yB, (za_F DI), E, (za_F CA), (za_F CB), (za_F CT), lo, (za_F T), (za_F LN), re, yr, fo, fl, ele, els, eb, yl, se, pg, yo) (nI t) (nI p) := by
  have hvt : vp_in (nI t) 2 := vp_in_nI ht (by decide)
  have elen : za_F LN (nI t).toNatClampNeg = nI (LN t) := by rw [nI_clamp (by omega)]; rfl
  have h14 : p = 0 ∨ p = LN t → wY_clusterBreak_14 post (nI t) (nI cn) rs nn (za_F O) (za_F W) pA pB (za_F LO) (za_F UA) UB LA (za_F KI) wt EA yB (za_F DI) E (za_F CA) (za_F CB) (za_F CT) lo (za_F T) (za_F LN) re yr fo fl ele els eb yl se pg yo := by
    intro e
    unfold zb_c at h1 h0
    rw [if_pos e] at h1 h0
    exact ⟨hvt, pk_le (LN t) 0 (fun g => h0 (decide_eq_false (by omega))) (fun g => h1 (decide_eq_true g)) elen rfl⟩
  refine pk_eq p 0 (fun e => h14 (Or.inl e)) (fun e => ⟨hvt, pk_eq p (LN t) (fun e2 => h14 (Or.inr e2)) (fun e2 => ?_) rfl elen⟩)
  have k1 := hK _ (hT (16 * t + (p - 1)) (by omega))
  have k2 := hK _ (hT (16 * t + p) (by omega))
  have hc : zb_c (zb_k KI T t) (LN t) p = (!(decide (zb_k KI T t p = 2 ∧ zb_k KI T t (p - 1) ≠ 1)) && (decide (zb_k KI T t (p - 1) ≠ 3 ∨ zb_k KI T t p = 1))) := by
    unfold zb_c; rw [if_neg (by omega)]
  rw [hc] at h1 h0
  have b1 : zb_k KI T t (p - 1) < 8 := k1
  have b2 : zb_k KI T t p < 8 := k2
  refine zy_kindAt (za_p1 (by omega)) ht (show p - 1 < 16 by omega) hT (zy_kindAt rfl ht (show p < 16 by omega) hT ?_)
  have h57 : ¬ (zb_k KI T t p = 2 ∧ zb_k KI T t (p - 1) ≠ 1) → wY_clusterBreak_57 post (nI (zb_k KI T t (p - 1))) (nI (zb_k KI T t p)) (nI cn) rs nn (za_F O) (za_F W) pA pB (za_F LO) (za_F UA) UB LA (za_F KI) wt EA yB (za_F DI) E (za_F CA) (za_F CB) (za_F CT) lo (za_F T) (za_F LN) re yr fo fl ele els eb yl se pg yo := by
    intro q
    rw [decide_eq_false q] at h1 h0
    refine pk_eq (zb_k KI T t (p - 1)) 3 (fun g => pk_eq (zb_k KI T t p) 1 (fun g2 => h1 ?_) (fun g2 => h0 ?_)) (fun g => h1 ?_)
    · rw [decide_eq_true (Or.inr g2)]; rfl
    · rw [decide_eq_false (by omega)]; rfl
    · rw [decide_eq_true (Or.inl g)]; rfl
  refine pk_eq (zb_k KI T t p) 2 (fun g => pk_eq (zb_k KI T t (p - 1)) 1 (fun g2 => h57 (by omega)) (fun g2 => h0 ?_)) (fun g => h57 (by omega))
  rw [decide_eq_true ⟨g, g2⟩]; rfl
theorem zy_carrier {post : Int32 → Prop} {t : Nat} (ht : t < 2) (hT : ∀ j, j < 32 → T j < 48) (hK : ∀ x, x < 48 → KI x < 8) :
    ∀ (p : Nat) {x : Int32}, x = nI p → p < 16 → post (nI (zb_a (zb_k KI T t) p)) → wpY_carrier post ((nI cn), rs, nn, (za_F O), (za_F W), pA, pB, (za_F LO), (za_F UA), UB, LA, (za_F KI), wt, EA, yB, (za_F DI), E, (za_F CA), (za_F CB), (za_F CT), lo, (za_F T), (za_F LN), re, yr, fo, fl, ele, els, eb, yl, se, pg, yo) (nI t) x := by
  have key : ∀ (p n : Nat), p < n → p < 16 → post (nI (zb_a (zb_k KI T t) p)) → wY_carrier_2 post (nI t) (nI cn) rs nn (za_F O) (za_F W) pA pB (za_F LO) (za_F UA) UB LA (za_F KI) wt EA yB (za_F DI) E (za_F CA) (za_F CB) (za_F CT) lo (za_F T) (za_F LN) re yr fo fl ele els eb yl se pg yo n (nI p) := by
    intro p
    induction p with
    | zero =>
      intro n hn _ H
      obtain ⟨n, rfl⟩ : ∃ k, n = k + 1 := ⟨n - 1, by omega⟩
      exact br_t (by decide) H
    | succ p ih =>
      intro n hn hp H
      obtain ⟨n, rfl⟩ : ∃ k, n = k + 1 := ⟨n - 1, by omega⟩
      have b1 : zb_k KI T t p < 8 := hK _ (hT (16 * t + p) (by omega))
      have b2 : zb_k KI T t (p + 1) < 8 := hK _ (hT (16 * t + (p + 1)) (by omega))
      rw [zb_a] at H
      refine br_f (nI_nle (by omega) (by omega)) ?_
      refine zy_kindAt rfl ht hp hT ?_
      refine pk_eq (zb_k KI T t (p + 1)) 2 (fun g => ?_) (fun g => ?_)
      · refine zy_kindAt (nI_pred p) ht (show p < 16 by omega) hT ?_
        refine pk_eq (zb_k KI T t p) 1 (fun g2 => ?_) (fun g2 => ?_)
        · rw [if_neg (by omega)] at H; exact H
        · rw [if_pos ⟨g, g2⟩] at H
          exact nm_r (pk_m1 p) (ih n (by omega) (by omega) H)
      · rw [if_neg (by omega)] at H; exact H
  intro p x hx hp H
  rw [hx]
  exact ⟨p + 1, key p (p + 1) (by omega) hp H⟩
theorem zy_wb162 {post : Int32 → Prop} {t i y b h : Nat} (ht : t < 2) (hi : i < 16) (hT : ∀ j, j < 32 → T j < 48) (hK : ∀ x, x < 48 → KI x < 8) (hb : b ≤ 8) (hy : y < 8) (hh : h ≤ 8)
    (h1 : zb_g b (zb_k KI T t i) y h = false → post 1) (h0 : zb_g b (zb_k KI T t i) y h = true → post 0) : wY_wordBreak_162 post (nI t) (nI y) (nI i) (nI b - 1) (nI h - 1) (nI cn) rs nn (za_F O) (za_F W) pA pB (za_F LO) (za_F UA) UB LA (za_F KI) wt EA yB (za_F DI) E (za_F CA) (za_F CB) (za_F CT) lo (za_F T) (za_F LN) re yr fo fl ele els eb yl se pg yo := by
  have q1 : ¬ (1 : Int32) = 0 := by decide
  have hx : zb_k KI T t i < 8 := hK _ (hT (16 * t + i) (by omega))
  refine zy_kindAt rfl ht hi hT ?_
  generalize zb_k KI T t i = x at hx h1 h0 ⊢
  have h239 : (zb_w1 x && (zb_w1 y || decide (y = 7))) = false → (decide (x = 7) && (zb_w1 y || decide (y = 7))) = false → (zb_w1 x && decide (y = 6) && decide (h = x + 1)) = false → wY_wordBreak_239 post (nI x) (nI y) (nI b - 1) (nI cn) rs nn (za_F O) (za_F W) pA pB (za_F LO) (za_F UA) UB LA (za_F KI) wt EA yB (za_F DI) E (za_F CA) (za_F CB) (za_F CT) lo (za_F T) (za_F LN) re yr fo fl ele els eb yl se pg yo := by
    intro e1 e2 e3
    have eg : zb_g b x y h = (zb_w1 y && decide (x = 6) && decide (b = y + 1)) := by
      unfold zb_g; rw [e1, e2, e3, Bool.false_or, Bool.false_or, Bool.false_or]
    rw [eg] at h1 h0
    refine zy_wordLike hy (fun w => br_f q1 (pk_eq x 6 (fun g => ?_) (fun g => h1 ?_))) (fun w => br_t rfl (h1 (by rw [w]; rfl)))
    · rw [w, decide_eq_true g, Bool.true_and, Bool.true_and] at h1 h0
      exact zb_ne (by omega) (by omega) (fun q => h0 (decide_eq_true q)) (fun q => h1 (decide_eq_false q))
    · rw [decide_eq_false g, Bool.and_false, Bool.false_and]
  have h217 : (zb_w1 x && (zb_w1 y || decide (y = 7))) = false → (decide (x = 7) && (zb_w1 y || decide (y = 7))) = false → wY_wordBreak_217 post (nI x) (nI y) (nI b - 1) (nI h - 1) (nI cn) rs nn (za_F O) (za_F W) pA pB (za_F LO) (za_F UA) UB LA (za_F KI) wt EA yB (za_F DI) E (za_F CA) (za_F CB) (za_F CT) lo (za_F T) (za_F LN) re yr fo fl ele els eb yl se pg yo := by
    intro e1 e2
    refine zy_wordLike hx (fun w => br_f q1 (pk_eq y 6 (fun g => ?_) (fun g => h239 e1 e2 ?_))) (fun w => br_t rfl (h239 e1 e2 (by rw [w]; rfl)))
    · refine zb_ne (by omega) (by omega) (fun q => h0 ?_) (fun q => h239 e1 e2 ?_)
      · unfold zb_g; rw [e1, e2, w, decide_eq_true g, decide_eq_true q]; rfl
      · rw [decide_eq_false q, Bool.and_false]
    · rw [decide_eq_false g, Bool.and_false, Bool.false_and]
  have h194 : (zb_w1 x && (zb_w1 y || decide (y = 7))) = false → wY_wordBreak_194 post (nI x) (nI y) (nI b - 1) (nI h - 1) (nI cn) rs nn (za_F O) (za_F W) pA pB (za_F LO) (za_F UA) UB LA (za_F KI) wt EA yB (za_F DI) E (za_F CA) (za_F CB) (za_F CT) lo (za_F T) (za_F LN) re yr fo fl ele els eb yl se pg yo := by
    intro e1
    refine pk_eq x 7 (fun e7 => ?_) (fun e7 => h217 e1 (by rw [decide_eq_false e7]; rfl))
    refine zy_wordLike hy (fun w => br_f q1 (h0 ?_)) (fun w => br_t rfl (pk_eq y 7 (fun g7 => h0 ?_) (fun g7 => h217 e1 ?_)))
    · unfold zb_g; rw [e1, decide_eq_true e7, w]; rfl
    · unfold zb_g; rw [e1, decide_eq_true e7, decide_eq_true g7, w]; rfl
    · rw [w, decide_eq_false g7]; simp
  refine zy_wordLike hx (fun w => br_f q1 ?_) (fun w => br_t rfl (h194 (by rw [w]; rfl)))
  refine zy_wordLike hy (fun w2 => br_f q1 (h0 ?_)) (fun w2 => br_t rfl (pk_eq y 7 (fun g7 => h0 ?_) (fun g7 => h194 ?_)))
  · unfold zb_g; rw [w, w2]; rfl
  · unfold zb_g; rw [w, w2, decide_eq_true g7]; rfl
  · rw [w2, decide_eq_false g7]; simp
theorem zy_wordBreak {post : Int32 → Prop} {t p : Nat} (ht : t < 2) (hl : LN t ≤ 16) (hp : p ≤ LN t) (hT : ∀ j, j < 32 → T j < 48) (hK : ∀ x, x < 48 → KI x < 8)
    (h1 : zb_w (zb_k KI T t) (LN t) p = true → post 1) (h0 : zb_w (zb_k KI T t) (LN t) p = false → post 0) : wpY_wordBreak post ((nI cn), rs, nn, (za_F O), (za_F W), pA, pB, (za_F LO), (za_F UA), UB, LA, (za_F KI), wt, EA, yB, (za_F DI), E, (za_F CA), (za_F CB), (za_F CT), lo, (za_F T), (za_F LN), re, yr, fo, fl, ele, els, eb, yl, se, pg, yo) (nI t) (nI p) := by
  have hvt : vp_in (nI t) 2 := vp_in_nI ht (by decide)
  have elen : za_F LN (nI t).toNatClampNeg = nI (LN t) := by rw [nI_clamp (by omega)]; rfl
  have hkk : ∀ i, i < LN t → zb_k KI T t i < 8 := fun i hi => hK _ (hT _ (by omega))
  have h14 : p = 0 ∨ p = LN t → wY_wordBreak_14 post (nI t) (nI cn) rs nn (za_F O) (za_F W) pA pB (za_F LO) (za_F UA) UB LA (za_F KI) wt EA yB (za_F DI) E (za_F CA) (za_F CB) (za_F CT) lo (za_F T) (za_F LN) re yr fo fl ele els eb yl se pg yo := by
    intro e
    unfold zb_w at h1 h0
    rw [if_pos e] at h1 h0
    exact ⟨hvt, pk_le (LN t) 0 (fun g => h0 (decide_eq_false (by omega))) (fun g => h1 (decide_eq_true g)) elen rfl⟩
  refine pk_eq p 0 (fun e => h14 (Or.inl e)) (fun e => ⟨hvt, pk_eq p (LN t) (fun e2 => h14 (Or.inr e2)) (fun e2 => ?_) rfl elen⟩)
  have b1 : zb_k KI T t (p - 1) < 8 := hkk _ (by omega)
  have b2 : zb_k KI T t p < 8 := hkk _ (by omega)
  have hw : zb_w (zb_k KI T t) (LN t) p = if zb_k KI T t p = 2 ∧ zb_k KI T t (p - 1) ≠ 1 then false else !(zb_g (zb_f (zb_k KI T t) (zb_a (zb_k KI T t) (p - 1))) (zb_k KI T t (zb_a (zb_k KI T t) (p - 1))) (zb_k KI T t p) (zb_b (zb_k KI T t) (LN t) (LN t - (p + 1)))) := by
    unfold zb_w; rw [if_neg (by omega)]
  refine zy_kindAt (za_p1 (by omega)) ht (show p - 1 < 16 by omega) hT (zy_kindAt rfl ht (show p < 16 by omega) hT ?_)
  have ha := zb_a_le (zb_k KI T t) (p - 1)
  have h59 : ¬ (zb_k KI T t p = 2 ∧ zb_k KI T t (p - 1) ≠ 1) → wY_wordBreak_59 post (nI t) (nI p) (nI (zb_k KI T t p)) (nI cn) rs nn (za_F O) (za_F W) pA pB (za_F LO) (za_F UA) UB LA (za_F KI) wt EA yB (za_F DI) E (za_F CA) (za_F CB) (za_F CT) lo (za_F T) (za_F LN) re yr fo fl ele els eb yl se pg yo := by
    intro q
    rw [hw, if_neg q] at h1 h0
    have hh8 := zb_b_lt hkk (LN t - (p + 1)) (by omega)
    have hb8 : zb_f (zb_k KI T t) (zb_a (zb_k KI T t) (p - 1)) ≤ 8 := by
      unfold zb_f
      split
      · omega
      · have := zb_a_le (zb_k KI T t) (zb_a (zb_k KI T t) (p - 1) - 1)
        have := hkk (zb_a (zb_k KI T t) (zb_a (zb_k KI T t) (p - 1) - 1)) (by omega)
        omega
    have h162 : wY_wordBreak_162 post (nI t) (nI (zb_k KI T t p)) (nI (zb_a (zb_k KI T t) (p - 1))) (nI (zb_f (zb_k KI T t) (zb_a (zb_k KI T t) (p - 1))) - 1) (nI (zb_b (zb_k KI T t) (LN t) (LN t - (p + 1))) - 1) (nI cn) rs nn (za_F O) (za_F W) pA pB (za_F LO) (za_F UA) UB LA (za_F KI) wt EA yB (za_F DI) E (za_F CA) (za_F CB) (za_F CT) lo (za_F T) (za_F LN) re yr fo fl ele els eb yl se pg yo :=
      zy_wb162 ht (by omega) hT hK hb8 b2 hh8 (fun g => h1 (by rw [g]; rfl)) (fun g => h0 (by rw [g]; rfl))
    have h122 : ∀ (x6 : Int32) (j : Nat), (0 ≤ x6 → ∃ m, m < LN t ∧ x6 = nI m ∧ zb_f (zb_k KI T t) (zb_a (zb_k KI T t) (p - 1)) = zb_k KI T t m + 1) → (¬ 0 ≤ x6 → zb_f (zb_k KI T t) (zb_a (zb_k KI T t) (p - 1)) = 0) → j ≤ LN t → (j < LN t → zb_b (zb_k KI T t) (LN t) (LN t - (p + 1)) = zb_k KI T t j + 1) → (j = LN t → zb_b (zb_k KI T t) (LN t) (LN t - (p + 1)) = 0) →
        wY_wordBreak_122 post (nI t) (nI (zb_k KI T t p)) (nI (zb_a (zb_k KI T t) (p - 1))) x6 (nI j) (nI cn) rs nn (za_F O) (za_F W) pA pB (za_F LO) (za_F UA) UB LA (za_F KI) wt EA yB (za_F DI) E (za_F CA) (za_F CB) (za_F CT) lo (za_F T) (za_F LN) re yr fo fl ele els eb yl se pg yo := by
      intro x6 j hx1 hx2 hj hj1 hj2
      have h138 : wY_wordBreak_138 post (nI t) (nI (zb_k KI T t p)) (nI (zb_a (zb_k KI T t) (p - 1))) (nI j) (nI (zb_f (zb_k KI T t) (zb_a (zb_k KI T t) (p - 1))) - 1) (nI cn) rs nn (za_F O) (za_F W) pA pB (za_F LO) (za_F UA) UB LA (za_F KI) wt EA yB (za_F DI) E (za_F CA) (za_F CB) (za_F CT) lo (za_F T) (za_F LN) re yr fo fl ele els eb yl se pg yo := by
        refine ⟨hvt, pk_le (LN t) j (fun g => ?_) (fun g => ?_) elen rfl⟩
        · rw [hj2 (by omega)] at h162
          exact h162
        · refine zy_kindAt rfl ht (show j < 16 by omega) hT ?_
          rw [hj1 g, nI_pred] at h162
          exact h162
      refine br_c (fun g => ?_) (fun g => ?_)
      · obtain ⟨m, hm, e1, e2⟩ := hx1 g
        refine zy_kindAt e1 ht (show m < 16 by omega) hT ?_
        rw [e2, nI_pred] at h138
        exact h138
      · rw [hx2 g] at h138
        exact h138
    have h94 : ∀ (x6 : Int32), (0 ≤ x6 → ∃ m, m < LN t ∧ x6 = nI m ∧ zb_f (zb_k KI T t) (zb_a (zb_k KI T t) (p - 1)) = zb_k KI T t m + 1) → (¬ 0 ≤ x6 → zb_f (zb_k KI T t) (zb_a (zb_k KI T t) (p - 1)) = 0) → ∀ n j, LN t < n + j → j ≤ LN t → zb_b (zb_k KI T t) (LN t) (LN t - (p + 1)) = zb_b (zb_k KI T t) (LN t) (LN t - j) →
        wY_wordBreak_94 post (nI t) (nI (zb_k KI T t p)) (nI (zb_a (zb_k KI T t) (p - 1))) x6 (nI cn) rs nn (za_F O) (za_F W) pA pB (za_F LO) (za_F UA) UB LA (za_F KI) wt EA yB (za_F DI) E (za_F CA) (za_F CB) (za_F CT) lo (za_F T) (za_F LN) re yr fo fl ele els eb yl se pg yo n (nI j) := by
      intro x6 hx1 hx2 n
      induction n with
      | zero => intro j g1 g2; omega
      | succ n ih =>
        intro j g1 g2 g3
        refine ⟨hvt, pk_le (LN t) j (fun g => ?_) (fun g => ?_) elen rfl⟩
        · refine h122 x6 j hx1 hx2 g2 (fun q => by omega) (fun q => ?_)
          rw [g3, q, Nat.sub_self]; rfl
        · have bj := hkk j g
          have eb : zb_b (zb_k KI T t) (LN t) (LN t - j) = if zb_k KI T t j = 2 then zb_b (zb_k KI T t) (LN t) (LN t - (j + 1)) else zb_k KI T t j + 1 := by
            rw [show LN t - j = (LN t - (j + 1)) + 1 by omega, zb_b, show LN t - (LN t - (j + 1) + 1) = j by omega]
          refine zy_kindAt rfl ht (show j < 16 by omega) hT ?_
          refine pk_eq (zb_k KI T t j) 2 (fun g4 => nm_r (nI_1 j) (ih (j + 1) (by omega) (by omega) ?_)) (fun g4 => h122 x6 j hx1 hx2 g2 (fun _ => ?_) (fun q => by omega))
          · rw [g3, eb, if_pos g4]
          · rw [g3, eb, if_neg g4]
    refine zy_carrier ht hT hK (p - 1) (za_p1 (by omega)) (by omega) ?_
    refine pk_le (zb_a (zb_k KI T t) (p - 1)) 0 (fun g => nm_r (nI_1 p) ⟨LN t + 1, ?_⟩) (fun g => ?_)
    · refine h94 (-1) (fun q => absurd q (by decide)) (fun _ => ?_) _ (p + 1) (by omega) (by omega) rfl
      unfold zb_f; rw [if_pos (by omega)]
    · refine zy_carrier ht hT hK (zb_a (zb_k KI T t) (p - 1) - 1) (za_p1 (by omega)) (by omega) (nm_r (nI_1 p) ⟨LN t + 1, ?_⟩)
      have ha2 := zb_a_le (zb_k KI T t) (zb_a (zb_k KI T t) (p - 1) - 1)
      refine h94 _ (fun _ => ⟨_, by omega, rfl, ?_⟩) (fun q => absurd (nI_pos' (by omega)) q) _ (p + 1) (by omega) (by omega) rfl
      unfold zb_f; rw [if_neg (by omega)]
  refine pk_eq (zb_k KI T t p) 2 (fun g => pk_eq (zb_k KI T t (p - 1)) 1 (fun g2 => h59 (by omega)) (fun g2 => h0 ?_)) (fun g => h59 (by omega))
  rw [hw, if_pos ⟨g, g2⟩]
theorem zy_breaks {post : Int32 → Prop} {t w : Nat} (ht : t < 2) (hw : w < 2) (hl : LN t ≤ 16) (hT : ∀ j, j < 32 → T j < 48) (hK : ∀ x, x < 48 → KI x < 8)
    (H : ∀ v, (∀ i, i < 32 → bt v i = (decide (i ≤ LN t) && (if w = 0 then zb_c (zb_k KI T t) (LN t) i else zb_w (zb_k KI T t) (LN t) i))) → post v) : wpY_breaks post ((nI cn), rs, nn, (za_F O), (za_F W), pA, pB, (za_F LO), (za_F UA), UB, LA, (za_F KI), wt, EA, yB, (za_F DI), E, (za_F CA), (za_F CB), (za_F CT), lo, (za_F T), (za_F LN), re, yr, fo, fl, ele, els, eb, yl, se, pg, yo) (nI t) (nI w) := by
  have hvt : vp_in (nI t) 2 := vp_in_nI ht (by decide)
  have elen : za_F LN (nI t).toNatClampNeg = nI (LN t) := by rw [nI_clamp (by omega)]; rfl
  have key : ∀ n p v, LN t + 1 < n + p → p ≤ LN t + 1 → (∀ i, i < 32 → bt v i = (decide (i < p) && (if w = 0 then zb_c (zb_k KI T t) (LN t) i else zb_w (zb_k KI T t) (LN t) i))) → wY_breaks_21 post (nI t) (nI w) (nI cn) rs nn (za_F O) (za_F W) pA pB (za_F LO) (za_F UA) UB LA (za_F KI) wt EA yB (za_F DI) E (za_F CA) (za_F CB) (za_F CT) lo (za_F T) (za_F LN) re yr fo fl ele els eb yl se pg yo n v (nI p) := by
    intro n
    induction n with
    | zero => intro p v h1 h2; omega
    | succ n ih =>
      intro p v h1 h2 hv
      refine ⟨hvt, pk_lt (LN t) p (fun g => H v (fun i hi => ?_)) (fun g => ?_) elen rfl⟩
      · rw [hv i hi]
        have : p = LN t + 1 := by omega
        rw [this]
        by_cases q : i ≤ LN t
        · rw [decide_eq_true q, decide_eq_true (by omega)]
        · rw [decide_eq_false q, decide_eq_false (by omega)]
      · have h53 : ∀ (z : Int32) (c : Bool), (if w = 0 then zb_c (zb_k KI T t) (LN t) p else zb_w (zb_k KI T t) (LN t) p) = c → z = (if c = true then 1 else 0) → wY_breaks_53 post (wY_breaks_21 post (nI t) (nI w) (nI cn) rs nn (za_F O) (za_F W) pA pB (za_F LO) (za_F UA) UB LA (za_F KI) wt EA yB (za_F DI) E (za_F CA) (za_F CB) (za_F CT) lo (za_F T) (za_F LN) re yr fo fl ele els eb yl se pg yo n) (nI t) (nI w) v (nI p) z (nI cn) rs nn (za_F O) (za_F W) pA pB (za_F LO) (za_F UA) UB LA (za_F KI) wt EA yB (za_F DI) E (za_F CA) (za_F CB) (za_F CT) lo (za_F T) (za_F LN) re yr fo fl ele els eb yl se pg yo := by
          intro z c hc hz
          cases c with
          | true =>
            rw [if_pos rfl] at hz
            have hbp : bt v p = false := by rw [hv p (by omega), decide_eq_false (by omega)]; rfl
            refine br_f (by rw [hz]; decide) (nm_r (zb_add (by omega) hbp) (nm_r (nI_1 p) (ih (p + 1) _ (by omega) (by omega) (fun i hi => ?_))))
            rw [zb_or (by omega) hi, hv i hi]
            by_cases q : i = p
            · rw [q, hc, decide_eq_true (show p < p + 1 by omega), decide_eq_true (show p = p from rfl)]; simp
            · rw [decide_eq_false q, Bool.or_false]
              by_cases q2 : i < p
              · rw [decide_eq_true q2, decide_eq_true (show i < p + 1 by omega)]
              · rw [decide_eq_false q2, decide_eq_false (show ¬ i < p + 1 by omega)]
          | false =>
            rw [if_neg (by decide)] at hz
            refine br_t hz (nm_r (nI_1 p) (ih (p + 1) _ (by omega) (by omega) (fun i hi => ?_)))
            rw [hv i hi]
            by_cases q : i = p
            · rw [q, hc, Bool.and_false, Bool.and_false]
            · by_cases q2 : i < p
              · rw [decide_eq_true q2, decide_eq_true (show i < p + 1 by omega)]
              · rw [decide_eq_false q2, decide_eq_false (show ¬ i < p + 1 by omega)]
        refine pk_eq w 0 (fun e => ?_) (fun e => ?_)
        · refine zy_clusterBreak ht hl (by omega) hT hK (fun q => h53 1 true ?_ rfl) (fun q => h53 0 false ?_ rfl)
          · rw [if_pos e]; exact q
          · rw [if_pos e]; exact q
        · refine zy_wordBreak ht hl (by omega) hT hK (fun q => h53 1 true ?_ rfl) (fun q => h53 0 false ?_ rfl)
          · rw [if_neg e]; exact q
          · rw [if_neg e]; exact q
  unfold wpY_breaks
  dsimp only
  refine zy_isText_t ht (br_f (by decide) (zy_isText_t hw (br_f (by decide) ⟨LN t + 2, ?_⟩)))
  refine key (LN t + 2) 0 0 (by omega) (by omega) (fun i hi => ?_)
  rw [b_0, decide_eq_false (show ¬ i < 0 by omega)]; rfl
end
end
section
section
variable {cn : Nat} {rg rs nn : Int32} {O W LO UA KI F1 F2 F3 DI CA CB CT T LN : Nat → Nat} {E UB LA EA dA dB eB fu fz pr wh ro sz em hg lv bh rl rr rv ou nx sl pA pB wt yB lo re yr fo fl ele els eb yl se pg yo : Nat → Int32}
variable {A B : Nat → Nat} {R : List Nat} {k : Nat}
theorem zv_breaks (hS : zr_St cn O W LO UA KI F1 F2 F3 DI CA CB CT T LN E UB LA EA dA dB eB fu fz pr wh pA pB wt yB A B) (hR : zr_R R ro sz re rs) (v1 v2 : Int32) : wpX_breaks (fun r u' => wpY_breaks (fun r' => r' = r ∧ i_Rel (k + 5) u' ((nI cn), rs, nn, (za_F O), (za_F W), pA, pB, (za_F LO), (za_F UA), UB, LA, (za_F KI), wt, EA, yB, (za_F DI), E, (za_F CA), (za_F CB), (za_F CT), lo, (za_F T), (za_F LN), re, yr, fo, fl, ele, els, eb, yl, se, pg, yo)) ((nI cn), rs, nn, (za_F O), (za_F W), pA, pB, (za_F LO), (za_F UA), UB, LA, (za_F KI), wt, EA, yB, (za_F DI), E, (za_F CA), (za_F CB), (za_F CT), lo, (za_F T), (za_F LN), re, yr, fo, fl, ele, els, eb, yl, se, pg, yo) v1 v2) ((nI cn), rg, (za_F O), (za_F W), dA, dB, E, (za_F LO), (za_F UA), UB, LA, (za_F KI), (za_F F1), (za_F F2), (za_F F3), (za_F DI), EA, eB, (za_F CA), (za_F CB), (za_F CT), fu, fz, pr, wh, (za_F T), (za_F LN), ro, sz, em, hg, lv, bh, rl, rr, rv, ou, nx, sl) v1 v2 := by
  have hI : (0 : Int32) = 0 ∧ i_Rel (k + 5) ((nI cn), rg, (za_F O), (za_F W), dA, dB, E, (za_F LO), (za_F UA), UB, LA, (za_F KI), (za_F F1), (za_F F2), (za_F F3), (za_F DI), EA, eB, (za_F CA), (za_F CB), (za_F CT), fu, fz, pr, wh, (za_F T), (za_F LN), ro, sz, em, hg, lv, bh, rl, rr, rv, ou, nx, sl) ((nI cn), rs, nn, (za_F O), (za_F W), pA, pB, (za_F LO), (za_F UA), UB, LA, (za_F KI), wt, EA, yB, (za_F DI), E, (za_F CA), (za_F CB), (za_F CT), lo, (za_F T), (za_F LN), re, yr, fo, fl, ele, els, eb, yl, se, pg, yo) := ⟨rfl, zr_in hS hR⟩
  unfold wpX_breaks
  dsimp only
  rcases zr_text v1 with ⟨t, ht, rfl⟩ | hn
  · refine zx_isText_t ht (br_f (by decide) ?_)
    have hl := zr_LN hS t ht
    rcases zr_rng v2 (n := 2) (by decide) with ⟨w, hw, rfl⟩ | hneg | ⟨hnn, w, hw, hw2, rfl⟩
    · refine br_f (nI_pos (by omega)) (pk_le w 1 (fun _ => ?_) (fun h => by omega))
      refine pk_eq w 0 (fun e => ?_) (fun e => ?_)
      · refine zx_clusters ht hl (zr_Tx hS) (zr_KI hS) (fun v hv => ?_)
        refine zy_breaks ht hw hl (zr_Tx hS) (zr_KI hS) (fun v' hv' => ⟨b_ext (fun i hi => ?_), zr_in hS hR⟩)
        rw [hv i hi, hv' i hi, if_pos e]
      · refine zx_words ht hl (zr_Tx hS) (zr_KI hS) (fun v ro' hrf hv => ?_)
        refine zy_breaks ht hw hl (zr_Tx hS) (zr_KI hS) (fun v' hv' => ⟨b_ext (fun i hi => ?_), zr_in hS (zr_R3 (by omega) hrf hR)⟩)
        rw [hv i hi, hv' i hi, if_neg e]
    · refine br_t hneg ?_
      unfold wpY_breaks
      dsimp only
      refine zy_isText_t ht (br_f (by decide) (zy_isText_f ⟨fun e => ?_, fun e => ?_⟩ (br_t rfl hI)))
      · rw [e] at hneg; exact absurd hneg (by decide)
      · rw [e] at hneg; exact absurd hneg (by decide)
    · refine br_f hnn (pk_le w 1 (fun h => by omega) (fun h => ?_))
      unfold wpY_breaks
      dsimp only
      refine zy_isText_t ht (br_f (by decide) (zy_isText_f ⟨fun e => ?_, fun e => ?_⟩ (br_t rfl hI)))
      · have := (nI_eq (a := w) (b := 0) hw2 (by omega)).mp e; omega
      · have := (nI_eq (a := w) (b := 1) hw2 (by omega)).mp e; omega
  · refine zx_isText_f hn (br_t rfl ?_)
    unfold wpY_breaks
    dsimp only
    exact zy_isText_f hn (br_t rfl hI)
end
section
variable {cn : Nat} {rg : Int32} {O W LO UA KI F1 F2 F3 DI CA CB CT T LN : Nat → Nat} {E UB LA EA dA dB eB fu fz pr wh ro sz em hg lv bh rl rr rv ou nx sl : Nat → Int32}
theorem zx_behind {post : Int32 → Prop} {t : Nat} (ht : t < 2) (hl : LN t ≤ 16) (hT : ∀ j, j < 32 → T j < 48) (hK : ∀ x, x < 48 → KI x < 8)
    (H : ∀ v, (∀ i, i < 32 → bt v i = (decide (i < LN t) && zb_L (zb_k KI T t) i)) → post v) : wpX_behindLetters post ((nI cn), rg, (za_F O), (za_F W), dA, dB, E, (za_F LO), (za_F UA), UB, LA, (za_F KI), (za_F F1), (za_F F2), (za_F F3), (za_F DI), EA, eB, (za_F CA), (za_F CB), (za_F CT), fu, fz, pr, wh, (za_F T), (za_F LN), ro, sz, em, hg, lv, bh, rl, rr, rv, ou, nx, sl) (nI t) := by
  have hvt : vp_in (nI t) 2 := vp_in_nI ht (by decide)
  have elen : za_F LN (nI t).toNatClampNeg = nI (LN t) := by rw [nI_clamp (by omega)]; rfl
  have key : ∀ n p v (x3 : Int32), LN t < n + p → p ≤ LN t → x3 = (if zb_L (zb_k KI T t) p = true then 1 else 0) → (∀ i, i < 32 → bt v i = (decide (i < p) && zb_L (zb_k KI T t) i)) → wX_behindLetters_7 post (nI t) (nI cn) rg (za_F O) (za_F W) dA dB E (za_F LO) (za_F UA) UB LA (za_F KI) (za_F F1) (za_F F2) (za_F F3) (za_F DI) EA eB (za_F CA) (za_F CB) (za_F CT) fu fz pr wh (za_F T) (za_F LN) ro sz em hg lv bh rl rr rv ou nx sl n v x3 (nI p) := by
    intro n
    induction n with
    | zero => intro p v x3 h1 h2; omega
    | succ n ih =>
      intro p v x3 h1 h2 h3 hv
      refine ⟨hvt, pk_le (LN t) p (fun g => H v (fun i hi => ?_)) (fun g => ?_) elen rfl⟩
      · have : p = LN t := by omega
        rw [hv i hi, this]
      · obtain ⟨b1, b2, b3⟩ := zb_rd (KI := KI) (T := T) ht (show p < 16 by omega) hT (za_x16 t p)
        have kp : zb_k KI T t p < 8 := hK _ (hT (16 * t + p) (by omega))
        have hs := zb_L_s (kk := zb_k KI T t) (p := p)
        have h29 : ∀ v', (∀ i, i < 32 → bt v' i = (decide (i < p + 1) && zb_L (zb_k KI T t) i)) → wX_behindLetters_29 post (wX_behindLetters_7 post (nI t) (nI cn) rg (za_F O) (za_F W) dA dB E (za_F LO) (za_F UA) UB LA (za_F KI) (za_F F1) (za_F F2) (za_F F3) (za_F DI) EA eB (za_F CA) (za_F CB) (za_F CT) fu fz pr wh (za_F T) (za_F LN) ro sz em hg lv bh rl rr rv ou nx sl n) (nI t) v' x3 (nI p) (nI cn) rg (za_F O) (za_F W) dA dB E (za_F LO) (za_F UA) UB LA (za_F KI) (za_F F1) (za_F F2) (za_F F3) (za_F DI) EA eB (za_F CA) (za_F CB) (za_F CT) fu fz pr wh (za_F T) (za_F LN) ro sz em hg lv bh rl rr rv ou nx sl := by
          intro v' hv'
          refine ⟨b1, b2, nm_r b3 ?_⟩
          refine pk_eq (zb_k KI T t p) 2 (fun q => nm_r (nI_1 p) (ih (p + 1) v' x3 (by omega) (by omega) ?_ hv')) (fun q => ?_)
          · rw [hs, if_pos (Or.inl q)]; exact h3
          refine pk_eq (zb_k KI T t p) 6 (fun q2 => nm_r (nI_1 p) (ih (p + 1) v' x3 (by omega) (by omega) ?_ hv')) (fun q2 => ?_)
          · rw [hs, if_pos (Or.inr q2)]; exact h3
          refine pk_eq (zb_k KI T t p) 4 (fun q3 => nm_r (nI_1 p) (ih (p + 1) v' 1 (by omega) (by omega) ?_ hv')) (fun q3 => nm_r (nI_1 p) (ih (p + 1) v' 0 (by omega) (by omega) ?_ hv'))
          · rw [hs, if_neg (show ¬ (zb_k KI T t p = 2 ∨ zb_k KI T t p = 6) by omega), decide_eq_true q3]; rfl
          · rw [hs, if_neg (show ¬ (zb_k KI T t p = 2 ∨ zb_k KI T t p = 6) by omega), decide_eq_false q3]; rfl
        cases hb : zb_L (zb_k KI T t) p with
        | true =>
          rw [hb, if_pos rfl] at h3
          refine br_f (by rw [h3]; decide) (nm_e (h29 _ (fun i hi => ?_)))
          rw [zb_or (by omega) hi, hv i hi]
          by_cases q : i = p
          · rw [q, hb, decide_eq_true (show p < p + 1 by omega), decide_eq_true (show p = p from rfl)]; simp
          · rw [decide_eq_false q, Bool.or_false]
            by_cases q2 : i < p
            · rw [decide_eq_true q2, decide_eq_true (show i < p + 1 by omega)]
            · rw [decide_eq_false q2, decide_eq_false (show ¬ i < p + 1 by omega)]
        | false =>
          rw [hb, if_neg (by decide)] at h3
          refine br_t h3 (h29 _ (fun i hi => ?_))
          rw [hv i hi]
          by_cases q : i = p
          · rw [q, hb, Bool.and_false, Bool.and_false]
          · by_cases q2 : i < p
            · rw [decide_eq_true q2, decide_eq_true (show i < p + 1 by omega)]
            · rw [decide_eq_false q2, decide_eq_false (show ¬ i < p + 1 by omega)]
  refine ⟨LN t + 1, key (LN t + 1) 0 0 0 (by omega) (by omega) rfl (fun i hi => ?_)⟩
  rw [b_0, decide_eq_false (show ¬ i < 0 by omega)]; rfl
theorem zx_before {post : Int32 → Prop} {t : Nat} (ht : t < 2) (hl : LN t ≤ 16) (hT : ∀ j, j < 32 → T j < 48) (hK : ∀ x, x < 48 → KI x < 8)
    (H : ∀ v, (∀ i, i < 32 → bt v i = (decide (i < LN t) && zb_R (zb_k KI T t) (LN t) (LN t - (i + 1)))) → post v) : wpX_beforeLetters post ((nI cn), rg, (za_F O), (za_F W), dA, dB, E, (za_F LO), (za_F UA), UB, LA, (za_F KI), (za_F F1), (za_F F2), (za_F F3), (za_F DI), EA, eB, (za_F CA), (za_F CB), (za_F CT), fu, fz, pr, wh, (za_F T), (za_F LN), ro, sz, em, hg, lv, bh, rl, rr, rv, ou, nx, sl) (nI t) := by
  have hvt : vp_in (nI t) 2 := vp_in_nI ht (by decide)
  have elen : za_F LN (nI t).toNatClampNeg = nI (LN t) := by rw [nI_clamp (by omega)]; rfl
  have key : ∀ d v (x3 : Int32), d ≤ LN t → x3 = (if zb_R (zb_k KI T t) (LN t) (LN t - d) = true then 1 else 0) → (∀ i, i < 32 → bt v i = (decide (d ≤ i ∧ i < LN t) && zb_R (zb_k KI T t) (LN t) (LN t - (i + 1)))) → wX_beforeLetters_14 post (nI t) (nI cn) rg (za_F O) (za_F W) dA dB E (za_F LO) (za_F UA) UB LA (za_F KI) (za_F F1) (za_F F2) (za_F F3) (za_F DI) EA eB (za_F CA) (za_F CB) (za_F CT) fu fz pr wh (za_F T) (za_F LN) ro sz em hg lv bh rl rr rv ou nx sl (d + 1) v x3 (nI d - 1) := by
    intro d
    induction d with
    | zero =>
      intro v x3 h2 h3 hv
      refine br_t (by decide) (H v (fun i hi => ?_))
      rw [hv i hi]
      by_cases q : i < LN t
      · rw [decide_eq_true q, decide_eq_true (show 0 ≤ i ∧ i < LN t from ⟨Nat.zero_le _, q⟩)]
      · rw [decide_eq_false q, decide_eq_false (fun z => q z.2)]
    | succ d ih =>
      intro v x3 h2 h3 hv
      have e1 : nI (d + 1) - 1 = nI d := nI_pred d
      have eq1 : nI (d + 1) - 1 + (-1) = nI d - 1 := by rw [e1, Int32.sub_eq_add_neg]
      obtain ⟨b1, b2, b3⟩ := zb_rd (KI := KI) (T := T) (x := 16 * nI t + (nI (d + 1) - 1)) ht (show d < 16 by omega) hT (by rw [e1, za_x16])
      have kp : zb_k KI T t d < 8 := hK _ (hT (16 * t + d) (by omega))
      have hs : zb_R (zb_k KI T t) (LN t) (LN t - d) = if zb_k KI T t d = 2 ∨ zb_k KI T t d = 6 then zb_R (zb_k KI T t) (LN t) (LN t - (d + 1)) else decide (zb_k KI T t d = 4) := by
        rw [show LN t - d = (LN t - (d + 1)) + 1 by omega, zb_R_s, show LN t - (LN t - (d + 1) + 1) = d by omega]
      have h30 : ∀ v', (∀ i, i < 32 → bt v' i = (decide (d ≤ i ∧ i < LN t) && zb_R (zb_k KI T t) (LN t) (LN t - (i + 1)))) → wX_beforeLetters_30 post (wX_beforeLetters_14 post (nI t) (nI cn) rg (za_F O) (za_F W) dA dB E (za_F LO) (za_F UA) UB LA (za_F KI) (za_F F1) (za_F F2) (za_F F3) (za_F DI) EA eB (za_F CA) (za_F CB) (za_F CT) fu fz pr wh (za_F T) (za_F LN) ro sz em hg lv bh rl rr rv ou nx sl (d + 1)) (nI t) v' x3 (nI (d + 1) - 1) (nI cn) rg (za_F O) (za_F W) dA dB E (za_F LO) (za_F UA) UB LA (za_F KI) (za_F F1) (za_F F2) (za_F F3) (za_F DI) EA eB (za_F CA) (za_F CB) (za_F CT) fu fz pr wh (za_F T) (za_F LN) ro sz em hg lv bh rl rr rv ou nx sl := by
        intro v' hv'
        refine ⟨b1, b2, nm_r b3 ?_⟩
        refine pk_eq (zb_k KI T t d) 2 (fun q => nm_r eq1 (ih v' x3 (by omega) ?_ hv')) (fun q => ?_)
        · rw [hs, if_pos (Or.inl q)]; exact h3
        refine pk_eq (zb_k KI T t d) 6 (fun q2 => nm_r eq1 (ih v' x3 (by omega) ?_ hv')) (fun q2 => ?_)
        · rw [hs, if_pos (Or.inr q2)]; exact h3
        refine pk_eq (zb_k KI T t d) 4 (fun q3 => nm_r eq1 (ih v' 1 (by omega) ?_ hv')) (fun q3 => nm_r eq1 (ih v' 0 (by omega) ?_ hv'))
        · rw [hs, if_neg (show ¬ (zb_k KI T t d = 2 ∨ zb_k KI T t d = 6) by omega), decide_eq_true q3]; rfl
        · rw [hs, if_neg (show ¬ (zb_k KI T t d = 2 ∨ zb_k KI T t d = 6) by omega), decide_eq_false q3]; rfl
      refine br_f (by rw [e1]; exact nI_pos (by omega)) ?_
      cases hb : zb_R (zb_k KI T t) (LN t) (LN t - (d + 1)) with
      | true =>
        rw [hb, if_pos rfl] at h3
        refine br_f (by rw [h3]; decide) (nm_e (h30 _ (fun i hi => ?_)))
        rw [e1, zb_or (by omega) hi, hv i hi]
        by_cases q : i = d
        · rw [q, hb, decide_eq_true (show d ≤ d ∧ d < LN t by omega), decide_eq_true (show d = d from rfl)]; simp
        · rw [decide_eq_false q, Bool.or_false]
          by_cases q2 : d ≤ i ∧ i < LN t
          · rw [decide_eq_true q2, decide_eq_true (show d + 1 ≤ i ∧ i < LN t by omega)]
          · rw [decide_eq_false q2, decide_eq_false (show ¬ (d + 1 ≤ i ∧ i < LN t) by omega)]
      | false =>
        rw [hb, if_neg (by decide)] at h3
        refine br_t h3 (h30 _ (fun i hi => ?_))
        rw [hv i hi]
        by_cases q : i = d
        · rw [q, hb, Bool.and_false, Bool.and_false]
        · by_cases q2 : d ≤ i ∧ i < LN t
          · rw [decide_eq_true q2, decide_eq_true (show d + 1 ≤ i ∧ i < LN t by omega)]
          · rw [decide_eq_false q2, decide_eq_false (show ¬ (d + 1 ≤ i ∧ i < LN t) by omega)]
  refine ⟨hvt, nm_r (e' := nI (LN t) - 1) (by rw [elen]) ⟨LN t + 1, key (LN t) 0 0 (Nat.le_refl _) (by rw [Nat.sub_self]; rfl) (fun i hi => ?_)⟩⟩
  rw [b_0, decide_eq_false (show ¬ (LN t ≤ i ∧ i < LN t) by omega)]; rfl
end
section
variable {cn : Nat} {rs nn : Int32} {O W LO UA KI F1 F2 F3 DI CA CB CT T LN : Nat → Nat} {E UB LA EA pA pB wt yB lo re yr fo fl ele els eb yl se pg yo : Nat → Int32}
theorem zy_besL {post : Int32 → Prop} {t p : Nat} (ht : t < 2) (hl : LN t ≤ 16) (hp : p < LN t) (hT : ∀ j, j < 32 → T j < 48) (hK : ∀ x, x < 48 → KI x < 8)
    (H : post (nI (zb_l (zb_k KI T t) p) - 1)) : wpY_beside post ((nI cn), rs, nn, (za_F O), (za_F W), pA, pB, (za_F LO), (za_F UA), UB, LA, (za_F KI), wt, EA, yB, (za_F DI), E, (za_F CA), (za_F CB), (za_F CT), lo, (za_F T), (za_F LN), re, yr, fo, fl, ele, els, eb, yl, se, pg, yo) (nI t) (nI p) (-1) := by
  have hvt : vp_in (nI t) 2 := vp_in_nI ht (by decide)
  have elen : za_F LN (nI t).toNatClampNeg = nI (LN t) := by rw [nI_clamp (by omega)]; rfl
  have key : ∀ d n, d < n → d ≤ p → zb_l (zb_k KI T t) p = zb_l (zb_k KI T t) d → wY_beside_5 post (nI t) (-1) (nI cn) rs nn (za_F O) (za_F W) pA pB (za_F LO) (za_F UA) UB LA (za_F KI) wt EA yB (za_F DI) E (za_F CA) (za_F CB) (za_F CT) lo (za_F T) (za_F LN) re yr fo fl ele els eb yl se pg yo n (nI d - 1) := by
    intro d
    induction d with
    | zero =>
      intro n hn _ he
      obtain ⟨n, rfl⟩ : ∃ k, n = k + 1 := ⟨n - 1, by omega⟩
      rw [he] at H
      refine br_t (by decide) ⟨hvt, ?_⟩
      refine br_f ?_ H
      rw [elen, Int32.le_iff_toInt_le, nI_toInt (by omega), show (nI 0 - 1 : Int32).toInt = -1 by decide]
      omega
    | succ d ih =>
      intro n hn hd he
      obtain ⟨n, rfl⟩ : ∃ k, n = k + 1 := ⟨n - 1, by omega⟩
      have e1 : nI (d + 1) - 1 = nI d := nI_pred d
      have eq1 : nI (d + 1) - 1 + (-1) = nI d - 1 := by rw [e1, Int32.sub_eq_add_neg]
      have kp : zb_k KI T t d < 8 := hK _ (hT (16 * t + d) (by omega))
      rw [zb_l] at he
      refine br_f (by rw [e1]; exact nI_pos (by omega)) ⟨hvt, pk_le (LN t) d (fun q => by omega) (fun _ => ?_) elen e1⟩
      refine zy_kindAt e1 ht (show d < 16 by omega) hT ?_
      refine pk_eq (zb_k KI T t d) 6 (fun q => nm_r eq1 (ih n (by omega) (by omega) ?_)) (fun q => ?_)
      · rw [if_pos (Or.inr q)] at he; exact he
      refine zy_kindAt e1 ht (show d < 16 by omega) hT ?_
      refine pk_eq (zb_k KI T t d) 2 (fun q2 => nm_r eq1 (ih n (by omega) (by omega) ?_)) (fun q2 => ⟨hvt, ?_⟩)
      · rw [if_pos (Or.inl q2)] at he; exact he
      · rw [if_neg (by omega)] at he
        rw [he] at H
        exact pk_le (LN t) d (fun z => by omega) (fun _ => H) elen e1
  exact nm_r (Int32.sub_eq_add_neg _ _).symm ⟨p + 1, key p (p + 1) (by omega) (Nat.le_refl _) rfl⟩
theorem zy_besR {post : Int32 → Prop} {t p : Nat} (ht : t < 2) (hl : LN t ≤ 16) (hp : p < LN t) (hT : ∀ j, j < 32 → T j < 48) (hK : ∀ x, x < 48 → KI x < 8)
    (H : post (nI (zb_r (zb_k KI T t) (LN t) (LN t - (p + 1))) - 1)) : wpY_beside post ((nI cn), rs, nn, (za_F O), (za_F W), pA, pB, (za_F LO), (za_F UA), UB, LA, (za_F KI), wt, EA, yB, (za_F DI), E, (za_F CA), (za_F CB), (za_F CT), lo, (za_F T), (za_F LN), re, yr, fo, fl, ele, els, eb, yl, se, pg, yo) (nI t) (nI p) 1 := by
  have hvt : vp_in (nI t) 2 := vp_in_nI ht (by decide)
  have elen : za_F LN (nI t).toNatClampNeg = nI (LN t) := by rw [nI_clamp (by omega)]; rfl
  have key : ∀ n j, LN t < n + j → j ≤ LN t → zb_r (zb_k KI T t) (LN t) (LN t - (p + 1)) = zb_r (zb_k KI T t) (LN t) (LN t - j) → wY_beside_5 post (nI t) 1 (nI cn) rs nn (za_F O) (za_F W) pA pB (za_F LO) (za_F UA) UB LA (za_F KI) wt EA yB (za_F DI) E (za_F CA) (za_F CB) (za_F CT) lo (za_F T) (za_F LN) re yr fo fl ele els eb yl se pg yo n (nI j) := by
    intro n
    induction n with
    | zero => intro j h1 h2; omega
    | succ n ih =>
      intro j h1 h2 he
      refine br_f (nI_pos (by omega)) ⟨hvt, pk_le (LN t) j (fun q => ⟨hvt, pk_le (LN t) j (fun _ => ?_) (fun z => by omega) elen rfl⟩) (fun q => ?_) elen rfl⟩
      · rw [he, show LN t - j = 0 by omega] at H
        exact H
      · have kp : zb_k KI T t j < 8 := hK _ (hT (16 * t + j) (by omega))
        have hs : zb_r (zb_k KI T t) (LN t) (LN t - j) = if zb_k KI T t j = 2 ∨ zb_k KI T t j = 6 then zb_r (zb_k KI T t) (LN t) (LN t - (j + 1)) else j + 1 := by
          rw [show LN t - j = (LN t - (j + 1)) + 1 by omega, zb_r, show LN t - (LN t - (j + 1) + 1) = j by omega]
        rw [hs] at he
        refine zy_kindAt rfl ht (show j < 16 by omega) hT ?_
        refine pk_eq (zb_k KI T t j) 6 (fun g => nm_r (nI_1 j) (ih (j + 1) (by omega) (by omega) ?_)) (fun g => ?_)
        · rw [if_pos (Or.inr g)] at he; exact he
        refine zy_kindAt rfl ht (show j < 16 by omega) hT ?_
        refine pk_eq (zb_k KI T t j) 2 (fun g2 => nm_r (nI_1 j) (ih (j + 1) (by omega) (by omega) ?_)) (fun g2 => ⟨hvt, ?_⟩)
        · rw [if_pos (Or.inl g2)] at he; exact he
        · rw [if_neg (by omega)] at he
          rw [he, nI_pred] at H
          exact pk_le (LN t) j (fun z => by omega) (fun _ => H) elen rfl
  exact nm_r (nI_1 p) ⟨LN t + 1, key (LN t + 1) (p + 1) (by omega) (by omega) rfl⟩
theorem zy_isFinal {post : Int32 → Prop} {t p : Nat} (ht : t < 2) (hl : LN t ≤ 16) (hp : p < LN t) (hT : ∀ j, j < 32 → T j < 48) (hK : ∀ x, x < 48 → KI x < 8)
    (h1 : (zb_L (zb_k KI T t) p && !(zb_R (zb_k KI T t) (LN t) (LN t - (p + 1)))) = true → post 1) (h0 : (zb_L (zb_k KI T t) p && !(zb_R (zb_k KI T t) (LN t) (LN t - (p + 1)))) = false → post 0) : wpY_isFinal post ((nI cn), rs, nn, (za_F O), (za_F W), pA, pB, (za_F LO), (za_F UA), UB, LA, (za_F KI), wt, EA, yB, (za_F DI), E, (za_F CA), (za_F CB), (za_F CT), lo, (za_F T), (za_F LN), re, yr, fo, fl, ele, els, eb, yl, se, pg, yo) (nI t) (nI p) := by
  have hll := zb_l_le (zb_k KI T t) p
  have hrr := zb_r_le (zb_k KI T t) (LN t) (LN t - (p + 1)) (by omega)
  unfold wpY_isFinal
  dsimp only
  refine zy_besL ht hl hp hT hK (zy_besR ht hl hp hT hK ?_)
  by_cases e : zb_l (zb_k KI T t) p = 0
  · rw [e]
    refine br_t (by decide) (h0 ?_)
    have : zb_L (zb_k KI T t) p = false := by unfold zb_L; exact decide_eq_false (fun q => q.1 e)
    rw [this]; rfl
  · rw [za_p1 (show 0 < zb_l (zb_k KI T t) p by omega)]
    have k1 : zb_k KI T t (zb_l (zb_k KI T t) p - 1) < 8 := hK _ (hT _ (by omega))
    refine br_f (nI_pos (by omega)) (zy_kindAt rfl ht (by omega) hT ?_)
    refine pk_eq (zb_k KI T t (zb_l (zb_k KI T t) p - 1)) 4 (fun g => ?_) (fun g => h0 ?_)
    · have eL : zb_L (zb_k KI T t) p = true := by unfold zb_L; exact decide_eq_true ⟨e, g⟩
      rw [eL, Bool.true_and] at h1 h0
      by_cases e2 : zb_r (zb_k KI T t) (LN t) (LN t - (p + 1)) = 0
      · have eR : zb_R (zb_k KI T t) (LN t) (LN t - (p + 1)) = false := by unfold zb_R; exact decide_eq_false (fun q => q.1 e2)
        rw [e2]
        exact br_t (by decide) (h1 (by rw [eR]; rfl))
      · rw [za_p1 (show 0 < zb_r (zb_k KI T t) (LN t) (LN t - (p + 1)) by omega)]
        have k2 : zb_k KI T t (zb_r (zb_k KI T t) (LN t) (LN t - (p + 1)) - 1) < 8 := hK _ (hT _ (by omega))
        refine br_f (nI_pos (by omega)) (zy_kindAt rfl ht (by omega) hT ?_)
        refine pk_eq (zb_k KI T t (zb_r (zb_k KI T t) (LN t) (LN t - (p + 1)) - 1)) 4 (fun g2 => h0 ?_) (fun g2 => h1 ?_)
        · have eR : zb_R (zb_k KI T t) (LN t) (LN t - (p + 1)) = true := by unfold zb_R; exact decide_eq_true ⟨e2, g2⟩
          rw [eR]; rfl
        · have eR : zb_R (zb_k KI T t) (LN t) (LN t - (p + 1)) = false := by unfold zb_R; exact decide_eq_false (fun q => g2 q.2)
          rw [eR]; rfl
    · have : zb_L (zb_k KI T t) p = false := by unfold zb_L; exact decide_eq_false (fun q => g q.2)
      rw [this]; rfl
end
end
section
/-! case -/
def zs_u (LO UA : Nat → Nat) (UB : Nat → Int32) (f : Bool) (c : Nat) : List Nat :=
  (if f = true then LO (UA c) else UA c) :: (if UB c < 0 then [] else [if f = true then LO (UB c).toNatClampNeg else (UB c).toNatClampNeg])
def zs_d (LO : Nat → Nat) (LA : Nat → Int32) (fin : Bool) (c : Nat) : Nat := if LA c < 0 then LO c else if fin = true then (LA c).toNatClampNeg else LO c
def zs_f (kk : Nat → Nat) (n : Nat) : Nat → Bool
  | 0 => false
  | p + 1 => (zs_f kk n p || zb_w kk n p) && !(decide (kk p = 4))
def zs_p (kk : Nat → Nat) (n how p : Nat) : Bool := decide (how = 1 ∨ how = 3) || (decide (how = 2) && ((zs_f kk n p || zb_w kk n p) && decide (kk p = 4)))
def zs_x (LO UA KI T : Nat → Nat) (UB LA : Nat → Int32) (t n how p : Nat) : List Nat :=
  if zs_p (zb_k KI T t) n how p = true then zs_u LO UA UB (decide (how = 3)) (T (16 * t + p)) else [zs_d LO LA (zb_L (zb_k KI T t) p && !(zb_R (zb_k KI T t) n (n - (p + 1)))) (T (16 * t + p))]
def zs_R (LO UA KI T : Nat → Nat) (UB LA : Nat → Int32) (t n how : Nat) : Nat → List Nat
  | 0 => []
  | p + 1 => zs_R LO UA KI T UB LA t n how p ++ zs_x LO UA KI T UB LA t n how p
theorem zs_o {x : Int32} (h : za_o x) (hn : ¬ x < 0) : x.toNatClampNeg < 48 ∧ x = nI x.toNatClampNeg := by
  rcases h with rfl | ⟨m, hm, rfl⟩
  · exact absurd za_m1neg hn
  · rw [nI_clamp (by omega)]; exact ⟨hm, rfl⟩
theorem zs_u_lt {LO UA : Nat → Nat} {UB : Nat → Int32} {f : Bool} {c : Nat} (hc : c < 48) (h1 : ∀ x, x < 48 → LO x < 48) (h2 : ∀ x, x < 48 → UA x < 48) (h3 : ∀ x, x < 48 → za_o (UB x)) : (∀ x ∈ zs_u LO UA UB f c, x < 48) ∧ (zs_u LO UA UB f c).length ≤ 2 := by
  have ha := h2 c hc
  have hla := h1 _ ha
  unfold zs_u
  by_cases g : UB c < 0
  · rw [if_pos g]
    refine ⟨fun x hx => ?_, by simp⟩
    simp at hx
    rw [hx]; split <;> assumption
  · rw [if_neg g]
    obtain ⟨b1, _⟩ := zs_o (h3 c hc) g
    have hlb := h1 _ b1
    refine ⟨fun x hx => ?_, by simp⟩
    simp only [List.mem_cons, List.not_mem_nil, or_false] at hx
    rcases hx with hx | hx
    · rw [hx]; split <;> assumption
    · rw [hx]; split <;> assumption
theorem zs_d_lt {LO : Nat → Nat} {LA : Nat → Int32} {f : Bool} {c : Nat} (hc : c < 48) (h1 : ∀ x, x < 48 → LO x < 48) (h3 : ∀ x, x < 48 → za_o (LA x)) : zs_d LO LA f c < 48 := by
  have := h1 c hc
  unfold zs_d
  split
  · exact this
  · rename_i g
    have := (zs_o (h3 c hc) g).1
    split <;> assumption
theorem zs_x_lt {LO UA KI T : Nat → Nat} {UB LA : Nat → Int32} {t n how p : Nat} (hc : T (16 * t + p) < 48) (h1 : ∀ x, x < 48 → LO x < 48) (h2 : ∀ x, x < 48 → UA x < 48) (h3 : ∀ x, x < 48 → za_o (UB x)) (h4 : ∀ x, x < 48 → za_o (LA x)) : (∀ x ∈ zs_x LO UA KI T UB LA t n how p, x < 48) ∧ (zs_x LO UA KI T UB LA t n how p).length ≤ 2 := by
  unfold zs_x
  split
  · exact zs_u_lt hc h1 h2 h3
  · refine ⟨fun x hx => ?_, by simp⟩
    simp only [List.mem_cons, List.not_mem_nil, or_false] at hx
    rw [hx]; exact zs_d_lt hc h1 h4
theorem zs_R_lt {LO UA KI T : Nat → Nat} {UB LA : Nat → Int32} {t n how : Nat} (hT : ∀ j, j < 32 → T j < 48) (ht : t < 2) (h1 : ∀ x, x < 48 → LO x < 48) (h2 : ∀ x, x < 48 → UA x < 48) (h3 : ∀ x, x < 48 → za_o (UB x)) (h4 : ∀ x, x < 48 → za_o (LA x)) : ∀ p, p ≤ 16 → (∀ x ∈ zs_R LO UA KI T UB LA t n how p, x < 48) ∧ (zs_R LO UA KI T UB LA t n how p).length ≤ 2 * p
  | 0, _ => ⟨fun x hx => by simp [zs_R] at hx, Nat.le_refl _⟩
  | p + 1, hp => by
    have ih := zs_R_lt (KI := KI) (n := n) (how := how) hT ht h1 h2 h3 h4 p (by omega)
    have hx := zs_x_lt (KI := KI) (n := n) (how := how) (hT (16 * t + p) (by omega)) h1 h2 h3 h4
    rw [zs_R]
    refine ⟨fun x hm => ?_, by rw [List.length_append]; omega⟩
    rcases List.mem_append.mp hm with hm | hm
    · exact ih.1 x hm
    · exact hx.1 x hm
section
variable {cn : Nat} {rg : Int32} {O W LO UA KI F1 F2 F3 DI CA CB CT T LN : Nat → Nat} {E UB LA EA dA dB eB fu fz pr wh ro sz em hg lv bh rl rr rv ou nx sl : Nat → Int32}
theorem zx_add {post : SX → Prop} {c : Nat} {L : List Nat} {x : Int32} (hx : x = nI c) (hc : c < 48) (hL : zx_row ro sz 2 L) (hl : L.length < 64)
    (H : ∀ ro' sz', zx_row ro' sz' 2 (L ++ [c]) → zx_rf 2 ro ro' sz sz' → post ((nI cn), rg, (za_F O), (za_F W), dA, dB, E, (za_F LO), (za_F UA), UB, LA, (za_F KI), (za_F F1), (za_F F2), (za_F F3), (za_F DI), EA, eB, (za_F CA), (za_F CB), (za_F CT), fu, fz, pr, wh, (za_F T), (za_F LN), ro', sz', em, hg, lv, bh, rl, rr, rv, ou, nx, sl)) : wpX_add post ((nI cn), rg, (za_F O), (za_F W), dA, dB, E, (za_F LO), (za_F UA), UB, LA, (za_F KI), (za_F F1), (za_F F2), (za_F F3), (za_F DI), EA, eB, (za_F CA), (za_F CB), (za_F CT), fu, fz, pr, wh, (za_F T), (za_F LN), ro, sz, em, hg, lv, bh, rl, rr, rv, ou, nx, sl) x := by
  have e1 : (128 : Int32) + sz 2 = nI (128 + L.length) := by rw [hL.2]; exact nI_add 128 L.length
  refine nm_r (e' := upd sz 2 (nI (L.length + 1))) (by rw [hL.2, nI_1, za_nb2 (by omega)]) ⟨by rw [e1]; exact vp_in_nI (by omega) (by decide), ?_⟩
  refine nm_r (e' := upd ro (64 * 2 + L.length) (nI c)) (by rw [e1, hx, nI_clamp (by omega), za_nb2 (by omega)]) ?_
  exact H _ _ ⟨za_h_snoc hL.1, by rw [pk_us, List.length_append]; rfl⟩ ⟨fun j hj => pk_un (by omega), fun j hj => pk_un hj⟩
theorem zx_raise {post : SX → Prop} {c : Nat} {L : List Nat} {f : Bool} {z : Int32} (hz : z = if f = true then 1 else 0) (hc : c < 48) (h1 : ∀ x, x < 48 → LO x < 48) (h2 : ∀ x, x < 48 → UA x < 48) (h3 : ∀ x, x < 48 → za_o (UB x)) (hL : zx_row ro sz 2 L) (hl : L.length < 62)
    (H : ∀ ro' sz', zx_row ro' sz' 2 (L ++ zs_u LO UA UB f c) → zx_rf 2 ro ro' sz sz' → post ((nI cn), rg, (za_F O), (za_F W), dA, dB, E, (za_F LO), (za_F UA), UB, LA, (za_F KI), (za_F F1), (za_F F2), (za_F F3), (za_F DI), EA, eB, (za_F CA), (za_F CB), (za_F CT), fu, fz, pr, wh, (za_F T), (za_F LN), ro', sz', em, hg, lv, bh, rl, rr, rv, ou, nx, sl)) : wpX_raise post ((nI cn), rg, (za_F O), (za_F W), dA, dB, E, (za_F LO), (za_F UA), UB, LA, (za_F KI), (za_F F1), (za_F F2), (za_F F3), (za_F DI), EA, eB, (za_F CA), (za_F CB), (za_F CT), fu, fz, pr, wh, (za_F T), (za_F LN), ro, sz, em, hg, lv, bh, rl, rr, rv, ou, nx, sl) (nI c) z := by
  have hvc : vp_in (nI c) 48 := vp_in_nI hc (by decide)
  have ec : (nI c).toNatClampNeg = c := nI_clamp (by omega)
  have ha := h2 c hc
  have hla := h1 _ ha
  have h30 : ∀ (y : Int32) (d : Nat), y = nI d → d < 48 → d = (if f = true then LO (UA c) else UA c) → wX_raise_30 post z (UB c) y (nI cn) rg (za_F O) (za_F W) dA dB E (za_F LO) (za_F UA) UB LA (za_F KI) (za_F F1) (za_F F2) (za_F F3) (za_F DI) EA eB (za_F CA) (za_F CB) (za_F CT) fu fz pr wh (za_F T) (za_F LN) ro sz em hg lv bh rl rr rv ou nx sl := by
    intro y d hy hd he
    refine zx_add hy hd hL (by omega) (fun ro1 sz1 g1 g2 => ?_)
    have el : (L ++ [d]).length = L.length + 1 := by simp
    by_cases g : UB c < 0
    · refine br_t g (H ro1 sz1 ?_ g2)
      unfold zs_u
      rw [if_pos g, ← he]; exact g1
    · obtain ⟨b1, b2⟩ := zs_o (h3 c hc) g
      have hlb := h1 _ b1
      have eu : zs_u LO UA UB f c = [d, if f = true then LO (UB c).toNatClampNeg else (UB c).toNatClampNeg] := by
        unfold zs_u; rw [if_neg g, ← he]
      rw [eu] at H
      refine br_f g ?_
      cases f with
      | false =>
        refine br_t hz (zx_add b2 b1 g1 (by omega) (fun ro2 sz2 k1 k2 => H ro2 sz2 ?_ (zx_rf_t g2 k2)))
        rw [List.append_assoc] at k1; exact k1
      | true =>
        refine br_f (by rw [hz]; decide) ⟨by rw [b2]; exact vp_in_nI b1 (by decide), zx_add rfl hlb g1 (by omega) (fun ro2 sz2 k1 k2 => H ro2 sz2 ?_ (zx_rf_t g2 k2))⟩
        rw [List.append_assoc] at k1; exact k1
  refine ⟨hvc, nm_r (e' := nI (UA c)) (by rw [ec]; rfl) ⟨hvc, nm_r (e' := UB c) (by rw [ec]) ?_⟩⟩
  cases f with
  | false => exact br_t hz (h30 _ (UA c) rfl ha rfl)
  | true => exact br_f (by rw [hz]; decide) ⟨vp_in_nI ha (by decide), h30 _ (LO (UA c)) (by rw [nI_clamp (by omega)]; rfl) hla rfl⟩
theorem zx_cased61 {post : Int32 → SX → Prop} {t how : Nat} {x3 x4 : Int32} (ht : t < 2) (hh : how < 4) (hl : LN t ≤ 16) (hT : ∀ j, j < 32 → T j < 48) (hK : ∀ x, x < 48 → KI x < 8) (h1 : ∀ x, x < 48 → LO x < 48) (h2 : ∀ x, x < 48 → UA x < 48) (h3 : ∀ x, x < 48 → za_o (UB x)) (h4 : ∀ x, x < 48 → za_o (LA x))
    (hx3 : ∀ i, i < LN t → bt x3 i = (decide (how = 2) && zb_w (zb_k KI T t) (LN t) i))
    (hx4 : ∀ i, i < LN t → bt x4 i = (zb_L (zb_k KI T t) i && !(zb_R (zb_k KI T t) (LN t) (LN t - (i + 1)))))
    (H : ∀ ro' sz', zx_row ro' sz' 2 (zs_R LO UA KI T UB LA t (LN t) how (LN t)) → zx_rf 2 ro ro' sz sz' → post (nI (zs_R LO UA KI T UB LA t (LN t) how (LN t)).length) ((nI cn), rg, (za_F O), (za_F W), dA, dB, E, (za_F LO), (za_F UA), UB, LA, (za_F KI), (za_F F1), (za_F F2), (za_F F3), (za_F DI), EA, eB, (za_F CA), (za_F CB), (za_F CT), fu, fz, pr, wh, (za_F T), (za_F LN), ro', sz', em, hg, lv, bh, rl, rr, rv, ou, nx, sl)) :
    ∀ n p (x5 : Int32) ro' sz', LN t < n + p → p ≤ LN t → zx_row ro' sz' 2 (zs_R LO UA KI T UB LA t (LN t) how p) → zx_rf 2 ro ro' sz sz' → x5 = (if (decide (how = 2) && zs_f (zb_k KI T t) (LN t) p) = true then 1 else 0) →
    wX_cased_61 post (nI t) (nI how) x3 x4 n x5 (nI p) (nI cn) rg (za_F O) (za_F W) dA dB E (za_F LO) (za_F UA) UB LA (za_F KI) (za_F F1) (za_F F2) (za_F F3) (za_F DI) EA eB (za_F CA) (za_F CB) (za_F CT) fu fz pr wh (za_F T) (za_F LN) ro' sz' em hg lv bh rl rr rv ou nx sl := by
  have hvt : vp_in (nI t) 2 := vp_in_nI ht (by decide)
  have elen : za_F LN (nI t).toNatClampNeg = nI (LN t) := by rw [nI_clamp (by omega)]; rfl
  intro n
  induction n with
  | zero => intro p x5 ro' sz' g1 g2; omega
  | succ n ih =>
    intro p x5 ro' sz' g1 g2 g3 g4 g5
    refine ⟨hvt, pk_le (LN t) p (fun q => ?_) (fun q => ?_) elen rfl⟩
    · have : p = LN t := by omega
      subst this
      rw [g3.2]; exact H ro' sz' g3 g4
    · have hc := hT (16 * t + p) (by omega)
      have hlR := (zs_R_lt (KI := KI) (n := LN t) (how := how) hT ht h1 h2 h3 h4 p (by omega)).2
      have kp : zb_k KI T t p < 8 := hK _ hc
      have ec : (nI (T (16 * t + p))).toNatClampNeg = T (16 * t + p) := nI_clamp (by omega)
      have hvc : vp_in (nI (T (16 * t + p))) 48 := vp_in_nI hc (by decide)
      -- the flag after the look at the starts
      have h98 : ∀ x5' : Int32, x5' = (if (decide (how = 2) && (zs_f (zb_k KI T t) (LN t) p || zb_w (zb_k KI T t) (LN t) p)) = true then 1 else 0) → wX_cased_98 post (wX_cased_61 post (nI t) (nI how) x3 x4 n) (nI t) (nI how) x3 x4 x5' (nI p) (nI (T (16 * t + p))) (nI cn) rg (za_F O) (za_F W) dA dB E (za_F LO) (za_F UA) UB LA (za_F KI) (za_F F1) (za_F F2) (za_F F3) (za_F DI) EA eB (za_F CA) (za_F CB) (za_F CT) fu fz pr wh (za_F T) (za_F LN) ro' sz' em hg lv bh rl rr rv ou nx sl := by
        intro x5' hx5
        have hnx : ∀ (y : Int32) ro2 sz2, zx_row ro2 sz2 2 (zs_R LO UA KI T UB LA t (LN t) how p ++ zs_x LO UA KI T UB LA t (LN t) how p) → zx_rf 2 ro' ro2 sz' sz2 → y = (if (decide (how = 2) && ((zs_f (zb_k KI T t) (LN t) p || zb_w (zb_k KI T t) (LN t) p) && !(decide (zb_k KI T t p = 4)))) = true then 1 else 0) → wX_cased_61 post (nI t) (nI how) x3 x4 n y (nI (p + 1)) (nI cn) rg (za_F O) (za_F W) dA dB E (za_F LO) (za_F UA) UB LA (za_F KI) (za_F F1) (za_F F2) (za_F F3) (za_F DI) EA eB (za_F CA) (za_F CB) (za_F CT) fu fz pr wh (za_F T) (za_F LN) ro2 sz2 em hg lv bh rl rr rv ou nx sl :=
          fun y ro2 sz2 k1 k2 k3 => ih (p + 1) y ro2 sz2 (by omega) (by omega) k1 (zx_rf_t g4 k2) k3
        have hup : zs_p (zb_k KI T t) (LN t) how p = true → wX_cased_124 post (wX_cased_61 post (nI t) (nI how) x3 x4 n) (nI t) (nI how) x3 x4 x5' (nI p) (nI (T (16 * t + p))) (nI cn) rg (za_F O) (za_F W) dA dB E (za_F LO) (za_F UA) UB LA (za_F KI) (za_F F1) (za_F F2) (za_F F3) (za_F DI) EA eB (za_F CA) (za_F CB) (za_F CT) fu fz pr wh (za_F T) (za_F LN) ro' sz' em hg lv bh rl rr rv ou nx sl := by
          intro hp
          have ex : zs_x LO UA KI T UB LA t (LN t) how p = zs_u LO UA UB (decide (how = 3)) (T (16 * t + p)) := by unfold zs_x; rw [if_pos hp]
          have hy : (0 : Int32) = (if (decide (how = 2) && ((zs_f (zb_k KI T t) (LN t) p || zb_w (zb_k KI T t) (LN t) p) && !(decide (zb_k KI T t p = 4)))) = true then 1 else 0) := by
            rw [if_neg]
            intro q2
            unfold zs_p at hp
            rw [Bool.and_eq_true, Bool.and_eq_true] at q2
            have e2 := of_decide_eq_true q2.1
            rw [decide_eq_false (show ¬ (how = 1 ∨ how = 3) by omega), Bool.false_or, Bool.and_eq_true, Bool.and_eq_true] at hp
            have e4 := of_decide_eq_true hp.2.2
            rw [decide_eq_true e4] at q2
            exact absurd q2.2.2 (by decide)
          have h149 : ∀ z : Int32, z = (if (decide (how = 3)) = true then 1 else 0) → wX_cased_149 post (wX_cased_61 post (nI t) (nI how) x3 x4 n) (nI t) (nI how) x3 x4 (nI p) z (nI (T (16 * t + p))) (nI cn) rg (za_F O) (za_F W) dA dB E (za_F LO) (za_F UA) UB LA (za_F KI) (za_F F1) (za_F F2) (za_F F3) (za_F DI) EA eB (za_F CA) (za_F CB) (za_F CT) fu fz pr wh (za_F T) (za_F LN) ro' sz' em hg lv bh rl rr rv ou nx sl := by
            intro z hz
            refine zx_raise hz hc h1 h2 h3 g3 (by omega) (fun ro2 sz2 k1 k2 => nm_r (nI_1 p) (hnx 0 ro2 sz2 ?_ k2 hy))
            rw [ex]; exact k1
          refine br_f (by decide) (pk_eq how 3 (fun e => h149 1 ?_) (fun e => h149 0 ?_))
          · rw [decide_eq_true e]; rfl
          · rw [decide_eq_false e]; rfl
        have hdn : zs_p (zb_k KI T t) (LN t) how p = false → wX_cased_128 post (wX_cased_61 post (nI t) (nI how) x3 x4 n) (nI t) (nI how) x3 x4 x5' (nI p) (nI (T (16 * t + p))) (nI cn) rg (za_F O) (za_F W) dA dB E (za_F LO) (za_F UA) UB LA (za_F KI) (za_F F1) (za_F F2) (za_F F3) (za_F DI) EA eB (za_F CA) (za_F CB) (za_F CT) fu fz pr wh (za_F T) (za_F LN) ro' sz' em hg lv bh rl rr rv ou nx sl := by
          intro hp
          have ex : zs_x LO UA KI T UB LA t (LN t) how p = [zs_d LO LA (zb_L (zb_k KI T t) p && !(zb_R (zb_k KI T t) (LN t) (LN t - (p + 1)))) (T (16 * t + p))] := by unfold zs_x; rw [if_neg (by rw [hp]; decide)]
          have hy : x5' = (if (decide (how = 2) && ((zs_f (zb_k KI T t) (LN t) p || zb_w (zb_k KI T t) (LN t) p) && !(decide (zb_k KI T t p = 4)))) = true then 1 else 0) := by
            rw [hx5]
            unfold zs_p at hp
            rw [Bool.or_eq_false_iff] at hp
            have hp2 := hp.2
            cases e2 : decide (how = 2) with
            | false => rfl
            | true =>
              rw [e2, Bool.true_and] at hp2
              rw [Bool.true_and, Bool.true_and]
              cases e3 : (zs_f (zb_k KI T t) (LN t) p || zb_w (zb_k KI T t) (LN t) p) with
              | false => rfl
              | true =>
                rw [e3, Bool.true_and] at hp2
                rw [hp2]; rfl
          have hlow : zs_d LO LA (zb_L (zb_k KI T t) p && !(zb_R (zb_k KI T t) (LN t) (LN t - (p + 1)))) (T (16 * t + p)) = LO (T (16 * t + p)) → wX_cased_192 post (wX_cased_61 post (nI t) (nI how) x3 x4 n) (nI t) (nI how) x3 x4 x5' (nI p) (nI (T (16 * t + p))) (nI cn) rg (za_F O) (za_F W) dA dB E (za_F LO) (za_F UA) UB LA (za_F KI) (za_F F1) (za_F F2) (za_F F3) (za_F DI) EA eB (za_F CA) (za_F CB) (za_F CT) fu fz pr wh (za_F T) (za_F LN) ro' sz' em hg lv bh rl rr rv ou nx sl := by
            intro e
            refine ⟨hvc, zx_add (by rw [ec]; rfl) (h1 _ hc) g3 (by omega) (fun ro2 sz2 k1 k2 => nm_r (nI_1 p) (hnx x5' ro2 sz2 ?_ k2 hy))⟩
            rw [ex, e]; exact k1
          refine br_t rfl ⟨hvc, ?_⟩
          rw [ec]
          by_cases hla : LA (T (16 * t + p)) < 0
          · refine br_t hla (hlow ?_)
            unfold zs_d; rw [if_pos hla]
          · obtain ⟨b1, b2⟩ := zs_o (h4 _ hc) hla
            refine br_f hla (br_c (fun e => hlow ?_) (fun e => ⟨hvc, zx_add b2 b1 g3 (by omega) (fun ro2 sz2 k1 k2 => nm_r (nI_1 p) (hnx x5' ro2 sz2 ?_ k2 hy))⟩))
            · have := (zb_test (by omega)).mp e
              rw [hx4 p q] at this
              unfold zs_d; rw [if_neg hla, this]; rfl
            · have e2 : (zb_L (zb_k KI T t) p && !(zb_R (zb_k KI T t) (LN t) (LN t - (p + 1)))) = true := by
                cases hb : (zb_L (zb_k KI T t) p && !(zb_R (zb_k KI T t) (LN t) (LN t - (p + 1)))) with
                | true => rfl
                | false => exact absurd ((zb_test (by omega)).mpr (by rw [hx4 p q]; exact hb)) e
              rw [ex, e2]
              unfold zs_d; rw [if_neg hla, if_pos rfl]; exact k1
        refine pk_eq how 1 (fun e => hup ?_) (fun e => pk_eq how 3 (fun e2 => hup ?_) (fun e2 => ?_))
        · unfold zs_p; rw [decide_eq_true (Or.inl e)]; rfl
        · unfold zs_p; rw [decide_eq_true (Or.inr e2)]; rfl
        · have hpe : zs_p (zb_k KI T t) (LN t) how p = (decide (how = 2) && ((zs_f (zb_k KI T t) (LN t) p || zb_w (zb_k KI T t) (LN t) p) && decide (zb_k KI T t p = 4))) := by
            unfold zs_p; rw [decide_eq_false (show ¬ (how = 1 ∨ how = 3) by omega), Bool.false_or]
          cases hb : (decide (how = 2) && (zs_f (zb_k KI T t) (LN t) p || zb_w (zb_k KI T t) (LN t) p)) with
          | false =>
            rw [hb, if_neg (by decide)] at hx5
            refine br_t hx5 (hdn ?_)
            rw [hpe, ← Bool.and_assoc, hb]; rfl
          | true =>
            rw [hb, if_pos rfl] at hx5
            refine br_f (by rw [hx5]; decide) ⟨hvc, ?_⟩
            refine pk_eq (zb_k KI T t p) 4 (fun e4 => hup ?_) (fun e4 => hdn ?_) (by rw [ec]; rfl) rfl
            · rw [hpe, ← Bool.and_assoc, hb, decide_eq_true e4]; rfl
            · rw [hpe, ← Bool.and_assoc, hb, decide_eq_false e4]; rfl
      refine ⟨by rw [za_x16]; exact vp_in_nI (by omega) (by decide), nm_r (e' := nI (T (16 * t + p))) (by rw [za_x16, nI_clamp (by omega)]; rfl) ?_⟩
      refine br_c (fun e => h98 x5 ?_) (fun e => h98 1 ?_)
      · have hb := (zb_test (by omega)).mp e
        rw [hx3 p q] at hb
        rw [g5, Bool.and_or_distrib_left, hb, Bool.or_false]
      · have hb : (decide (how = 2) && zb_w (zb_k KI T t) (LN t) p) = true := by
          cases hb : (decide (how = 2) && zb_w (zb_k KI T t) (LN t) p) with
          | true => rfl
          | false => exact absurd ((zb_test (by omega)).mpr (by rw [hx3 p q]; exact hb)) e
        rw [Bool.and_or_distrib_left, hb, Bool.or_true, if_pos rfl]
end
end
section
section
variable {cn : Nat} {rs nn : Int32} {O W LO UA KI F1 F2 F3 DI CA CB CT T LN : Nat → Nat} {E UB LA EA pA pB wt yB lo re yr fo fl ele els eb yl se pg yo : Nat → Int32}
theorem zy_add {post : SY → Prop} {c : Nat} {L : List Nat} {x : Int32} (hx : x = nI c) (hL : za_h yr 0 L) (hl : L.length < 64)
    (H : ∀ yr', za_h yr' 0 (L ++ [c]) → post ((nI cn), rs, (nI (L ++ [c]).length), (za_F O), (za_F W), pA, pB, (za_F LO), (za_F UA), UB, LA, (za_F KI), wt, EA, yB, (za_F DI), E, (za_F CA), (za_F CB), (za_F CT), lo, (za_F T), (za_F LN), re, yr', fo, fl, ele, els, eb, yl, se, pg, yo)) : wpY_add post ((nI cn), rs, (nI L.length), (za_F O), (za_F W), pA, pB, (za_F LO), (za_F UA), UB, LA, (za_F KI), wt, EA, yB, (za_F DI), E, (za_F CA), (za_F CB), (za_F CT), lo, (za_F T), (za_F LN), re, yr, fo, fl, ele, els, eb, yl, se, pg, yo) x := by
  refine ⟨vp_in_nI hl (by decide), nm_r (e' := upd yr (0 + L.length) (nI c)) (by rw [hx, nI_clamp (by omega), Nat.zero_add]) ?_⟩
  refine nm_r (e' := nI (L ++ [c]).length) (by rw [nI_1, List.length_append]; rfl) (H _ (za_h_snoc hL))
theorem zy_addUpper {post : SY → Prop} {c : Nat} {L : List Nat} {f : Bool} {z : Int32} (hz : z = if f = true then 1 else 0) (hc : c < 48) (h1 : ∀ x, x < 48 → LO x < 48) (h2 : ∀ x, x < 48 → UA x < 48) (h3 : ∀ x, x < 48 → za_o (UB x)) (hL : za_h yr 0 L) (hl : L.length < 62)
    (H : ∀ yr', za_h yr' 0 (L ++ zs_u LO UA UB f c) → post ((nI cn), rs, (nI (L ++ zs_u LO UA UB f c).length), (za_F O), (za_F W), pA, pB, (za_F LO), (za_F UA), UB, LA, (za_F KI), wt, EA, yB, (za_F DI), E, (za_F CA), (za_F CB), (za_F CT), lo, (za_F T), (za_F LN), re, yr', fo, fl, ele, els, eb, yl, se, pg, yo)) : wpY_addUpper post ((nI cn), rs, (nI L.length), (za_F O), (za_F W), pA, pB, (za_F LO), (za_F UA), UB, LA, (za_F KI), wt, EA, yB, (za_F DI), E, (za_F CA), (za_F CB), (za_F CT), lo, (za_F T), (za_F LN), re, yr, fo, fl, ele, els, eb, yl, se, pg, yo) (nI c) z := by
  have hvc : vp_in (nI c) 48 := vp_in_nI hc (by decide)
  have ec : (nI c).toNatClampNeg = c := nI_clamp (by omega)
  have ha := h2 c hc
  have hla := h1 _ ha
  have h25 : ∀ (y : Int32) (d : Nat), y = nI d → d = (if f = true then LO (UA c) else UA c) → wY_addUpper_25 post (nI c) z y (nI cn) rs (nI L.length) (za_F O) (za_F W) pA pB (za_F LO) (za_F UA) UB LA (za_F KI) wt EA yB (za_F DI) E (za_F CA) (za_F CB) (za_F CT) lo (za_F T) (za_F LN) re yr fo fl ele els eb yl se pg yo := by
    intro y d hy he
    refine zy_add hy hL (by omega) (fun yr1 g1 => ⟨hvc, ?_⟩)
    have el : (L ++ [d]).length = L.length + 1 := by simp
    rw [ec]
    by_cases g : UB c < 0
    · refine br_t g ?_
      have eu : zs_u LO UA UB f c = [d] := by unfold zs_u; rw [if_pos g, ← he]
      rw [eu] at H
      exact H yr1 g1
    · obtain ⟨b1, b2⟩ := zs_o (h3 c hc) g
      have eu : zs_u LO UA UB f c = [d, if f = true then LO (UB c).toNatClampNeg else (UB c).toNatClampNeg] := by
        unfold zs_u; rw [if_neg g, ← he]
      rw [eu] at H
      refine br_f g ?_
      cases f with
      | false =>
        refine br_t hz ⟨hvc, zy_add b2 g1 (by omega) (fun yr2 k1 => ?_)⟩
        rw [List.append_assoc] at k1 ⊢; exact H yr2 k1
      | true =>
        refine br_f (by rw [hz]; decide) ⟨hvc, by rw [b2]; exact vp_in_nI b1 (by decide), zy_add rfl g1 (by omega) (fun yr2 k1 => ?_)⟩
        rw [List.append_assoc] at k1 ⊢; exact H yr2 k1
  cases f with
  | false => exact br_t hz ⟨hvc, h25 _ (UA c) (by rw [ec]; rfl) rfl⟩
  | true => exact br_f (by rw [hz]; decide) ⟨hvc, by rw [ec]; exact vp_in_nI ha (by decide), h25 _ (LO (UA c)) (by rw [ec, za_Fa UA c, nI_clamp (by omega)]; rfl) rfl⟩
theorem zy_addLower {post : SY → Prop} {t p : Nat} {L : List Nat} (ht : t < 2) (hn : LN t ≤ 16) (hp : p < LN t) (hT : ∀ j, j < 32 → T j < 48) (hK : ∀ x, x < 48 → KI x < 8) (h1 : ∀ x, x < 48 → LO x < 48) (h4 : ∀ x, x < 48 → za_o (LA x)) (hL : za_h yr 0 L) (hl : L.length < 62)
    (H : ∀ yr', za_h yr' 0 (L ++ [zs_d LO LA (zb_L (zb_k KI T t) p && !(zb_R (zb_k KI T t) (LN t) (LN t - (p + 1)))) (T (16 * t + p))]) → post ((nI cn), rs, (nI (L ++ [zs_d LO LA (zb_L (zb_k KI T t) p && !(zb_R (zb_k KI T t) (LN t) (LN t - (p + 1)))) (T (16 * t + p))]).length), (za_F O), (za_F W), pA, pB, (za_F LO), (za_F UA), UB, LA, (za_F KI), wt, EA, yB, (za_F DI), E, (za_F CA), (za_F CB), (za_F CT), lo, (za_F T), (za_F LN), re, yr', fo, fl, ele, els, eb, yl, se, pg, yo)) : wpY_addLower post ((nI cn), rs, (nI L.length), (za_F O), (za_F W), pA, pB, (za_F LO), (za_F UA), UB, LA, (za_F KI), wt, EA, yB, (za_F DI), E, (za_F CA), (za_F CB), (za_F CT), lo, (za_F T), (za_F LN), re, yr, fo, fl, ele, els, eb, yl, se, pg, yo) (nI t) (nI p) := by
  have hc := hT (16 * t + p) (by omega)
  have ec : (nI (T (16 * t + p))).toNatClampNeg = T (16 * t + p) := nI_clamp (by omega)
  have hvc : vp_in (nI (T (16 * t + p))) 48 := vp_in_nI hc (by decide)
  refine ⟨by rw [za_x16]; exact vp_in_nI (by omega) (by decide), nm_r (e' := nI (T (16 * t + p))) (by rw [za_x16, nI_clamp (by omega)]; rfl) ⟨hvc, ?_⟩⟩
  have hlow : zs_d LO LA (zb_L (zb_k KI T t) p && !(zb_R (zb_k KI T t) (LN t) (LN t - (p + 1)))) (T (16 * t + p)) = LO (T (16 * t + p)) → wY_addLower_40 post (nI (T (16 * t + p))) (nI cn) rs (nI L.length) (za_F O) (za_F W) pA pB (za_F LO) (za_F UA) UB LA (za_F KI) wt EA yB (za_F DI) E (za_F CA) (za_F CB) (za_F CT) lo (za_F T) (za_F LN) re yr fo fl ele els eb yl se pg yo := by
    intro e
    rw [e] at H
    exact ⟨hvc, zy_add (by rw [ec]; rfl) hL (by omega) H⟩
  rw [ec]
  by_cases hla : LA (T (16 * t + p)) < 0
  · refine br_t hla (hlow ?_)
    unfold zs_d; rw [if_pos hla]
  · obtain ⟨b1, b2⟩ := zs_o (h4 _ hc) hla
    refine br_f hla (zy_isFinal ht hn hp hT hK (fun e => br_f (by decide) ⟨hvc, ?_⟩) (fun e => br_t rfl (hlow ?_)))
    · have e2 : zs_d LO LA (zb_L (zb_k KI T t) p && !(zb_R (zb_k KI T t) (LN t) (LN t - (p + 1)))) (T (16 * t + p)) = (LA (T (16 * t + p))).toNatClampNeg := by
        rw [e]; unfold zs_d; rw [if_neg hla, if_pos rfl]
      rw [e2] at H
      exact zy_add b2 hL (by omega) H
    · rw [e]; unfold zs_d; rw [if_neg hla]; rfl
theorem zy_cased28 {post : Int32 → SY → Prop} {t how : Nat} (ht : t < 2) (hh : how < 4) (hl : LN t ≤ 16) (hT : ∀ j, j < 32 → T j < 48) (hK : ∀ x, x < 48 → KI x < 8) (h1 : ∀ x, x < 48 → LO x < 48) (h2 : ∀ x, x < 48 → UA x < 48) (h3 : ∀ x, x < 48 → za_o (UB x)) (h4 : ∀ x, x < 48 → za_o (LA x))
    (H : ∀ re' yr', za_h re' 0 (zs_R LO UA KI T UB LA t (LN t) how (LN t)) → post (nI (zs_R LO UA KI T UB LA t (LN t) how (LN t)).length) ((nI cn), (nI (zs_R LO UA KI T UB LA t (LN t) how (LN t)).length), (nI (zs_R LO UA KI T UB LA t (LN t) how (LN t)).length), (za_F O), (za_F W), pA, pB, (za_F LO), (za_F UA), UB, LA, (za_F KI), wt, EA, yB, (za_F DI), E, (za_F CA), (za_F CB), (za_F CT), lo, (za_F T), (za_F LN), re', yr', fo, fl, ele, els, eb, yl, se, pg, yo)) :
    ∀ n p (x3 : Int32) (fg : Bool) (yr : Nat → Int32), LN t < n + p → p ≤ LN t → za_h yr 0 (zs_R LO UA KI T UB LA t (LN t) how p) → x3 = (if fg = true then 1 else 0) → (p < LN t → (fg || zb_w (zb_k KI T t) (LN t) p) = (zs_f (zb_k KI T t) (LN t) p || zb_w (zb_k KI T t) (LN t) p)) →
    wY_cased_28 post (nI t) (nI how) n x3 (nI p) (nI cn) rs (nI (zs_R LO UA KI T UB LA t (LN t) how p).length) (za_F O) (za_F W) pA pB (za_F LO) (za_F UA) UB LA (za_F KI) wt EA yB (za_F DI) E (za_F CA) (za_F CB) (za_F CT) lo (za_F T) (za_F LN) re yr fo fl ele els eb yl se pg yo := by
  have hvt : vp_in (nI t) 2 := vp_in_nI ht (by decide)
  have elen : za_F LN (nI t).toNatClampNeg = nI (LN t) := by rw [nI_clamp (by omega)]; rfl
  intro n
  induction n with
  | zero => intro p x3 fg yr g1 g2; omega
  | succ n ih =>
    intro p x3 fg yr g1 g2 g3 g4 g5
    refine ⟨hvt, pk_le (LN t) p (fun q => ?_) (fun q => ?_) elen rfl⟩
    · have : p = LN t := by omega
      subst this
      have hlR := (zs_R_lt (KI := KI) (n := LN t) (how := how) hT ht h1 h2 h3 h4 (LN t) (by omega)).2
      exact zy_give g3 (by omega) (fun re' k => H re' yr k)
    · have hc := hT (16 * t + p) (by omega)
      have hlR := (zs_R_lt (KI := KI) (n := LN t) (how := how) hT ht h1 h2 h3 h4 p (by omega)).2
      have kp : zb_k KI T t p < 8 := hK _ hc
      have ec : (nI (T (16 * t + p))).toNatClampNeg = T (16 * t + p) := nI_clamp (by omega)
      have hvc : vp_in (nI (T (16 * t + p))) 48 := vp_in_nI hc (by decide)
      have g5 := g5 q
      -- with the flag after the look at the break
      have h65 : ∀ x3' : Int32, x3' = (if (zs_f (zb_k KI T t) (LN t) p || zb_w (zb_k KI T t) (LN t) p) = true then 1 else 0) → wY_cased_65 post (wY_cased_28 post (nI t) (nI how) n) (nI t) (nI how) x3' (nI p) (nI (T (16 * t + p))) (nI cn) rs (nI (zs_R LO UA KI T UB LA t (LN t) how p).length) (za_F O) (za_F W) pA pB (za_F LO) (za_F UA) UB LA (za_F KI) wt EA yB (za_F DI) E (za_F CA) (za_F CB) (za_F CT) lo (za_F T) (za_F LN) re yr fo fl ele els eb yl se pg yo := by
        intro x3' hx3
        have hnx : ∀ (y : Int32) (yr2 : Nat → Int32), za_h yr2 0 (zs_R LO UA KI T UB LA t (LN t) how p ++ zs_x LO UA KI T UB LA t (LN t) how p) → y = (if zs_f (zb_k KI T t) (LN t) (p + 1) = true then 1 else 0) → wY_cased_28 post (nI t) (nI how) n y (nI (p + 1)) (nI cn) rs (nI (zs_R LO UA KI T UB LA t (LN t) how p ++ zs_x LO UA KI T UB LA t (LN t) how p).length) (za_F O) (za_F W) pA pB (za_F LO) (za_F UA) UB LA (za_F KI) wt EA yB (za_F DI) E (za_F CA) (za_F CB) (za_F CT) lo (za_F T) (za_F LN) re yr2 fo fl ele els eb yl se pg yo :=
          fun y yr2 k1 k2 => ih (p + 1) y _ yr2 (by omega) (by omega) k1 k2 (fun _ => rfl)
        have h94 : ∀ (y z : Int32), y = (if zs_f (zb_k KI T t) (LN t) (p + 1) = true then 1 else 0) → z = (if ((zs_f (zb_k KI T t) (LN t) p || zb_w (zb_k KI T t) (LN t) p) && decide (zb_k KI T t p = 4)) = true then 1 else 0) → wY_cased_94 post (wY_cased_28 post (nI t) (nI how) n) (nI t) (nI how) y (nI p) (nI (T (16 * t + p))) z (nI cn) rs (nI (zs_R LO UA KI T UB LA t (LN t) how p).length) (za_F O) (za_F W) pA pB (za_F LO) (za_F UA) UB LA (za_F KI) wt EA yB (za_F DI) E (za_F CA) (za_F CB) (za_F CT) lo (za_F T) (za_F LN) re yr fo fl ele els eb yl se pg yo := by
          intro y z hy hz
          have hup : zs_p (zb_k KI T t) (LN t) how p = true → wY_cased_114 post (wY_cased_28 post (nI t) (nI how) n) (nI t) (nI how) y (nI p) (nI (T (16 * t + p))) (nI cn) rs (nI (zs_R LO UA KI T UB LA t (LN t) how p).length) (za_F O) (za_F W) pA pB (za_F LO) (za_F UA) UB LA (za_F KI) wt EA yB (za_F DI) E (za_F CA) (za_F CB) (za_F CT) lo (za_F T) (za_F LN) re yr fo fl ele els eb yl se pg yo := by
            intro hp
            have ex : zs_x LO UA KI T UB LA t (LN t) how p = zs_u LO UA UB (decide (how = 3)) (T (16 * t + p)) := by unfold zs_x; rw [if_pos hp]
            have h127 : ∀ w : Int32, w = (if (decide (how = 3)) = true then 1 else 0) → wY_cased_127 post (wY_cased_28 post (nI t) (nI how) n) (nI t) (nI how) y (nI p) w (nI (T (16 * t + p))) (nI cn) rs (nI (zs_R LO UA KI T UB LA t (LN t) how p).length) (za_F O) (za_F W) pA pB (za_F LO) (za_F UA) UB LA (za_F KI) wt EA yB (za_F DI) E (za_F CA) (za_F CB) (za_F CT) lo (za_F T) (za_F LN) re yr fo fl ele els eb yl se pg yo := by
              intro w hw
              rw [ex] at hnx
              exact zy_addUpper hw hc h1 h2 h3 g3 (by omega) (fun yr2 k1 => nm_r (nI_1 p) (hnx y yr2 k1 hy))
            refine pk_eq how 3 (fun e => h127 1 ?_) (fun e => h127 0 ?_)
            · rw [decide_eq_true e]; rfl
            · rw [decide_eq_false e]; rfl
          have hdn : zs_p (zb_k KI T t) (LN t) how p = false → wY_cased_133 post (wY_cased_28 post (nI t) (nI how) n) (nI t) (nI how) y (nI p) (nI cn) rs (nI (zs_R LO UA KI T UB LA t (LN t) how p).length) (za_F O) (za_F W) pA pB (za_F LO) (za_F UA) UB LA (za_F KI) wt EA yB (za_F DI) E (za_F CA) (za_F CB) (za_F CT) lo (za_F T) (za_F LN) re yr fo fl ele els eb yl se pg yo := by
            intro hp
            have ex : zs_x LO UA KI T UB LA t (LN t) how p = [zs_d LO LA (zb_L (zb_k KI T t) p && !(zb_R (zb_k KI T t) (LN t) (LN t - (p + 1)))) (T (16 * t + p))] := by unfold zs_x; rw [if_neg (by rw [hp]; decide)]
            rw [ex] at hnx
            exact zy_addLower ht hl q hT hK h1 h4 g3 (by omega) (fun yr2 k1 => nm_r (nI_1 p) (hnx y yr2 k1 hy))
          refine pk_eq how 1 (fun e => hup ?_) (fun e => pk_eq how 3 (fun e2 => hup ?_) (fun e2 => ?_))
          · unfold zs_p; rw [decide_eq_true (Or.inl e)]; rfl
          · unfold zs_p; rw [decide_eq_true (Or.inr e2)]; rfl
          · have hpe : zs_p (zb_k KI T t) (LN t) how p = (decide (how = 2) && ((zs_f (zb_k KI T t) (LN t) p || zb_w (zb_k KI T t) (LN t) p) && decide (zb_k KI T t p = 4))) := by
              unfold zs_p; rw [decide_eq_false (show ¬ (how = 1 ∨ how = 3) by omega), Bool.false_or]
            refine pk_eq how 2 (fun e3 => ?_) (fun e3 => hdn (by rw [hpe, decide_eq_false e3]; rfl))
            rw [decide_eq_true e3, Bool.true_and] at hpe
            rw [← hpe] at hz
            cases hb : zs_p (zb_k KI T t) (LN t) how p with
            | true =>
              rw [hb, if_pos rfl] at hz
              exact br_f (by rw [hz]; decide) (hup hb)
            | false =>
              rw [hb, if_neg (by decide)] at hz
              exact br_t hz (hdn hb)
        have hf1 : zs_f (zb_k KI T t) (LN t) (p + 1) = ((zs_f (zb_k KI T t) (LN t) p || zb_w (zb_k KI T t) (LN t) p) && !(decide (zb_k KI T t p = 4))) := rfl
        have h84 : (zs_f (zb_k KI T t) (LN t) p || zb_w (zb_k KI T t) (LN t) p) = false ∨ zb_k KI T t p ≠ 4 → wY_cased_84 post (wY_cased_28 post (nI t) (nI how) n) (nI t) (nI how) x3' (nI p) (nI (T (16 * t + p))) (nI cn) rs (nI (zs_R LO UA KI T UB LA t (LN t) how p).length) (za_F O) (za_F W) pA pB (za_F LO) (za_F UA) UB LA (za_F KI) wt EA yB (za_F DI) E (za_F CA) (za_F CB) (za_F CT) lo (za_F T) (za_F LN) re yr fo fl ele els eb yl se pg yo := by
          intro ho
          refine br_t rfl (h94 x3' 0 ?_ ?_)
          · rw [hx3, hf1]
            rcases ho with ho | ho
            · rw [ho]; rfl
            · rw [decide_eq_false ho, Bool.not_false, Bool.and_true]
          · rcases ho with ho | ho
            · rw [ho]; rfl
            · rw [decide_eq_false ho, Bool.and_false]; rfl
        cases hb : (zs_f (zb_k KI T t) (LN t) p || zb_w (zb_k KI T t) (LN t) p) with
        | false =>
          have hx3' := hx3
          rw [hb, if_neg (by decide)] at hx3'
          exact br_t hx3' (h84 (Or.inl hb))
        | true =>
          have hx3' := hx3
          rw [hb, if_pos rfl] at hx3'
          refine br_f (by rw [hx3']; decide) ⟨hvc, ?_⟩
          refine pk_eq (zb_k KI T t p) 4 (fun e4 => ?_) (fun e4 => h84 (Or.inr e4)) (by rw [ec]; rfl) rfl
          refine br_f (by decide) (h94 0 1 ?_ ?_)
          · rw [hf1, hb, decide_eq_true e4]; rfl
          · rw [hb, decide_eq_true e4]; rfl
      refine ⟨by rw [za_x16]; exact vp_in_nI (by omega) (by decide), nm_r (e' := nI (T (16 * t + p))) (by rw [za_x16, nI_clamp (by omega)]; rfl) ?_⟩
      refine zy_wordBreak ht hl (by omega) hT hK (fun e => br_f (by decide) (h65 1 ?_)) (fun e => br_t rfl (h65 x3 ?_))
      · rw [e, Bool.or_true, if_pos rfl]
      · rw [← g5, e, Bool.or_false]; exact g4
end
section
variable {cn : Nat} {rg rs nn : Int32} {O W LO UA KI F1 F2 F3 DI CA CB CT T LN : Nat → Nat} {E UB LA EA dA dB eB fu fz pr wh ro sz em hg lv bh rl rr rv ou nx sl pA pB wt yB lo re yr fo fl ele els eb yl se pg yo : Nat → Int32}
variable {A B : Nat → Nat} {R : List Nat} {k : Nat}
theorem zv_cased (hS : zr_St cn O W LO UA KI F1 F2 F3 DI CA CB CT T LN E UB LA EA dA dB eB fu fz pr wh pA pB wt yB A B) (hR : zr_R R ro sz re rs) (v1 v2 : Int32) : wpX_cased (fun r u' => wpY_cased (fun r' v' => r' = r ∧ i_Rel (k + 5) u' v') ((nI cn), rs, nn, (za_F O), (za_F W), pA, pB, (za_F LO), (za_F UA), UB, LA, (za_F KI), wt, EA, yB, (za_F DI), E, (za_F CA), (za_F CB), (za_F CT), lo, (za_F T), (za_F LN), re, yr, fo, fl, ele, els, eb, yl, se, pg, yo) v1 v2) ((nI cn), rg, (za_F O), (za_F W), dA, dB, E, (za_F LO), (za_F UA), UB, LA, (za_F KI), (za_F F1), (za_F F2), (za_F F3), (za_F DI), EA, eB, (za_F CA), (za_F CB), (za_F CT), fu, fz, pr, wh, (za_F T), (za_F LN), ro, sz, em, hg, lv, bh, rl, rr, rv, ou, nx, sl) v1 v2 := by
  have hI : (-1 : Int32) = -1 ∧ i_Rel (k + 5) ((nI cn), rg, (za_F O), (za_F W), dA, dB, E, (za_F LO), (za_F UA), UB, LA, (za_F KI), (za_F F1), (za_F F2), (za_F F3), (za_F DI), EA, eB, (za_F CA), (za_F CB), (za_F CT), fu, fz, pr, wh, (za_F T), (za_F LN), ro, sz, em, hg, lv, bh, rl, rr, rv, ou, nx, sl) ((nI cn), rs, nn, (za_F O), (za_F W), pA, pB, (za_F LO), (za_F UA), UB, LA, (za_F KI), wt, EA, yB, (za_F DI), E, (za_F CA), (za_F CB), (za_F CT), lo, (za_F T), (za_F LN), re, yr, fo, fl, ele, els, eb, yl, se, pg, yo) := ⟨rfl, zr_in hS hR⟩
  unfold wpX_cased
  dsimp only
  rcases zr_text v1 with ⟨t, ht, rfl⟩ | hn
  · refine zx_isText_t ht (br_f (by decide) ?_)
    have hl := zr_LN hS t ht
    rcases zr_rng v2 (n := 4) (by decide) with ⟨w, hw, rfl⟩ | hneg | ⟨hnn, w, hw, hw2, rfl⟩
    · have hY : ∀ (p : Int32 → SY → Prop), (∀ re' yr', za_h re' 0 (zs_R LO UA KI T UB LA t (LN t) w (LN t)) → p (nI (zs_R LO UA KI T UB LA t (LN t) w (LN t)).length) ((nI cn), (nI (zs_R LO UA KI T UB LA t (LN t) w (LN t)).length), (nI (zs_R LO UA KI T UB LA t (LN t) w (LN t)).length), (za_F O), (za_F W), pA, pB, (za_F LO), (za_F UA), UB, LA, (za_F KI), wt, EA, yB, (za_F DI), E, (za_F CA), (za_F CB), (za_F CT), lo, (za_F T), (za_F LN), re', yr', fo, fl, ele, els, eb, yl, se, pg, yo)) → wpY_cased p ((nI cn), rs, nn, (za_F O), (za_F W), pA, pB, (za_F LO), (za_F UA), UB, LA, (za_F KI), wt, EA, yB, (za_F DI), E, (za_F CA), (za_F CB), (za_F CT), lo, (za_F T), (za_F LN), re, yr, fo, fl, ele, els, eb, yl, se, pg, yo) (nI t) (nI w) := by
        intro p hp
        unfold wpY_cased
        dsimp only
        refine zy_isText_t ht (br_f (by decide) (zy_in_t (a := 0) (b := 3) (Nat.zero_le _) (by omega) (by decide) (br_f (by decide) ⟨LN t + 1, ?_⟩)))
        refine zy_cased28 ht hw hl (zr_Tx hS) (zr_KI hS) (zr_LO hS) (zr_UA hS) (zr_UB hS) (zr_LA hS) hp (LN t + 1) 0 1 true yr (by omega) (by omega) trivial rfl (fun h0 => ?_)
        have : zb_w (zb_k KI T t) (LN t) 0 = true := by unfold zb_w; rw [if_pos (Or.inl rfl)]; exact decide_eq_true h0
        rw [this, Bool.or_true, Bool.or_true]
      have hlt := zs_R_lt (KI := KI) (n := LN t) (how := w) (zr_Tx hS) ht (zr_LO hS) (zr_UA hS) (zr_UB hS) (zr_LA hS) (LN t) hl
      have h32 : ∀ (z : Int32) (ro' : Nat → Int32), zx_rf 3 ro ro' sz sz → (∀ i, i < LN t → bt z i = (decide (w = 2) && zb_w (zb_k KI T t) (LN t) i)) → wX_cased_32 (fun r u' => wpY_cased (fun r' v' => r' = r ∧ i_Rel (k + 5) u' v') ((nI cn), rs, nn, (za_F O), (za_F W), pA, pB, (za_F LO), (za_F UA), UB, LA, (za_F KI), wt, EA, yB, (za_F DI), E, (za_F CA), (za_F CB), (za_F CT), lo, (za_F T), (za_F LN), re, yr, fo, fl, ele, els, eb, yl, se, pg, yo) (nI t) (nI w)) (nI t) (nI w) z (nI cn) rg (za_F O) (za_F W) dA dB E (za_F LO) (za_F UA) UB LA (za_F KI) (za_F F1) (za_F F2) (za_F F3) (za_F DI) EA eB (za_F CA) (za_F CB) (za_F CT) fu fz pr wh (za_F T) (za_F LN) ro' sz em hg lv bh rl rr rv ou nx sl := by
        intro z ro' hrf hz
        refine zx_behind ht hl (zr_Tx hS) (zr_KI hS) (fun f1 hf1 => zx_before ht hl (zr_Tx hS) (zr_KI hS) (fun f2 hf2 => ?_))
        refine nm_e (nm_r (e' := upd sz 2 (nI 0)) (congrArg (upd sz 2) (za_nb (v := 0) (by omega))) ⟨LN t + 1, ?_⟩)
        refine zx_cased61 ht hw hl (zr_Tx hS) (zr_KI hS) (zr_LO hS) (zr_UA hS) (zr_UB hS) (zr_LA hS) hz (fun i hi => ?_) (fun ro2 sz2 k1 k2 => ?_) (LN t + 1) 0 0 ro' _ (by omega) (by omega) ⟨trivial, pk_us⟩ zx_rf_r ?_
        · rw [b_and, b_xor, hf1 i (by omega), hf2 i (by omega), b_m1 i (by omega), decide_eq_true hi, Bool.true_and, Bool.true_and, Bool.xor_true]
        · refine hY _ (fun re' yr' k3 => ⟨rfl, zr_in hS ⟨k1, k3, rfl, by omega, hlt.1⟩⟩)
        · show (0 : Int32) = if (decide (w = 2) && false) = true then 1 else 0
          rw [Bool.and_false]; rfl
      refine br_f (nI_pos (by omega)) (pk_le w 3 (fun _ => ?_) (fun h => by omega))
      refine pk_eq w 2 (fun e => ?_) (fun e => ?_)
      · refine zx_words ht hl (zr_Tx hS) (zr_KI hS) (fun v ro' hrf hv => h32 v ro' hrf (fun i hi => ?_))
        rw [hv i (by omega), decide_eq_true (show i ≤ LN t by omega), decide_eq_true e]
      · refine h32 0 ro zx_rf_r (fun i hi => ?_)
        rw [b_0, decide_eq_false e]; rfl
    · refine br_t hneg ?_
      unfold wpY_cased
      dsimp only
      exact zy_isText_t ht (br_f (by decide) (zy_in_l hneg (br_t rfl hI)))
    · refine br_f hnn (pk_le w 3 (fun h => by omega) (fun h => ?_))
      unfold wpY_cased
      dsimp only
      exact zy_isText_t ht (br_f (by decide) (zy_in_g (nI_lt (a := 3) (b := w) h hw2) (br_t rfl hI)))
  · refine zx_isText_f hn (br_t rfl ?_)
    unfold wpY_cased
    dsimp only
    exact zy_isText_f hn (br_t rfl hI)
end
end
section
/-! sorting: elements, weights, comparison -/
def zw_x (EA eB : Nat → Int32) (c : Nat) : List Nat := if EA c < 0 then [c] else [(EA c).toNatClampNeg, (eB c).toNatClampNeg]
def zw_e (cn : Nat) (CA CB CT : Nat → Nat) (EA eB : Nat → Int32) : List Nat → List Nat
  | [] => []
  | [c] => zw_x EA eB c
  | c :: d :: r => if zq_k CA CB c d cn ≠ 0 then CT (zq_k CA CB c d cn - 1) :: zw_e cn CA CB CT EA eB r else zw_x EA eB c ++ zw_e cn CA CB CT EA eB (d :: r)
def zw_w (F1 F2 F3 : Nat → Nat) (l c : Nat) : Nat := if l = 1 then F1 c else if l = 2 then F2 c else F3 c
def zw_f (w : Nat → Nat) : List Nat → List Nat
  | [] => []
  | e :: r => if w e = 0 then zw_f w r else w e :: zw_f w r
def zw_c : List Nat → List Nat → Int32
  | [], [] => 0
  | [], _ :: _ => -1
  | _ :: _, [] => 1
  | x :: xs, y :: ys => if x = y then zw_c xs ys else if x < y then -1 else 1
def zw_l (c1 c2 c3 c4 : Int32) (level : Nat) : Int32 :=
  if c1 ≠ 0 then c1 else if level = 1 then 0 else if c2 ≠ 0 then c2 else if level = 2 then 0 else if c3 ≠ 0 then c3 else if level = 3 then 0 else c4
/-- what is said of expansions: X's side -/
def zw_E (EA eB : Nat → Int32) : Prop := ∀ c, c < 48 → EA c = -1 ∨ ∃ x y, x < 48 ∧ y < 48 ∧ EA c = nI x ∧ eB c = nI y
theorem zw_x_lt {EA eB : Nat → Int32} (h : zw_E EA eB) {c : Nat} (hc : c < 48) : (∀ x ∈ zw_x EA eB c, x < 48) ∧ (zw_x EA eB c).length ≤ 2 := by
  unfold zw_x
  rcases h c hc with e | ⟨x, y, hx, hy, e1, e2⟩
  · rw [if_pos (by rw [e]; decide)]
    exact ⟨fun z hz => by simp at hz; omega, by simp⟩
  · rw [e1, if_neg (nI_pos (by omega)), e2, nI_clamp (by omega), nI_clamp (by omega)]
    refine ⟨fun z hz => ?_, by simp⟩
    simp only [List.mem_cons, List.not_mem_nil, or_false] at hz
    omega
theorem zw_e_lt {cn : Nat} {CA CB CT : Nat → Nat} {EA eB : Nat → Int32} (hcn : cn ≤ 6) (hC : ∀ j, j < 6 → CA j < 48 ∧ CB j < 48 ∧ CT j < 48) (h : zw_E EA eB) :
    ∀ (L : List Nat), (∀ x ∈ L, x < 48) → (∀ x ∈ zw_e cn CA CB CT EA eB L, x < 48) ∧ (zw_e cn CA CB CT EA eB L).length ≤ 2 * L.length
  | [], _ => ⟨fun x hx => by simp [zw_e] at hx, by simp [zw_e]⟩
  | [c], hL => by
    have hx := zw_x_lt h (hL c (by simp))
    exact ⟨hx.1, hx.2⟩
  | c :: d :: r, hL => by
    have hx := zw_x_lt h (hL c (by simp))
    have h1 := zw_e_lt hcn hC h r (fun x hx => hL x (by simp [hx]))
    have h2 := zw_e_lt hcn hC h (d :: r) (fun x hx => hL x (List.mem_cons_of_mem _ hx))
    have hq := zq_le (CA := CA) (CB := CB) (a := c) (b := d) cn
    rw [zw_e]
    split
    · rename_i g
      have hct := (hC (zq_k CA CB c d cn - 1) (by omega)).2.2
      refine ⟨fun x hm => ?_, by simp only [List.length_cons]; omega⟩
      rcases List.mem_cons.mp hm with e | e
      · omega
      · exact h1.1 x e
    · refine ⟨fun x hm => ?_, ?_⟩
      · rcases List.mem_append.mp hm with e | e
        · exact hx.1 x e
        · exact h2.1 x e
      · rw [List.length_append]
        have := h2.2
        have := hx.2
        simp only [List.length_cons] at *
        omega
/-- a reader of a row: what it is still to give -/
def zw_rd (cn : Nat) (CA CB CT : Nat → Nat) (EA eB nx sl : Nat → Int32) (r : Nat) (L rem : List Nat) : Prop :=
  ∃ P Q, L = P ++ Q ∧ nx r = nI P.length ∧ ((sl r = -1 ∧ rem = zw_e cn CA CB CT EA eB Q) ∨ ∃ b, b < 48 ∧ sl r = nI b ∧ rem = b :: zw_e cn CA CB CT EA eB Q)
def zw_rf (r : Nat) (nx nx' sl sl' : Nat → Int32) : Prop := (∀ j, j ≠ r → nx' j = nx j) ∧ ∀ j, j ≠ r → sl' j = sl j
theorem zw_rf_r {r : Nat} {nx sl : Nat → Int32} : zw_rf r nx nx sl sl := ⟨fun _ _ => rfl, fun _ _ => rfl⟩
theorem zw_rf_t {r : Nat} {nx nx' nx'' sl sl' sl'' : Nat → Int32} (h : zw_rf r nx nx' sl sl') (g : zw_rf r nx' nx'' sl' sl'') : zw_rf r nx nx'' sl sl'' :=
  ⟨fun j hj => by rw [g.1 j hj, h.1 j hj], fun j hj => by rw [g.2 j hj, h.2 j hj]⟩
theorem zw_rd_k {cn : Nat} {CA CB CT : Nat → Nat} {EA eB nx sl nx' sl' : Nat → Int32} {r q : Nat} {L rem : List Nat} (h : zw_rf r nx nx' sl sl') (hq : q ≠ r) (g : zw_rd cn CA CB CT EA eB nx sl q L rem) : zw_rd cn CA CB CT EA eB nx' sl' q L rem := by
  obtain ⟨P, Q, e1, e2, e3⟩ := g
  refine ⟨P, Q, e1, by rw [h.1 q hq]; exact e2, ?_⟩
  rw [h.2 q hq]; exact e3
section
variable {cn : Nat} {rg : Int32} {O W LO UA KI F1 F2 F3 DI CA CB CT T LN : Nat → Nat} {E UB LA EA dA dB eB fu fz pr wh ro sz em hg lv bh rl rr rv ou nx sl : Nat → Int32}
theorem zx_weight {post : Int32 → Prop} {c l : Nat} (hc : c < 48) (hl : l < 4) (hl0 : 0 < l) (H : post (nI (zw_w F1 F2 F3 l c))) : wpX_weight post ((nI cn), rg, (za_F O), (za_F W), dA, dB, E, (za_F LO), (za_F UA), UB, LA, (za_F KI), (za_F F1), (za_F F2), (za_F F3), (za_F DI), EA, eB, (za_F CA), (za_F CB), (za_F CT), fu, fz, pr, wh, (za_F T), (za_F LN), ro, sz, em, hg, lv, bh, rl, rr, rv, ou, nx, sl) (nI c) (nI l) := by
  have hvc : vp_in (nI c) 48 := vp_in_nI hc (by decide)
  have ec : (nI c).toNatClampNeg = c := nI_clamp (by omega)
  unfold zw_w at H
  refine pk_eq l 1 (fun e => ⟨hvc, ?_⟩) (fun e => pk_eq l 2 (fun e2 => ⟨hvc, ?_⟩) (fun e2 => ⟨hvc, ?_⟩))
  · rw [ec]; rw [if_pos e] at H; exact H
  · rw [ec]; rw [if_neg e, if_pos e2] at H; exact H
  · rw [ec]; rw [if_neg e, if_neg e2] at H; exact H
theorem zx_reset {post : SX → Prop} {r : Nat} {L : List Nat} (hr : r < 2)
    (H : ∀ nx' sl', zw_rd cn CA CB CT EA eB nx' sl' r L (zw_e cn CA CB CT EA eB L) → zw_rf r nx nx' sl sl' → post ((nI cn), rg, (za_F O), (za_F W), dA, dB, E, (za_F LO), (za_F UA), UB, LA, (za_F KI), (za_F F1), (za_F F2), (za_F F3), (za_F DI), EA, eB, (za_F CA), (za_F CB), (za_F CT), fu, fz, pr, wh, (za_F T), (za_F LN), ro, sz, em, hg, lv, bh, rl, rr, rv, ou, nx', sl')) : wpX_reset post ((nI cn), rg, (za_F O), (za_F W), dA, dB, E, (za_F LO), (za_F UA), UB, LA, (za_F KI), (za_F F1), (za_F F2), (za_F F3), (za_F DI), EA, eB, (za_F CA), (za_F CB), (za_F CT), fu, fz, pr, wh, (za_F T), (za_F LN), ro, sz, em, hg, lv, bh, rl, rr, rv, ou, nx, sl) (nI r) := by
  have hv : vp_in (nI r) 2 := vp_in_nI hr (by decide)
  have er : (nI r).toNatClampNeg = r := nI_clamp (by omega)
  refine ⟨hv, nm_r (e' := upd nx r (nI 0)) (by rw [er]; exact congrArg (upd nx r) (za_nb (v := 0) (by omega))) ⟨hv, nm_r (e' := upd sl r (-1)) (by rw [er, za_nbm]) ?_⟩⟩
  exact H _ _ ⟨[], L, rfl, pk_us, Or.inl ⟨pk_us, rfl⟩⟩ ⟨fun j hj => pk_un hj, fun j hj => pk_un hj⟩
theorem zx_element {post : Int32 → SX → Prop} {r : Nat} {L rem : List Nat} (hr : r < 2) (hcn : cn ≤ 6) (hC : ∀ j, j < 6 → CA j < 48 ∧ CB j < 48 ∧ CT j < 48) (hE : zw_E EA eB) (hL : zx_row ro sz r L) (hl : L.length ≤ 64) (hL2 : ∀ x ∈ L, x < 48)
    (hR : zw_rd cn CA CB CT EA eB nx sl r L rem)
    (H0 : rem = [] → ∀ nx' sl', zw_rd cn CA CB CT EA eB nx' sl' r L [] → zw_rf r nx nx' sl sl' → post (-1) ((nI cn), rg, (za_F O), (za_F W), dA, dB, E, (za_F LO), (za_F UA), UB, LA, (za_F KI), (za_F F1), (za_F F2), (za_F F3), (za_F DI), EA, eB, (za_F CA), (za_F CB), (za_F CT), fu, fz, pr, wh, (za_F T), (za_F LN), ro, sz, em, hg, lv, bh, rl, rr, rv, ou, nx', sl'))
    (H1 : ∀ e rem', rem = e :: rem' → e < 48 → ∀ nx' sl', zw_rd cn CA CB CT EA eB nx' sl' r L rem' → zw_rf r nx nx' sl sl' → post (nI e) ((nI cn), rg, (za_F O), (za_F W), dA, dB, E, (za_F LO), (za_F UA), UB, LA, (za_F KI), (za_F F1), (za_F F2), (za_F F3), (za_F DI), EA, eB, (za_F CA), (za_F CB), (za_F CT), fu, fz, pr, wh, (za_F T), (za_F LN), ro, sz, em, hg, lv, bh, rl, rr, rv, ou, nx', sl')) : wpX_element post ((nI cn), rg, (za_F O), (za_F W), dA, dB, E, (za_F LO), (za_F UA), UB, LA, (za_F KI), (za_F F1), (za_F F2), (za_F F3), (za_F DI), EA, eB, (za_F CA), (za_F CB), (za_F CT), fu, fz, pr, wh, (za_F T), (za_F LN), ro, sz, em, hg, lv, bh, rl, rr, rv, ou, nx, sl) (nI r) := by
  have hv : vp_in (nI r) 2 := vp_in_nI hr (by decide)
  have hv4 : vp_in (nI r) 4 := vp_in_nI (by omega) (by decide)
  have er : (nI r).toNatClampNeg = r := nI_clamp (by omega)
  obtain ⟨P, Q, eL, eN, eS⟩ := hR
  have hPQ : P.length + Q.length = L.length := by rw [eL, List.length_append]
  refine ⟨hv, nm_r (e' := sl r) (by rw [er]) ⟨hv, nm_r (e' := upd sl r (-1)) (by rw [er, za_nbm]) ?_⟩⟩
  have hf1 : zw_rf r nx nx sl (upd sl r (-1)) := ⟨fun _ _ => rfl, fun j hj => pk_un hj⟩
  rcases eS with ⟨s1, s2⟩ | ⟨b, hb, s1, s2⟩
  · rw [s1]
    refine br_f (by decide) ⟨hv, hv4, ?_⟩
    have hq : ∀ x ∈ Q, x < 48 := fun x hx => hL2 x (by rw [eL]; simp [hx])
    have en : nx (nI r).toNatClampNeg = nI P.length := by rw [er]; exact eN
    have es : sz (nI r).toNatClampNeg = nI L.length := by rw [er]; exact hL.2
    refine pk_lt P.length L.length (fun g => ⟨hv, hv, ?_⟩) (fun g => ?_) en es
    · cases Q with
      | nil => rw [List.length_nil] at hPQ; omega
      | cons c Q' =>
        rw [List.length_cons] at hPQ
        have hc : c < 48 := hq c (by simp)
        have hvc : vp_in (nI c) 48 := vp_in_nI hc (by decide)
        have ec : (nI c).toNatClampNeg = c := nI_clamp (by omega)
        have hrow := hL.1
        rw [eL, za_h_app] at hrow
        refine nm_r (e' := upd nx r (nI (P.length + 1))) (by rw [en, er, nI_1, za_nb2 (by omega)]) ?_
        refine nm_r (e' := nI (64 * r + P.length)) (by rw [en, za_x64]) ⟨vp_in_nI (by omega) (by decide), ?_⟩
        refine nm_r (e' := nI c) (by rw [nI_clamp (by omega)]; exact hrow.2.1) ⟨hv, hv4, ?_⟩
        have hf2 : zw_rf r nx (upd nx r (nI (P.length + 1))) sl (upd sl r (-1)) := ⟨fun j hj => pk_un hj, fun j hj => pk_un hj⟩
        have en2 : upd nx r (nI (P.length + 1)) (nI r).toNatClampNeg = nI (P.length + 1) := by rw [er, pk_us]
        -- no contraction
        have hno : (∀ rest, zw_e cn CA CB CT EA eB (c :: Q') = zw_x EA eB c ++ rest → rest = zw_e cn CA CB CT EA eB Q' → True) → rem = zw_x EA eB c ++ zw_e cn CA CB CT EA eB Q' → ∀ z : Int32, z < 0 → wX_element_92 post (nI r) (nI c) z (nI cn) rg (za_F O) (za_F W) dA dB E (za_F LO) (za_F UA) UB LA (za_F KI) (za_F F1) (za_F F2) (za_F F3) (za_F DI) EA eB (za_F CA) (za_F CB) (za_F CT) fu fz pr wh (za_F T) (za_F LN) ro sz em hg lv bh rl rr rv ou (upd nx r (nI (P.length + 1))) (upd sl r (-1)) := by
          intro _ hrem z hz
          refine br_t hz ⟨hvc, ?_⟩
          rw [ec]
          have hrd : ∀ sl', sl' r = -1 → zw_rd cn CA CB CT EA eB (upd nx r (nI (P.length + 1))) sl' r L (zw_e cn CA CB CT EA eB Q') := by
            intro sl' h
            exact ⟨P ++ [c], Q', by rw [eL, List.append_assoc]; rfl, by rw [pk_us, List.length_append]; rfl, Or.inl ⟨h, rfl⟩⟩
          rcases hE c hc with e | ⟨x, y, hx, hy, e1, e2⟩
          · refine br_f (by rw [e]; decide) ?_
            have ex : zw_x EA eB c = [c] := by unfold zw_x; rw [if_pos (by rw [e]; decide)]
            rw [ex] at hrem
            exact H1 c _ hrem hc _ _ (hrd _ pk_us) hf2
          · have ex : zw_x EA eB c = [x, y] := by
              unfold zw_x; rw [e1, if_neg (nI_pos (by omega)), e2, nI_clamp (by omega), nI_clamp (by omega)]
            rw [ex] at hrem
            refine br_t (by rw [e1]; exact nI_pos' (by omega)) ⟨hvc, hv, nm_r (e' := upd (upd sl r (-1)) r (nI y)) (by rw [er, e2, za_nb (by omega)]) ⟨hvc, ?_⟩⟩
            rw [e1]
            refine H1 x (y :: zw_e cn CA CB CT EA eB Q') hrem hx _ _ ⟨P ++ [c], Q', by rw [eL, List.append_assoc]; rfl, by rw [pk_us, List.length_append]; rfl, Or.inr ⟨y, hy, pk_us, rfl⟩⟩ ⟨fun j hj => pk_un hj, fun j hj => by rw [pk_un hj, pk_un hj]⟩
        refine pk_le L.length (P.length + 1) (fun g2 => ?_) (fun g2 => ?_) es en2
        · have eQ : Q' = [] := List.length_eq_zero_iff.mp (by omega)
          subst eQ
          refine hno (fun _ _ _ => trivial) ?_ (-1) (by decide)
          rw [s2]; show zw_x EA eB c = zw_x EA eB c ++ []
          rw [List.append_nil]
        · cases Q' with
          | nil => rw [List.length_nil] at hPQ; omega
          | cons d Q2 =>
            rw [List.length_cons] at hPQ
            have hd : d < 48 := hq d (by simp)
            have e1 : nI (64 * r + P.length) + 1 = nI (64 * r + P.length + 1) := nI_1 _
            refine ⟨by rw [e1]; exact vp_in_nI (by omega) (by decide), ?_⟩
            rw [show ro (nI (64 * r + P.length) + 1).toNatClampNeg = nI d by rw [e1, nI_clamp (by omega)]; exact hrow.2.2.1]
            refine zx_conOf hcn hc hd hC ?_
            have hqle := zq_le (CA := CA) (CB := CB) (a := c) (b := d) cn
            have hrem := s2
            rw [zw_e] at hrem
            by_cases g3 : zq_k CA CB c d cn = 0
            · rw [if_neg (by omega)] at hrem
              rw [g3]
              exact hno (fun _ _ _ => trivial) hrem _ (by decide)
            · rw [if_pos g3] at hrem
              rw [za_p1 (by omega)]
              have hct := (hC (zq_k CA CB c d cn - 1) (by omega)).2.2
              refine br_f (nI_pos (by omega)) ⟨hv, hv, nm_r (e' := upd (upd nx r (nI (P.length + 1))) r (nI (P.length + 1 + 1))) (by rw [en2, er, nI_1, za_nb2 (by omega)]) ⟨vp_in_nI (by omega) (by decide), ?_⟩⟩
              rw [nI_clamp (by omega)]
              refine H1 _ _ hrem hct _ _ ⟨P ++ [c, d], Q2, by rw [eL, List.append_assoc]; rfl, by rw [pk_us, List.length_append]; rfl, Or.inl ⟨pk_us, rfl⟩⟩ ⟨fun j hj => by rw [pk_un hj, pk_un hj], fun j hj => pk_un hj⟩
    · have eQ : Q = [] := List.length_eq_zero_iff.mp (by omega)
      subst eQ
      exact H0 s2 _ _ ⟨P, [], eL, eN, Or.inl ⟨pk_us, rfl⟩⟩ hf1
  · rw [s1]
    refine br_t (nI_pos' (by omega)) ?_
    exact H1 b _ s2 hb _ _ ⟨P, Q, eL, eN, Or.inl ⟨pk_us, rfl⟩⟩ hf1
theorem zx_read {post : Int32 → SX → Prop} {r l : Nat} {L rem : List Nat} (hr : r < 2) (hl1 : l < 4) (hl0 : 0 < l) (hw : ∀ c, c < 48 → zw_w F1 F2 F3 l c < 100) (hcn : cn ≤ 6) (hC : ∀ j, j < 6 → CA j < 48 ∧ CB j < 48 ∧ CT j < 48) (hE : zw_E EA eB) (hL : zx_row ro sz r L) (hl : L.length ≤ 64) (hL2 : ∀ x ∈ L, x < 48)
    (hR : zw_rd cn CA CB CT EA eB nx sl r L rem)
    (H0 : zw_f (zw_w F1 F2 F3 l) rem = [] → ∀ nx' sl', zw_rd cn CA CB CT EA eB nx' sl' r L [] → zw_rf r nx nx' sl sl' → post (-1) ((nI cn), rg, (za_F O), (za_F W), dA, dB, E, (za_F LO), (za_F UA), UB, LA, (za_F KI), (za_F F1), (za_F F2), (za_F F3), (za_F DI), EA, eB, (za_F CA), (za_F CB), (za_F CT), fu, fz, pr, wh, (za_F T), (za_F LN), ro, sz, em, hg, lv, bh, rl, rr, rv, ou, nx', sl'))
    (H1 : ∀ x xs, zw_f (zw_w F1 F2 F3 l) rem = x :: xs → 0 < x → x < 100 → ∀ nx' sl' rem', zw_rd cn CA CB CT EA eB nx' sl' r L rem' → zw_f (zw_w F1 F2 F3 l) rem' = xs → zw_rf r nx nx' sl sl' → post (nI x) ((nI cn), rg, (za_F O), (za_F W), dA, dB, E, (za_F LO), (za_F UA), UB, LA, (za_F KI), (za_F F1), (za_F F2), (za_F F3), (za_F DI), EA, eB, (za_F CA), (za_F CB), (za_F CT), fu, fz, pr, wh, (za_F T), (za_F LN), ro, sz, em, hg, lv, bh, rl, rr, rv, ou, nx', sl')) : wpX_read post ((nI cn), rg, (za_F O), (za_F W), dA, dB, E, (za_F LO), (za_F UA), UB, LA, (za_F KI), (za_F F1), (za_F F2), (za_F F3), (za_F DI), EA, eB, (za_F CA), (za_F CB), (za_F CT), fu, fz, pr, wh, (za_F T), (za_F LN), ro, sz, em, hg, lv, bh, rl, rr, rv, ou, nx, sl) (nI r) (nI l) := by
  -- at an element in hand
  have l6 : ∀ (rem : List Nat) (e : Nat) (nx1 sl1 : Nat → Int32) (n : Nat), rem.length + 1 < n → e < 48 → zw_rd cn CA CB CT EA eB nx1 sl1 r L rem → zw_rf r nx nx1 sl sl1 →
      (zw_f (zw_w F1 F2 F3 l) (e :: rem) = [] → ∀ nx' sl', zw_rd cn CA CB CT EA eB nx' sl' r L [] → zw_rf r nx nx' sl sl' → post (-1) ((nI cn), rg, (za_F O), (za_F W), dA, dB, E, (za_F LO), (za_F UA), UB, LA, (za_F KI), (za_F F1), (za_F F2), (za_F F3), (za_F DI), EA, eB, (za_F CA), (za_F CB), (za_F CT), fu, fz, pr, wh, (za_F T), (za_F LN), ro, sz, em, hg, lv, bh, rl, rr, rv, ou, nx', sl')) →
      (∀ x xs, zw_f (zw_w F1 F2 F3 l) (e :: rem) = x :: xs → 0 < x → x < 100 → ∀ nx' sl' rem', zw_rd cn CA CB CT EA eB nx' sl' r L rem' → zw_f (zw_w F1 F2 F3 l) rem' = xs → zw_rf r nx nx' sl sl' → post (nI x) ((nI cn), rg, (za_F O), (za_F W), dA, dB, E, (za_F LO), (za_F UA), UB, LA, (za_F KI), (za_F F1), (za_F F2), (za_F F3), (za_F DI), EA, eB, (za_F CA), (za_F CB), (za_F CT), fu, fz, pr, wh, (za_F T), (za_F LN), ro, sz, em, hg, lv, bh, rl, rr, rv, ou, nx', sl')) →
      wX_read_6 post (nI r) (nI l) n (nI e) (nI cn) rg (za_F O) (za_F W) dA dB E (za_F LO) (za_F UA) UB LA (za_F KI) (za_F F1) (za_F F2) (za_F F3) (za_F DI) EA eB (za_F CA) (za_F CB) (za_F CT) fu fz pr wh (za_F T) (za_F LN) ro sz em hg lv bh rl rr rv ou nx1 sl1 := by
    intro rem
    induction rem with
    | nil =>
      intro e nx1 sl1 n hn he hR hf H0 H1
      rw [List.length_nil] at hn
      obtain ⟨n, rfl⟩ : ∃ k, n = k + 1 + 1 := ⟨n - 2, by omega⟩
      have hwe := hw e he
      refine br_f (nI_pos (by omega)) (zx_weight he hl1 hl0 ?_)
      refine pk_le (zw_w F1 F2 F3 l e) 0 (fun g => ?_) (fun g => ?_)
      · refine zx_element hr hcn hC hE hL hl hL2 hR (fun _ nx2 sl2 k1 k2 => ?_) (fun e2 rem2 k0 => by cases k0)
        refine br_t (by decide) (H0 ?_ nx2 sl2 k1 (zw_rf_t hf k2))
        unfold zw_f; rw [if_pos (by omega)]; rfl
      · refine H1 (zw_w F1 F2 F3 l e) [] ?_ g hwe nx1 sl1 [] hR rfl hf
        unfold zw_f; rw [if_neg (by omega)]; rfl
    | cons e3 rem3 ih =>
      intro e nx1 sl1 n hn he hR hf H0 H1
      rw [List.length_cons] at hn
      obtain ⟨n, rfl⟩ : ∃ k, n = k + 1 := ⟨n - 1, by omega⟩
      have hwe := hw e he
      refine br_f (nI_pos (by omega)) (zx_weight he hl1 hl0 ?_)
      refine pk_le (zw_w F1 F2 F3 l e) 0 (fun g => ?_) (fun g => ?_)
      · have ez : zw_f (zw_w F1 F2 F3 l) (e :: e3 :: rem3) = zw_f (zw_w F1 F2 F3 l) (e3 :: rem3) := by
          conv => lhs; unfold zw_f
          rw [if_pos (by omega)]
        rw [ez] at H0 H1
        refine zx_element hr hcn hC hE hL hl hL2 hR (fun k0 => by cases k0) (fun e2 rem2 k0 he2 nx2 sl2 k1 k2 => ?_)
        cases k0
        exact ih e3 nx2 sl2 n (by omega) he2 k1 (zw_rf_t hf k2) H0 H1
      · refine H1 (zw_w F1 F2 F3 l e) (zw_f (zw_w F1 F2 F3 l) (e3 :: rem3)) ?_ g hwe nx1 sl1 (e3 :: rem3) hR rfl hf
        conv => lhs; unfold zw_f
        rw [if_neg (by omega)]
  unfold wpX_read
  dsimp only
  refine zx_element hr hcn hC hE hL hl hL2 hR (fun k0 nx1 sl1 k1 k2 => ⟨1, br_t (by decide) (H0 (by rw [k0]; rfl) nx1 sl1 k1 k2)⟩) (fun e rem' k0 he nx1 sl1 k1 k2 => ⟨rem'.length + 2, ?_⟩)
  subst k0
  exact l6 rem' e nx1 sl1 (rem'.length + 2) (by omega) he k1 k2 H0 H1
end
end
section
section
variable {cn : Nat} {rg : Int32} {O W LO UA KI F1 F2 F3 DI CA CB CT T LN : Nat → Nat} {E UB LA EA dA dB eB fu fz pr wh ro sz em hg lv bh rl rr rv ou nx sl : Nat → Int32}
theorem zx_ord80 {post : Int32 → SX → Prop} {L0 L1 : List Nat} (h0 : zx_row ro sz 0 L0) (h1 : zx_row ro sz 1 L1) (hl0 : L0.length ≤ 64) (hl1 : L1.length ≤ 64) (hx0 : ∀ x ∈ L0, x < 48) (hx1 : ∀ x ∈ L1, x < 48)
    (H : post (zw_c L0 L1) ((nI cn), rg, (za_F O), (za_F W), dA, dB, E, (za_F LO), (za_F UA), UB, LA, (za_F KI), (za_F F1), (za_F F2), (za_F F3), (za_F DI), EA, eB, (za_F CA), (za_F CB), (za_F CT), fu, fz, pr, wh, (za_F T), (za_F LN), ro, sz, em, hg, lv, bh, rl, rr, rv, ou, nx, sl)) : ∃ n, wX_order_80 post (nI cn) rg (za_F O) (za_F W) dA dB E (za_F LO) (za_F UA) UB LA (za_F KI) (za_F F1) (za_F F2) (za_F F3) (za_F DI) EA eB (za_F CA) (za_F CB) (za_F CT) fu fz pr wh (za_F T) (za_F LN) ro sz em hg lv bh rl rr rv ou nx sl n 0 := by
  have key : ∀ (Q0 Q1 P0 P1 : List Nat) (n : Nat), Q0.length < n → L0 = P0 ++ Q0 → L1 = P1 ++ Q1 → P0.length = P1.length → zw_c L0 L1 = zw_c Q0 Q1 → wX_order_80 post (nI cn) rg (za_F O) (za_F W) dA dB E (za_F LO) (za_F UA) UB LA (za_F KI) (za_F F1) (za_F F2) (za_F F3) (za_F DI) EA eB (za_F CA) (za_F CB) (za_F CT) fu fz pr wh (za_F T) (za_F LN) ro sz em hg lv bh rl rr rv ou nx sl n (nI P0.length) := by
    intro Q0
    induction Q0 with
    | nil =>
      intro Q1 P0 P1 n hn e0 e1 ep ec
      obtain ⟨n, rfl⟩ : ∃ k, n = k + 1 := ⟨n - 1, by omega⟩
      have l0 : L0.length = P0.length := by rw [e0, List.append_nil]
      have l1 : L1.length = P1.length + Q1.length := by rw [e1, List.length_append]
      rw [ec] at H
      refine pk_le L0.length P0.length (fun _ => ?_) (fun g => by omega) h0.2 rfl
      refine pk_le L0.length P0.length (fun _ => ?_) (fun g => by omega) h0.2 rfl
      refine pk_le L0.length P0.length (fun _ => ?_) (fun g => by omega) h0.2 rfl
      cases Q1 with
      | nil => exact pk_le L1.length P0.length (fun _ => H) (fun g => by rw [List.length_nil] at l1; omega) h1.2 rfl
      | cons y ys => exact pk_le L1.length P0.length (fun g => by rw [List.length_cons] at l1; omega) (fun _ => H) h1.2 rfl
    | cons x xs ih =>
      intro Q1 P0 P1 n hn e0 e1 ep ec
      rw [List.length_cons] at hn
      obtain ⟨n, rfl⟩ : ∃ k, n = k + 1 := ⟨n - 1, by omega⟩
      have l0 : L0.length = P0.length + xs.length + 1 := by rw [e0, List.length_append, List.length_cons]; omega
      have l1 : L1.length = P1.length + Q1.length := by rw [e1, List.length_append]
      refine pk_le L0.length P0.length (fun g => by omega) (fun _ => ?_) h0.2 rfl
      cases Q1 with
      | nil =>
        rw [List.length_nil] at l1
        rw [ec] at H
        refine pk_le L1.length P0.length (fun _ => ?_) (fun g => by omega) h1.2 rfl
        refine pk_le L0.length P0.length (fun g => by omega) (fun _ => ?_) h0.2 rfl
        refine pk_le L1.length P0.length (fun _ => ?_) (fun g => by omega) h1.2 rfl
        exact pk_le L0.length P0.length (fun g => by omega) (fun _ => H) h0.2 rfl
      | cons y ys =>
        rw [List.length_cons] at l1
        have hx := hx0 x (by rw [e0]; simp)
        have hy := hx1 y (by rw [e1]; simp)
        have r0 := h0.1
        have r1 := h1.1
        rw [e0, za_h_app] at r0
        rw [e1, za_h_app] at r1
        have a0 : ro (nI P0.length).toNatClampNeg = nI x := by
          rw [nI_clamp (by omega)]
          have := r0.2.1
          rw [show 64 * 0 + P0.length = P0.length by omega] at this; exact this
        have e64 : (64 : Int32) + nI P0.length = nI (64 + P0.length) := nI_add 64 _
        have a1 : ro (64 + nI P0.length).toNatClampNeg = nI y := by
          rw [e64, nI_clamp (by omega), ep]
          exact r1.2.1
        have hv0 : vp_in (nI P0.length) 256 := vp_in_nI (by omega) (by decide)
        have hv1 : vp_in (64 + nI P0.length) 256 := by rw [e64]; exact vp_in_nI (by omega) (by decide)
        refine pk_le L1.length P0.length (fun g => by omega) (fun _ => ⟨hv0, hv1, ?_⟩) h1.2 rfl
        refine pk_eq x y (fun g => nm_r (e' := nI (P0 ++ [x]).length) (by rw [nI_1, List.length_append]; rfl) ?_) (fun g => ?_) a0 a1
        · refine ih ys (P0 ++ [x]) (P1 ++ [y]) n (by omega) (by rw [e0, List.append_assoc]; rfl) (by rw [e1, List.append_assoc]; rfl) (by rw [List.length_append, List.length_append, ep]; rfl) ?_
          rw [ec, zw_c, if_pos g]
        · rw [ec, zw_c, if_neg g] at H
          refine pk_le L0.length P0.length (fun g => by omega) (fun _ => ?_) h0.2 rfl
          refine pk_le L1.length P0.length (fun g => by omega) (fun _ => ⟨hv0, hv1, ?_⟩) h1.2 rfl
          refine pk_le y x (fun g2 => ?_) (fun g2 => ?_) a1 a0
          · rw [if_neg (by omega)] at H; exact H
          · rw [if_pos g2] at H; exact H
  exact ⟨L0.length + 1, key L0 L1 [] [] (L0.length + 1) (by omega) rfl rfl rfl rfl⟩
theorem zx_ord22 {post : Int32 → SX → Prop} {J : Int32 → Int32 → Int32 → (Nat → Int32) → (Nat → Int32) → (Nat → Int32) → (Nat → Int32) → (Nat → Int32) → (Nat → Int32) → (Nat → Int32) → (Nat → Int32) → (Nat → Int32) → (Nat → Int32) → (Nat → Int32) → (Nat → Int32) → (Nat → Int32) → (Nat → Int32) → (Nat → Int32) → (Nat → Int32) → (Nat → Int32) → (Nat → Int32) → (Nat → Int32) → (Nat → Int32) → (Nat → Int32) → (Nat → Int32) → (Nat → Int32) → (Nat → Int32) → (Nat → Int32) → (Nat → Int32) → (Nat → Int32) → (Nat → Int32) → (Nat → Int32) → (Nat → Int32) → (Nat → Int32) → (Nat → Int32) → (Nat → Int32) → (Nat → Int32) → (Nat → Int32) → (Nat → Int32) → (Nat → Int32) → Prop} {x1 : Int32} {l : Nat} {L0 L1 : List Nat} (hl1 : l < 4) (hl0 : 0 < l) (hw : ∀ c, c < 48 → zw_w F1 F2 F3 l c < 100) (hcn : cn ≤ 6) (hC : ∀ j, j < 6 → CA j < 48 ∧ CB j < 48 ∧ CT j < 48) (hE : zw_E EA eB)
    (h0 : zx_row ro sz 0 L0) (h1 : zx_row ro sz 1 L1) (hle0 : L0.length ≤ 64) (hle1 : L1.length ≤ 64) (hx0 : ∀ x ∈ L0, x < 48) (hx1 : ∀ x ∈ L1, x < 48) :
    ∀ (a b rem0 rem1 : List Nat) (nx sl : Nat → Int32) (n : Nat), a.length < n → zw_f (zw_w F1 F2 F3 l) rem0 = a → zw_f (zw_w F1 F2 F3 l) rem1 = b → zw_rd cn CA CB CT EA eB nx sl 0 L0 rem0 → zw_rd cn CA CB CT EA eB nx sl 1 L1 rem1 →
    (zw_c a b = 0 → ∀ nx' sl', J (nI (l + 1)) (nI cn) rg (za_F O) (za_F W) dA dB E (za_F LO) (za_F UA) UB LA (za_F KI) (za_F F1) (za_F F2) (za_F F3) (za_F DI) EA eB (za_F CA) (za_F CB) (za_F CT) fu fz pr wh (za_F T) (za_F LN) ro sz em hg lv bh rl rr rv ou nx' sl') →
    (zw_c a b ≠ 0 → ∀ nx' sl', post (zw_c a b) ((nI cn), rg, (za_F O), (za_F W), dA, dB, E, (za_F LO), (za_F UA), UB, LA, (za_F KI), (za_F F1), (za_F F2), (za_F F3), (za_F DI), EA, eB, (za_F CA), (za_F CB), (za_F CT), fu, fz, pr, wh, (za_F T), (za_F LN), ro, sz, em, hg, lv, bh, rl, rr, rv, ou, nx', sl')) →
    wX_order_22 post J x1 (nI l) n (nI cn) rg (za_F O) (za_F W) dA dB E (za_F LO) (za_F UA) UB LA (za_F KI) (za_F F1) (za_F F2) (za_F F3) (za_F DI) EA eB (za_F CA) (za_F CB) (za_F CT) fu fz pr wh (za_F T) (za_F LN) ro sz em hg lv bh rl rr rv ou nx sl := by
  intro a
  induction a with
  | nil =>
    intro b rem0 rem1 nx sl n hn ea eb r0 r1 HJ HP
    obtain ⟨n, rfl⟩ : ∃ k, n = k + 1 := ⟨n - 1, by omega⟩
    refine zx_read (r := 0) (by omega) hl1 hl0 hw hcn hC hE h0 hle0 hx0 r0 (fun _ nx1 sl1 k1 k2 => ?_) (fun x xs k0 => by rw [ea] at k0; cases k0)
    dsimp only
    refine zx_read (r := 1) (by omega) hl1 hl0 hw hcn hC hE h1 hle1 hx1 (zw_rd_k k2 (by omega) r1) (fun k0 nx2 sl2 k3 k4 => ?_) (fun x xs k0 p1 p2 nx2 sl2 rem' k3 k4 k5 => ?_)
    · rw [eb] at k0
      subst k0
      exact br_t rfl (br_f (by decide) (br_t rfl (nm_r (nI_1 l) (HJ rfl nx2 sl2))))
    · rw [eb] at k0
      subst k0
      have ne : ¬ (-1 : Int32) = nI x := by
        intro e
        have := nI_pos (n := x) (by omega)
        rw [← e] at this
        exact this (by decide)
      refine br_f ne (br_f ne (br_f ?_ (HP (by show ¬ ((-1 : Int32) = 0); decide) nx2 sl2)))
      rw [Int32.le_iff_toInt_le, nI_toInt (by omega), show (-1 : Int32).toInt = -1 by decide]
      omega
  | cons x xs ih =>
    intro b rem0 rem1 nx sl n hn ea eb r0 r1 HJ HP
    rw [List.length_cons] at hn
    obtain ⟨n, rfl⟩ : ∃ k, n = k + 1 := ⟨n - 1, by omega⟩
    refine zx_read (r := 0) (by omega) hl1 hl0 hw hcn hC hE h0 hle0 hx0 r0 (fun k0 => by rw [ea] at k0; cases k0) (fun x' xs' k0 p1 p2 nx1 sl1 rem0' k1 k2 k3 => ?_)
    rw [ea] at k0
    injection k0 with k0a k0b
    subst k0a
    subst k0b
    dsimp only
    refine zx_read (r := 1) (by omega) hl1 hl0 hw hcn hC hE h1 hle1 hx1 (zw_rd_k k3 (by omega) r1) (fun m0 nx2 sl2 m3 m4 => ?_) (fun y ys m0 q1 q2 nx2 sl2 rem1' m3 m4 m5 => ?_)
    · rw [eb] at m0
      subst m0
      have ne : ¬ nI x = (-1 : Int32) := by
        intro e
        have := nI_pos (n := x) (by omega)
        rw [e] at this
        exact this (by decide)
      refine br_f ne (br_f ne (br_t ?_ (HP (by show ¬ ((1 : Int32) = 0); decide) nx2 sl2)))
      exact Int32.le_of_lt (Int32.lt_of_lt_of_le (show (-1 : Int32) < 0 by decide) (nI_pos' (by omega)))
    · rw [eb] at m0
      subst m0
      by_cases g : x = y
      · subst g
        have ec : zw_c (x :: xs) (x :: ys) = zw_c xs ys := by rw [zw_c, if_pos rfl]
        rw [ec] at HJ HP
        refine br_t rfl (br_t (nI_pos' (by omega)) ?_)
        exact ih ys rem0' rem1' nx2 sl2 n (by omega) k2 m4 (zw_rd_k m5 (by omega) k1) m3 HJ HP
      · have ne : ¬ nI x = nI y := fun e => g ((nI_eq (by omega) (by omega)).mp e)
        have ec : zw_c (x :: xs) (y :: ys) = if x < y then -1 else 1 := by rw [zw_c, if_neg g]
        rw [ec] at HP
        refine br_f ne (br_f ne (pk_le y x (fun g2 => ?_) (fun g2 => ?_)))
        · rw [if_neg (by omega)] at HP
          exact HP (by decide) nx2 sl2
        · rw [if_pos g2] at HP
          exact HP (by decide) nx2 sl2
/-- the whole comparison of two rows -/
def zw_o (F1 F2 F3 : Nat → Nat) (cn : Nat) (CA CB CT : Nat → Nat) (EA eB : Nat → Int32) (level : Nat) (L0 L1 : List Nat) : Int32 :=
  zw_l (zw_c (zw_f (zw_w F1 F2 F3 1) (zw_e cn CA CB CT EA eB L0)) (zw_f (zw_w F1 F2 F3 1) (zw_e cn CA CB CT EA eB L1)))
    (zw_c (zw_f (zw_w F1 F2 F3 2) (zw_e cn CA CB CT EA eB L0)) (zw_f (zw_w F1 F2 F3 2) (zw_e cn CA CB CT EA eB L1)))
    (zw_c (zw_f (zw_w F1 F2 F3 3) (zw_e cn CA CB CT EA eB L0)) (zw_f (zw_w F1 F2 F3 3) (zw_e cn CA CB CT EA eB L1))) (zw_c L0 L1) level
theorem zx_order {post : Int32 → SX → Prop} {level : Nat} {L0 L1 : List Nat} (hv1 : 0 < level) (hv4 : level < 5) (hw : ∀ l c, c < 48 → zw_w F1 F2 F3 l c < 100) (hcn : cn ≤ 6) (hC : ∀ j, j < 6 → CA j < 48 ∧ CB j < 48 ∧ CT j < 48) (hE : zw_E EA eB)
    (h0 : zx_row ro sz 0 L0) (h1 : zx_row ro sz 1 L1) (hle0 : L0.length ≤ 64) (hle1 : L1.length ≤ 64) (hx0 : ∀ x ∈ L0, x < 48) (hx1 : ∀ x ∈ L1, x < 48)
    (H : ∀ nx' sl', post (zw_o F1 F2 F3 cn CA CB CT EA eB level L0 L1) ((nI cn), rg, (za_F O), (za_F W), dA, dB, E, (za_F LO), (za_F UA), UB, LA, (za_F KI), (za_F F1), (za_F F2), (za_F F3), (za_F DI), EA, eB, (za_F CA), (za_F CB), (za_F CT), fu, fz, pr, wh, (za_F T), (za_F LN), ro, sz, em, hg, lv, bh, rl, rr, rv, ou, nx', sl')) : wpX_order post ((nI cn), rg, (za_F O), (za_F W), dA, dB, E, (za_F LO), (za_F UA), UB, LA, (za_F KI), (za_F F1), (za_F F2), (za_F F3), (za_F DI), EA, eB, (za_F CA), (za_F CB), (za_F CT), fu, fz, pr, wh, (za_F T), (za_F LN), ro, sz, em, hg, lv, bh, rl, rr, rv, ou, nx, sl) (nI level) := by
  have h71 : ∀ (nx sl : Nat → Int32), (level = 4 → post (zw_c L0 L1) ((nI cn), rg, (za_F O), (za_F W), dA, dB, E, (za_F LO), (za_F UA), UB, LA, (za_F KI), (za_F F1), (za_F F2), (za_F F3), (za_F DI), EA, eB, (za_F CA), (za_F CB), (za_F CT), fu, fz, pr, wh, (za_F T), (za_F LN), ro, sz, em, hg, lv, bh, rl, rr, rv, ou, nx, sl)) → (level ≠ 4 → post 0 ((nI cn), rg, (za_F O), (za_F W), dA, dB, E, (za_F LO), (za_F UA), UB, LA, (za_F KI), (za_F F1), (za_F F2), (za_F F3), (za_F DI), EA, eB, (za_F CA), (za_F CB), (za_F CT), fu, fz, pr, wh, (za_F T), (za_F LN), ro, sz, em, hg, lv, bh, rl, rr, rv, ou, nx, sl)) → wX_order_71 post (nI level) (nI cn) rg (za_F O) (za_F W) dA dB E (za_F LO) (za_F UA) UB LA (za_F KI) (za_F F1) (za_F F2) (za_F F3) (za_F DI) EA eB (za_F CA) (za_F CB) (za_F CT) fu fz pr wh (za_F T) (za_F LN) ro sz em hg lv bh rl rr rv ou nx sl := by
    intro nx sl g1 g2
    refine pk_le 4 level (fun e => ?_) (fun e => g2 (by omega))
    exact zx_ord80 h0 h1 hle0 hle1 hx0 hx1 (g1 (by omega))
  -- one step of the levels
  have step : ∀ (l n : Nat) (nx sl : Nat → Int32), 0 < l → l < 4 → l ≤ level →
      (zw_c (zw_f (zw_w F1 F2 F3 l) (zw_e cn CA CB CT EA eB L0)) (zw_f (zw_w F1 F2 F3 l) (zw_e cn CA CB CT EA eB L1)) = 0 → ∀ nx' sl', wX_order_2 post (nI level) n (nI (l + 1)) (nI cn) rg (za_F O) (za_F W) dA dB E (za_F LO) (za_F UA) UB LA (za_F KI) (za_F F1) (za_F F2) (za_F F3) (za_F DI) EA eB (za_F CA) (za_F CB) (za_F CT) fu fz pr wh (za_F T) (za_F LN) ro sz em hg lv bh rl rr rv ou nx' sl') →
      (zw_c (zw_f (zw_w F1 F2 F3 l) (zw_e cn CA CB CT EA eB L0)) (zw_f (zw_w F1 F2 F3 l) (zw_e cn CA CB CT EA eB L1)) ≠ 0 → ∀ nx' sl', post (zw_c (zw_f (zw_w F1 F2 F3 l) (zw_e cn CA CB CT EA eB L0)) (zw_f (zw_w F1 F2 F3 l) (zw_e cn CA CB CT EA eB L1))) ((nI cn), rg, (za_F O), (za_F W), dA, dB, E, (za_F LO), (za_F UA), UB, LA, (za_F KI), (za_F F1), (za_F F2), (za_F F3), (za_F DI), EA, eB, (za_F CA), (za_F CB), (za_F CT), fu, fz, pr, wh, (za_F T), (za_F LN), ro, sz, em, hg, lv, bh, rl, rr, rv, ou, nx', sl')) →
      wX_order_2 post (nI level) (n + 1) (nI l) (nI cn) rg (za_F O) (za_F W) dA dB E (za_F LO) (za_F UA) UB LA (za_F KI) (za_F F1) (za_F F2) (za_F F3) (za_F DI) EA eB (za_F CA) (za_F CB) (za_F CT) fu fz pr wh (za_F T) (za_F LN) ro sz em hg lv bh rl rr rv ou nx sl := by
    intro l n nx sl hl0 hl4 hll HJ HP
    refine pk_le 4 l (fun e => by omega) (fun _ => pk_lt level l (fun e => by omega) (fun _ => ?_))
    refine zx_reset (r := 0) (L := L0) (by omega) (fun nx1 sl1 k1 k2 => ?_)
    dsimp only
    refine zx_reset (r := 1) (L := L1) (by omega) (fun nx2 sl2 m1 m2 => ⟨(zw_f (zw_w F1 F2 F3 l) (zw_e cn CA CB CT EA eB L0)).length + 1, ?_⟩)
    exact zx_ord22 hl4 hl0 (hw l) hcn hC hE h0 h1 hle0 hle1 hx0 hx1 _ _ _ _ nx2 sl2 _ (Nat.lt_succ_self _) rfl rfl (zw_rd_k m2 (by omega) k1) m1 HJ HP
  unfold zw_o zw_l at H
  refine ⟨4, ?_⟩
  refine step 1 3 nx sl (by omega) (by omega) (by omega) (fun z1 nx1 sl1 => ?_) (fun z1 nx1 sl1 => ?_)
  · rw [if_neg (fun q => q z1)] at H
    by_cases e1 : level = 1
    · rw [if_pos e1] at H
      refine pk_le 4 2 (fun e => by omega) (fun _ => pk_lt level 2 (fun _ => ?_) (fun e => by omega))
      exact h71 nx1 sl1 (fun e => by omega) (fun _ => H nx1 sl1)
    · rw [if_neg e1] at H
      refine step 2 2 nx1 sl1 (by omega) (by omega) (by omega) (fun z2 nx2 sl2 => ?_) (fun z2 nx2 sl2 => ?_)
      · rw [if_neg (fun q => q z2)] at H
        by_cases e2 : level = 2
        · rw [if_pos e2] at H
          refine pk_le 4 3 (fun e => by omega) (fun _ => pk_lt level 3 (fun _ => ?_) (fun e => by omega))
          exact h71 nx2 sl2 (fun e => by omega) (fun _ => H nx2 sl2)
        · rw [if_neg e2] at H
          refine step 3 1 nx2 sl2 (by omega) (by omega) (by omega) (fun z3 nx3 sl3 => ?_) (fun z3 nx3 sl3 => ?_)
          · rw [if_neg (fun q => q z3)] at H
            refine pk_le 4 4 (fun _ => ?_) (fun e => by omega)
            refine h71 nx3 sl3 (fun e => ?_) (fun e => ?_)
            · rw [if_neg (by omega)] at H; exact H nx3 sl3
            · rw [if_pos (by omega)] at H; exact H nx3 sl3
          · rw [if_pos z3] at H; exact H nx3 sl3
      · rw [if_pos z2] at H; exact H nx2 sl2
  · rw [if_pos z1] at H; exact H nx1 sl1
end
end
section
def zw_Q (w : Nat → Nat → Nat) (ele els : Nat → Int32) (s : Nat) (M : List Nat) : Prop := els s = nI M.length ∧ ∀ l, l < 3 → za_h ele (384 * s + 128 * l) (M.map (w (l + 1)))
def zw_ef (s : Nat) (ele ele' els els' : Nat → Int32) : Prop := (∀ j, j < 384 * s ∨ 384 * s + 384 ≤ j → ele' j = ele j) ∧ ∀ j, j ≠ s → els' j = els j
theorem zw_ef_r {s : Nat} {ele els : Nat → Int32} : zw_ef s ele ele els els := ⟨fun _ _ => rfl, fun _ _ => rfl⟩
theorem zw_ef_t {s : Nat} {ele ele' ele'' els els' els'' : Nat → Int32} (h : zw_ef s ele ele' els els') (g : zw_ef s ele' ele'' els' els'') : zw_ef s ele ele'' els els'' :=
  ⟨fun j hj => by rw [g.1 j hj, h.1 j hj], fun j hj => by rw [g.2 j hj, h.2 j hj]⟩
theorem zw_Q_k {w : Nat → Nat → Nat} {ele els ele' els' : Nat → Int32} {s q : Nat} {M : List Nat} (h : zw_ef s ele ele' els els') (hq : q ≠ s) (hM : M.length ≤ 128) (g : zw_Q w ele els q M) : zw_Q w ele' els' q M :=
  ⟨by rw [h.2 q hq]; exact g.1, fun l hl => za_h_cg _ _ (fun j h1 h2 => h.1 j (by rw [List.length_map] at h2; omega)) (g.2 l hl)⟩
section
variable {cn : Nat} {rs nn : Int32} {O W LO UA KI F1 F2 F3 DI CA CB CT T LN : Nat → Nat} {E UB LA EA pA pB wt yB lo re yr fo fl ele els eb yl se pg yo : Nat → Int32}
variable {eB : Nat → Int32}
theorem zy_element {post : SY → Prop} {s c : Nat} {M : List Nat} {x : Int32} (hx : x = nI c) (hs : s < 2) (hc : c < 48) (hM : M.length < 128) (hwt : zr_W wt F1 F2 F3) (hQ : zw_Q (zw_w F1 F2 F3) ele els s M)
    (H : ∀ ele' els', zw_Q (zw_w F1 F2 F3) ele' els' s (M ++ [c]) → zw_ef s ele ele' els els' → post ((nI cn), rs, nn, (za_F O), (za_F W), pA, pB, (za_F LO), (za_F UA), UB, LA, (za_F KI), wt, EA, yB, (za_F DI), E, (za_F CA), (za_F CB), (za_F CT), lo, (za_F T), (za_F LN), re, yr, fo, fl, ele', els', eb, yl, se, pg, yo)) : wpY_element post ((nI cn), rs, nn, (za_F O), (za_F W), pA, pB, (za_F LO), (za_F UA), UB, LA, (za_F KI), wt, EA, yB, (za_F DI), E, (za_F CA), (za_F CB), (za_F CT), lo, (za_F T), (za_F LN), re, yr, fo, fl, ele, els, eb, yl, se, pg, yo) (nI s) x := by
  subst hx
  have hv : vp_in (nI s) 2 := vp_in_nI hs (by decide)
  have esn : (nI s).toNatClampNeg = s := nI_clamp (by omega)
  have eel : els (nI s).toNatClampNeg = nI M.length := by rw [esn]; exact hQ.1
  have hw := hwt c hc
  have ei : ∀ l, l < 3 → 384 * nI s + 128 * nI l + els (nI s).toNatClampNeg = nI (384 * s + 128 * l + M.length) := by
    intro l hl
    rw [eel, show (384 : Int32) * nI s = nI (384 * s) from pk_mul 384 s, show (128 : Int32) * nI l = nI (128 * l) from pk_mul 128 l, nI_add, nI_add]
  have ej : ∀ l, l < 3 → 3 * nI c + nI l = nI (3 * c + l) := fun l _ => za_x3 c l
  have hvi : ∀ l, l < 3 → vp_in (384 * nI s + 128 * nI l + els (nI s).toNatClampNeg) 768 := fun l hl => by rw [ei l hl]; exact vp_in_nI (by omega) (by decide)
  have hvj : ∀ l, l < 3 → vp_in (3 * nI c + nI l) 144 := fun l hl => by rw [ej l hl]; exact vp_in_nI (by omega) (by decide)
  have hwl : ∀ l, l < 3 → wt (3 * nI c + nI l).toNatClampNeg = nI (zw_w F1 F2 F3 (l + 1) c) := by
    intro l hl
    rw [ej l hl, nI_clamp (by omega)]
    have : l = 0 ∨ l = 1 ∨ l = 2 := by omega
    rcases this with rfl | rfl | rfl
    · exact hw.1
    · exact hw.2.1
    · exact hw.2.2
  have hst : ∀ (l : Nat) (e : Nat → Int32), l < 3 → upd e (384 * nI s + 128 * nI l + els (nI s).toNatClampNeg).toNatClampNeg (wt (3 * nI c + nI l).toNatClampNeg) = upd e (384 * s + 128 * l + M.length) (nI (zw_w F1 F2 F3 (l + 1) c)) := by
    intro l e hl
    rw [hwl l hl, ei l hl, nI_clamp (by omega)]
  refine ⟨4, ?_⟩
  refine pk_le 3 0 (fun h => by omega) (fun _ => ⟨hv, hvj 0 (by omega), hvi 0 (by omega), nm_r (hst 0 ele (by omega)) (nm_r (e' := nI 1) rfl ?_)⟩)
  refine pk_le 3 1 (fun h => by omega) (fun _ => ⟨hv, hvj 1 (by omega), hvi 1 (by omega), nm_r (hst 1 _ (by omega)) (nm_r (e' := nI 2) rfl ?_)⟩)
  refine pk_le 3 2 (fun h => by omega) (fun _ => ⟨hv, hvj 2 (by omega), hvi 2 (by omega), nm_r (hst 2 _ (by omega)) (nm_r (e' := nI 3) rfl ?_)⟩)
  refine pk_le 3 3 (fun _ => ⟨hv, hv, ?_⟩) (fun h => by omega)
  refine nm_r (e' := upd els s (nI (M.length + 1))) (by rw [eel, esn, nI_1]) (H _ _ ⟨by rw [pk_us, List.length_append]; rfl, fun l hl => ?_⟩ ⟨fun j hj => ?_, fun j hj => pk_un hj⟩)
  · rw [List.map_append]
    show za_h _ _ (M.map (zw_w F1 F2 F3 (l + 1)) ++ [zw_w F1 F2 F3 (l + 1) c])
    have hlm : (M.map (zw_w F1 F2 F3 (l + 1))).length = M.length := List.length_map _
    have hb := hQ.2 l hl
    have : l = 0 ∨ l = 1 ∨ l = 2 := by omega
    have hs2 : ∀ (e : Nat → Int32), za_h e (384 * s + 128 * l) (M.map (zw_w F1 F2 F3 (l + 1))) → za_h (upd e (384 * s + 128 * l + M.length) (nI (zw_w F1 F2 F3 (l + 1) c))) (384 * s + 128 * l) (M.map (zw_w F1 F2 F3 (l + 1)) ++ [zw_w F1 F2 F3 (l + 1) c]) := by
      intro e he
      have := za_h_snoc (c := zw_w F1 F2 F3 (l + 1) c) he
      rw [hlm] at this
      exact this
    have hlen2 : (M.map (zw_w F1 F2 F3 (l + 1)) ++ [zw_w F1 F2 F3 (l + 1) c]).length = M.length + 1 := by rw [List.length_append, hlm]; rfl
    rcases this with rfl | rfl | rfl
    · exact za_h_up (za_h_up (hs2 _ hb) (by omega)) (by omega)
    · exact za_h_up (hs2 _ (za_h_up hb (by omega))) (by omega)
    · exact hs2 _ (za_h_up (za_h_up hb (by omega)) (by omega))
  · rw [pk_un (by omega), pk_un (by omega), pk_un (by omega)]
/-- the elements of the row -/
theorem zy_an57 {post : SY → Prop} {s : Nat} {L : List Nat} (hs : s < 2) (hcn : cn ≤ 6) (hC : ∀ j, j < 6 → CA j < 48 ∧ CB j < 48 ∧ CT j < 48) (hE : zr_E EA eB yB) (hwt : zr_W wt F1 F2 F3) (hL : za_h yr 0 L) (hl : L.length ≤ 64) (hL2 : ∀ x ∈ L, x < 48)
    (H : ∀ ele' els', zw_Q (zw_w F1 F2 F3) ele' els' s (zw_e cn CA CB CT EA eB L) → zw_ef s ele ele' els els' → post ((nI cn), rs, (nI L.length), (za_F O), (za_F W), pA, pB, (za_F LO), (za_F UA), UB, LA, (za_F KI), wt, EA, yB, (za_F DI), E, (za_F CA), (za_F CB), (za_F CT), lo, (za_F T), (za_F LN), re, yr, fo, fl, ele', els', eb, yl, se, pg, yo)) :
    ∀ (n : Nat) (P Q M : List Nat) (ele' els' : Nat → Int32), Q.length < n → L = P ++ Q → zw_e cn CA CB CT EA eB L = M ++ zw_e cn CA CB CT EA eB Q → M.length ≤ 2 * P.length → zw_Q (zw_w F1 F2 F3) ele' els' s M → zw_ef s ele ele' els els' →
    wY_analyse_57 post (nI s) n (nI P.length) (nI cn) rs (nI L.length) (za_F O) (za_F W) pA pB (za_F LO) (za_F UA) UB LA (za_F KI) wt EA yB (za_F DI) E (za_F CA) (za_F CB) (za_F CT) lo (za_F T) (za_F LN) re yr fo fl ele' els' eb yl se pg yo := by
  intro n
  induction n with
  | zero => intro P Q M ele' els' h; omega
  | succ n ih =>
    intro P Q M ele' els' hn eL eE hM hQ hf
    have hPQ : P.length + Q.length = L.length := by rw [eL, List.length_append]
    cases Q with
    | nil =>
      rw [List.length_nil] at hPQ
      refine pk_le L.length P.length (fun _ => ?_) (fun g => by omega)
      refine H ele' els' ?_ hf
      rw [eE]; show zw_Q _ _ _ _ (M ++ []); rw [List.append_nil]; exact hQ
    | cons c Q' =>
      rw [List.length_cons] at hPQ hn
      have hc : c < 48 := hL2 c (by rw [eL]; simp)
      have hvc : vp_in (nI c) 48 := vp_in_nI hc (by decide)
      have ec : (nI c).toNatClampNeg = c := nI_clamp (by omega)
      have hrow := hL
      rw [eL, za_h_app] at hrow
      have e0 : yr (nI P.length).toNatClampNeg = nI c := by
        rw [nI_clamp (by omega)]
        have := hrow.2.1; rw [Nat.zero_add] at this; exact this
      refine pk_le L.length P.length (fun g => by omega) (fun _ => ⟨vp_in_nI (by omega) (by decide), nm_r e0 ?_⟩)
      have hno : zw_e cn CA CB CT EA eB (c :: Q') = zw_x EA eB c ++ zw_e cn CA CB CT EA eB Q' → ∀ z : Int32, z < 0 → wY_analyse_99 post (wY_analyse_57 post (nI s) n) (nI s) (nI P.length) (nI c) z (nI cn) rs (nI L.length) (za_F O) (za_F W) pA pB (za_F LO) (za_F UA) UB LA (za_F KI) wt EA yB (za_F DI) E (za_F CA) (za_F CB) (za_F CT) lo (za_F T) (za_F LN) re yr fo fl ele' els' eb yl se pg yo := by
        intro ex z hz
        rw [ex] at eE
        refine br_t hz ⟨hvc, ?_⟩
        rw [ec]
        rcases hE c hc with e | ⟨x, y, hx, hy, e1, e2, e3⟩
        · have ex1 : zw_x EA eB c = [c] := by unfold zw_x; rw [if_pos (by rw [e]; decide)]
          rw [ex1] at eE
          refine br_t (by rw [e]; decide) (zy_element rfl hs hc (by omega) hwt hQ (fun ele2 els2 k1 k2 => ?_))
          refine nm_r (e' := nI (P ++ [c]).length) (by rw [nI_1, List.length_append]; rfl) ?_
          exact ih (P ++ [c]) Q' (M ++ [c]) ele2 els2 (by omega) (by rw [eL, List.append_assoc]; rfl) (by rw [eE, List.append_assoc]) (by simp; omega) k1 (zw_ef_t hf k2)
        · have ex1 : zw_x EA eB c = [x, y] := by
            unfold zw_x; rw [e1, if_neg (nI_pos (by omega)), e2, nI_clamp (by omega), nI_clamp (by omega)]
          rw [ex1] at eE
          refine br_f (by rw [e1]; exact nI_pos (by omega)) ⟨hvc, zy_element e1 hs hx (by omega) hwt hQ (fun ele2 els2 k1 k2 => ⟨hvc, ?_⟩)⟩
          refine zy_element e3 hs hy (by simp; omega) hwt k1 (fun ele3 els3 k3 k4 => ?_)
          refine nm_r (e' := nI (P ++ [c]).length) (by rw [nI_1, List.length_append]; rfl) ?_
          exact ih (P ++ [c]) Q' (M ++ [x] ++ [y]) ele3 els3 (by omega) (by rw [eL, List.append_assoc]; rfl) (by rw [eE, List.append_assoc, List.append_assoc]; rfl) (by simp; omega) k3 (zw_ef_t hf (zw_ef_t k2 k4))
      have e1 : nI P.length + 1 = nI (P.length + 1) := nI_1 _
      refine pk_le L.length (P.length + 1) (fun g => ?_) (fun g => ?_) rfl e1
      · have eQ : Q' = [] := List.length_eq_zero_iff.mp (by omega)
        subst eQ
        exact hno (by show zw_x EA eB c = zw_x EA eB c ++ []; rw [List.append_nil]) (-1) (by decide)
      · cases Q' with
        | nil => rw [List.length_nil] at hPQ; omega
        | cons d Q2 =>
          rw [List.length_cons] at hPQ hn
          have hd : d < 48 := hL2 d (by rw [eL]; simp)
          refine ⟨by rw [e1]; exact vp_in_nI (by omega) (by decide), ?_⟩
          rw [show yr (nI P.length + 1).toNatClampNeg = nI d by rw [e1, nI_clamp (by omega)]; have := hrow.2.2.1; rw [Nat.zero_add] at this; exact this]
          refine zy_con hcn hc hd hC ?_
          have hqle := zq_le (CA := CA) (CB := CB) (a := c) (b := d) cn
          by_cases g3 : zq_k CA CB c d cn = 0
          · rw [g3]
            refine hno ?_ _ (by decide)
            rw [zw_e, if_neg (by omega)]
          · rw [zw_e, if_pos g3] at eE
            rw [za_p1 (by omega)]
            have hct := (hC (zq_k CA CB c d cn - 1) (by omega)).2.2
            refine br_f (nI_pos (by omega)) ⟨vp_in_nI (by omega) (by decide), ?_⟩
            refine zy_element (c := CT (zq_k CA CB c d cn - 1)) (by rw [nI_clamp (by omega)]; rfl) hs hct (by omega) hwt hQ (fun ele2 els2 k1 k2 => ?_)
            refine nm_r (nI_1 _) (nm_r (e' := nI (P ++ [c, d]).length) (by rw [nI_1, List.length_append]; rfl) ?_)
            exact ih (P ++ [c, d]) Q2 (M ++ [CT (zq_k CA CB c d cn - 1)]) ele2 els2 (by omega) (by rw [eL, List.append_assoc]; rfl) (by rw [eE, List.append_assoc]; rfl) (by simp; omega) k1 (zw_ef_t hf k2)
/-- a side of a comparison -/
def zw_Y (F1 F2 F3 : Nat → Nat) (cn : Nat) (CA CB CT : Nat → Nat) (EA eB fo fl ele els : Nat → Int32) (s : Nat) (L : List Nat) : Prop :=
  za_h fo (64 * s) L ∧ fl s = nI L.length ∧ zw_Q (zw_w F1 F2 F3) ele els s (zw_e cn CA CB CT EA eB L)
def zw_yf (s : Nat) (fo fo' fl fl' ele ele' els els' : Nat → Int32) : Prop :=
  (∀ j, j < 64 * s ∨ 64 * s + 64 ≤ j → fo' j = fo j) ∧ (∀ j, j ≠ s → fl' j = fl j) ∧ zw_ef s ele ele' els els'
theorem zw_Y_k {F1 F2 F3 : Nat → Nat} {cn : Nat} {CA CB CT : Nat → Nat} {EA eB fo fl ele els fo' fl' ele' els' : Nat → Int32} {s q : Nat} {L : List Nat} (h : zw_yf s fo fo' fl fl' ele ele' els els') (hq : q ≠ s) (hl : L.length ≤ 64) (hM : (zw_e cn CA CB CT EA eB L).length ≤ 128) (g : zw_Y F1 F2 F3 cn CA CB CT EA eB fo fl ele els q L) : zw_Y F1 F2 F3 cn CA CB CT EA eB fo' fl' ele' els' q L :=
  ⟨za_h_cg _ _ (fun j h1 h2 => h.1 j (by omega)) g.1, by rw [h.2.1 q hq]; exact g.2.1, zw_Q_k h.2.2 hq hM g.2.2⟩
theorem zy_analyse {post : SY → Prop} {A B : Nat → Nat} {s : Nat} {S : List Nat} (hs : s < 2) (hO : ∀ x, x < 48 → O x < 10) (hW : zd_W W A B) (hG : zd_G W A B) (hW2 : ∀ c, c < 48 → W c ≤ 2) (hA : ∀ c, c < 48 → W c ≠ 0 → pA c = nI (A c) ∧ pB c = nI (B c) - 1)
    (hcn : cn ≤ 6) (hC : ∀ j, j < 6 → CA j < 48 ∧ CB j < 48 ∧ CT j < 48) (hE : zr_E EA eB yB) (hwt : zr_W wt F1 F2 F3)
    (hS : za_h yr 0 S) (hS2 : ∀ x ∈ S, x < 48) (hS3 : S.length ≤ 16)
    (H : ∀ nn' yr' fo' fl' ele' els', zw_Y F1 F2 F3 cn CA CB CT EA eB fo' fl' ele' els' s (zn_f O W A B 1 S) → zw_yf s fo fo' fl fl' ele ele' els els' → post ((nI cn), rs, nn', (za_F O), (za_F W), pA, pB, (za_F LO), (za_F UA), UB, LA, (za_F KI), wt, EA, yB, (za_F DI), E, (za_F CA), (za_F CB), (za_F CT), lo, (za_F T), (za_F LN), re, yr', fo', fl', ele', els', eb, yl, se, pg, yo)) : wpY_analyse post ((nI cn), rs, (nI S.length), (za_F O), (za_F W), pA, pB, (za_F LO), (za_F UA), UB, LA, (za_F KI), wt, EA, yB, (za_F DI), E, (za_F CA), (za_F CB), (za_F CT), lo, (za_F T), (za_F LN), re, yr, fo, fl, ele, els, eb, yl, se, pg, yo) (nI s) := by
  have hv : vp_in (nI s) 2 := vp_in_nI hs (by decide)
  have esn : (nI s).toNatClampNeg = s := nI_clamp (by omega)
  have hle := zn_f_le (O := O) hG (Or.inl rfl) hS2 hS3
  have hlt := zn_f_lt (O := O) (m := 1) hW hS2
  unfold wpY_analyse
  dsimp only
  refine zy_normalize (f := 0) (by omega) hO hW hG hW2 hA hS hS2 hS3 (fun yr1 g1 => ?_)
  have en : zn_n O W A B E 0 S = zn_f O W A B 1 S := rfl
  rw [en] at g1 ⊢
  generalize zn_f O W A B 1 S = L at g1 hle hlt H ⊢
  refine ⟨hv, nm_r (e' := upd fl s (nI L.length)) (by rw [esn]) ⟨hv, nm_r (e' := upd els s (nI 0)) (by rw [esn]; rfl) ?_⟩⟩
  have key : ∀ (rest P : List Nat) (fo' : Nat → Int32) (n : Nat), rest.length < n → L = P ++ rest → za_h fo' (64 * s) P → (∀ j, j < 64 * s ∨ 64 * s + 64 ≤ j → fo' j = fo j) → wY_analyse_26 post (nI s) 0 (nI cn) rs (nI L.length) n (nI P.length) (za_F O) (za_F W) pA pB (za_F LO) (za_F UA) UB LA (za_F KI) wt EA yB (za_F DI) E (za_F CA) (za_F CB) (za_F CT) lo (za_F T) (za_F LN) re yr1 fo' (upd fl s (nI L.length)) ele (upd els s (nI 0)) eb yl se pg yo := by
    intro rest
    induction rest with
    | nil =>
      intro P fo' n hn hp h1 h2
      obtain ⟨n, rfl⟩ : ∃ k, n = k + 1 := ⟨n - 1, by omega⟩
      rw [List.append_nil] at hp
      refine pk_le L.length P.length (fun _ => ⟨L.length + 1, ?_⟩) (fun h => by rw [hp] at h; omega) rfl rfl (by omega) (by rw [← hp]; omega)
      refine zy_an57 (ele := ele) (els := upd els s (nI 0)) hs hcn hC hE hwt g1 hle hlt (fun ele' els' k1 k2 => ?_) (L.length + 1) [] L [] ele (upd els s (nI 0)) (by omega) rfl rfl (by simp) ⟨pk_us, fun l _ => trivial⟩ zw_ef_r
      refine H _ _ fo' _ ele' els' ⟨by rw [hp]; exact h1, pk_us, k1⟩ ⟨h2, fun j hj => pk_un hj, k2.1, fun j hj => by rw [k2.2 j hj, pk_un hj]⟩
    | cons x xs ih =>
      intro P fo' n hn hp h1 h2
      rw [List.length_cons] at hn
      obtain ⟨n, rfl⟩ : ∃ k, n = k + 1 := ⟨n - 1, by omega⟩
      have hl2 : L.length = P.length + xs.length + 1 := by rw [hp, List.length_append, List.length_cons]; omega
      have ex : yr1 (nI P.length).toNatClampNeg = nI x := by
        rw [nI_clamp (by omega)]
        rw [hp, za_h_app] at g1
        have := g1.2.1; rw [Nat.zero_add] at this; exact this
      refine pk_le L.length P.length (fun h => by omega) (fun _ => ⟨vp_in_nI (by omega) (by decide), by rw [za_x64]; exact vp_in_nI (by omega) (by decide), ?_⟩)
      refine nm_r (e' := upd fo' (64 * s + P.length) (nI x)) (by rw [ex, za_x64, nI_clamp (by omega)]) ?_
      refine nm_r (e' := nI (P ++ [x]).length) (by rw [nI_1, List.length_append]; rfl) ?_
      exact ih (P ++ [x]) _ n (by omega) (by rw [hp, List.append_assoc]; rfl) (za_h_snoc h1) (fun j hj => by rw [pk_un (by omega)]; exact h2 j hj)
  exact ⟨L.length + 1, key L [] fo (L.length + 1) (by omega) rfl trivial (fun _ _ => rfl)⟩
end
end
section
section
variable {cn : Nat} {rs nn : Int32} {O W LO UA KI F1 F2 F3 DI CA CB CT T LN : Nat → Nat} {E UB LA EA pA pB wt yB lo re yr fo fl ele els eb yl se pg yo : Nat → Int32}
variable {eB : Nat → Int32}
theorem zw_Qr {w : Nat → Nat → Nat} {ele els : Nat → Int32} {s l e : Nat} {M P Q : List Nat} {x : Int32} (hQ : zw_Q w ele els s M) (hM : M = P ++ e :: Q) (hl : l < 3) (hx : x = nI (384 * s + 128 * l + P.length)) (hs : s < 2) (hlen : M.length ≤ 128) : vp_in x 768 ∧ ele x.toNatClampNeg = nI (w (l + 1) e) := by
  have h := hQ.2 l hl
  have hl2 : P.length + Q.length + 1 = M.length := by rw [hM, List.length_append, List.length_cons]; omega
  rw [hM, List.map_append, za_h_app] at h
  have h2 := h.2.1
  rw [List.length_map] at h2
  rw [hx, nI_clamp (by omega)]
  exact ⟨vp_in_nI (by omega) (by decide), h2⟩
theorem zy_nextW {post : Int32 → Prop} {s l : Nat} {M P Q : List Nat} {x : Int32} (hs : s < 2) (hl : l < 3) (hlen : M.length ≤ 128) (hw : ∀ c, c < 48 → zw_w F1 F2 F3 (l + 1) c < 100) (hM2 : ∀ e ∈ M, e < 48) (hQ : zw_Q (zw_w F1 F2 F3) ele els s M) (hM : M = P ++ Q) (hx : x = nI P.length)
    (H : ∀ P' Q', M = P' ++ Q' → zw_f (zw_w F1 F2 F3 (l + 1)) Q' = zw_f (zw_w F1 F2 F3 (l + 1)) Q → (Q' = [] ∨ ∃ e r, Q' = e :: r ∧ zw_w F1 F2 F3 (l + 1) e ≠ 0) → Q'.length ≤ Q.length → post (nI P'.length)) : wpY_nextWeight post ((nI cn), rs, nn, (za_F O), (za_F W), pA, pB, (za_F LO), (za_F UA), UB, LA, (za_F KI), wt, EA, yB, (za_F DI), E, (za_F CA), (za_F CB), (za_F CT), lo, (za_F T), (za_F LN), re, yr, fo, fl, ele, els, eb, yl, se, pg, yo) (nI s) (nI l) x := by
  have hv : vp_in (nI s) 2 := vp_in_nI hs (by decide)
  have eel : els (nI s).toNatClampNeg = nI M.length := by rw [nI_clamp (by omega)]; exact hQ.1
  have key : ∀ (Q' P' : List Nat) (n : Nat), Q'.length < n → M = P' ++ Q' → zw_f (zw_w F1 F2 F3 (l + 1)) Q' = zw_f (zw_w F1 F2 F3 (l + 1)) Q → Q'.length ≤ Q.length → wY_nextWeight_3 post (nI s) (nI l) (nI cn) rs nn (za_F O) (za_F W) pA pB (za_F LO) (za_F UA) UB LA (za_F KI) wt EA yB (za_F DI) E (za_F CA) (za_F CB) (za_F CT) lo (za_F T) (za_F LN) re yr fo fl ele els eb yl se pg yo n (nI P'.length) := by
    intro Q'
    induction Q' with
    | nil =>
      intro P' n hn e1 e2 e3
      obtain ⟨n, rfl⟩ : ∃ k, n = k + 1 := ⟨n - 1, by omega⟩
      have hl1 : M.length = P'.length := by rw [e1, List.append_nil]
      exact ⟨hv, pk_le M.length P'.length (fun _ => H P' [] e1 e2 (Or.inl rfl) e3) (fun g => by omega) eel rfl⟩
    | cons e r ih =>
      intro P' n hn e1 e2 e3
      rw [List.length_cons] at hn
      obtain ⟨n, rfl⟩ : ∃ k, n = k + 1 := ⟨n - 1, by omega⟩
      have hl1 : M.length = P'.length + r.length + 1 := by rw [e1, List.length_append, List.length_cons]; omega
      have he : e < 48 := hM2 e (by rw [e1]; simp)
      have hwe := hw e he
      have ei : 384 * nI s + 128 * nI l + nI P'.length = nI (384 * s + 128 * l + P'.length) := by
        rw [show (384 : Int32) * nI s = nI (384 * s) from pk_mul 384 s, show (128 : Int32) * nI l = nI (128 * l) from pk_mul 128 l, nI_add, nI_add]
      obtain ⟨b1, b2⟩ := zw_Qr hQ e1 hl ei hs hlen
      refine ⟨hv, pk_le M.length P'.length (fun g => by omega) (fun _ => ⟨b1, ?_⟩) eel rfl⟩
      refine pk_eq (zw_w F1 F2 F3 (l + 1) e) 0 (fun g => nm_r (e' := nI (P' ++ [e]).length) (by rw [nI_1, List.length_append]; rfl) ?_) (fun g => H P' (e :: r) e1 e2 (Or.inr ⟨e, r, rfl, g⟩) e3) b2 rfl
      refine ih (P' ++ [e]) n (by omega) (by rw [e1, List.append_assoc]; rfl) ?_ (by rw [List.length_cons] at e3; omega)
      rw [← e2]
      conv => rhs; unfold zw_f
      rw [if_pos g]
  rw [hx]
  exact ⟨Q.length + 1, key Q P _ (by omega) hM rfl (Nat.le_refl _)⟩
theorem zy_cmpKeys {post : Int32 → Prop} {l : Nat} {M0 M1 : List Nat} (hl : l < 3) (hlen0 : M0.length ≤ 128) (hlen1 : M1.length ≤ 128) (hw : ∀ c, c < 48 → zw_w F1 F2 F3 (l + 1) c < 100) (hm0 : ∀ e ∈ M0, e < 48) (hm1 : ∀ e ∈ M1, e < 48)
    (h0 : zw_Q (zw_w F1 F2 F3) ele els 0 M0) (h1 : zw_Q (zw_w F1 F2 F3) ele els 1 M1)
    (H : post (zw_c (zw_f (zw_w F1 F2 F3 (l + 1)) M0) (zw_f (zw_w F1 F2 F3 (l + 1)) M1))) : wpY_compareKeys post ((nI cn), rs, nn, (za_F O), (za_F W), pA, pB, (za_F LO), (za_F UA), UB, LA, (za_F KI), wt, EA, yB, (za_F DI), E, (za_F CA), (za_F CB), (za_F CT), lo, (za_F T), (za_F LN), re, yr, fo, fl, ele, els, eb, yl, se, pg, yo) (nI l) := by
  have key : ∀ (n : Nat) (P0 Q0 P1 Q1 : List Nat), Q0.length < n → M0 = P0 ++ Q0 → M1 = P1 ++ Q1 → (Q0 = [] ∨ ∃ e r, Q0 = e :: r ∧ zw_w F1 F2 F3 (l + 1) e ≠ 0) → (Q1 = [] ∨ ∃ e r, Q1 = e :: r ∧ zw_w F1 F2 F3 (l + 1) e ≠ 0) →
      zw_c (zw_f (zw_w F1 F2 F3 (l + 1)) M0) (zw_f (zw_w F1 F2 F3 (l + 1)) M1) = zw_c (zw_f (zw_w F1 F2 F3 (l + 1)) Q0) (zw_f (zw_w F1 F2 F3 (l + 1)) Q1) → wY_compareKeys_16 post (nI l) (nI cn) rs nn (za_F O) (za_F W) pA pB (za_F LO) (za_F UA) UB LA (za_F KI) wt EA yB (za_F DI) E (za_F CA) (za_F CB) (za_F CT) lo (za_F T) (za_F LN) re yr fo fl ele els eb yl se pg yo n (nI P0.length) (nI P1.length) := by
    intro n
    induction n with
    | zero => intro P0 Q0 P1 Q1 h; omega
    | succ n ih =>
      intro P0 Q0 P1 Q1 hn e0 e1 g0 g1 ec
      have l0 : M0.length = P0.length + Q0.length := by rw [e0, List.length_append]
      have l1 : M1.length = P1.length + Q1.length := by rw [e1, List.length_append]
      have s0 : els 0 = nI M0.length := h0.1
      have s1 : els 1 = nI M1.length := h1.1
      rw [ec] at H
      rcases g0 with g0 | ⟨a, r0, g0, w0⟩
      · subst g0
        rw [List.length_nil] at l0
        refine pk_le M0.length P0.length (fun _ => ?_) (fun g => by omega) s0 rfl
        refine pk_le M0.length P0.length (fun _ => ?_) (fun g => by omega) s0 rfl
        rcases g1 with g1 | ⟨b, r1, g1, w1⟩
        · subst g1
          rw [List.length_nil] at l1
          exact pk_le M1.length P1.length (fun _ => H) (fun g => by omega) s1 rfl
        · subst g1
          rw [List.length_cons] at l1
          have ef : zw_f (zw_w F1 F2 F3 (l + 1)) (b :: r1) = zw_w F1 F2 F3 (l + 1) b :: zw_f (zw_w F1 F2 F3 (l + 1)) r1 := by rw [zw_f, if_neg w1]
          rw [ef] at H
          exact pk_le M1.length P1.length (fun g => by omega) (fun _ => H) s1 rfl
      · subst g0
        rw [List.length_cons] at l0 hn
        have ef0 : zw_f (zw_w F1 F2 F3 (l + 1)) (a :: r0) = zw_w F1 F2 F3 (l + 1) a :: zw_f (zw_w F1 F2 F3 (l + 1)) r0 := by rw [zw_f, if_neg w0]
        refine pk_le M0.length P0.length (fun g => by omega) (fun _ => ?_) s0 rfl
        rcases g1 with g1 | ⟨b, r1, g1, w1⟩
        · subst g1
          rw [List.length_nil] at l1
          rw [ef0] at H
          refine pk_le M1.length P1.length (fun _ => ?_) (fun g => by omega) s1 rfl
          exact pk_le M0.length P0.length (fun g => by omega) (fun _ => H) s0 rfl
        · subst g1
          rw [List.length_cons] at l1
          have ef1 : zw_f (zw_w F1 F2 F3 (l + 1)) (b :: r1) = zw_w F1 F2 F3 (l + 1) b :: zw_f (zw_w F1 F2 F3 (l + 1)) r1 := by rw [zw_f, if_neg w1]
          have wa := hw a (hm0 a (by rw [e0]; simp))
          have wb := hw b (hm1 b (by rw [e1]; simp))
          have ei0 : 128 * nI l + nI P0.length = nI (384 * 0 + 128 * l + P0.length) := by
            rw [show (128 : Int32) * nI l = nI (128 * l) from pk_mul 128 l, nI_add]; exact congrArg nI (by omega)
          have ei1 : 384 + 128 * nI l + nI P1.length = nI (384 * 1 + 128 * l + P1.length) := by
            rw [show (128 : Int32) * nI l = nI (128 * l) from pk_mul 128 l, show (384 : Int32) + nI (128 * l) = nI (384 + 128 * l) from nI_add 384 _, nI_add]
          obtain ⟨b1, b2⟩ := zw_Qr h0 e0 hl ei0 (by omega) hlen0
          obtain ⟨c1, c2⟩ := zw_Qr h1 e1 hl ei1 (by omega) hlen1
          refine pk_le M1.length P1.length (fun g => by omega) (fun _ => ⟨b1, nm_r b2 ⟨c1, nm_r c2 ?_⟩⟩) s1 rfl
          rw [ef0, ef1, zw_c] at H
          rw [ef0, ef1, zw_c] at ec
          refine pk_eq (zw_w F1 F2 F3 (l + 1) a) (zw_w F1 F2 F3 (l + 1) b) (fun g => ?_) (fun g => ?_)
          · rw [if_pos g] at ec
            refine zy_nextW (s := 0) (P := P0 ++ [a]) (Q := r0) (by omega) hl hlen0 hw hm0 h0 (by rw [e0, List.append_assoc]; rfl) (by rw [nI_1, List.length_append]; rfl) (fun P0' Q0' k1 k2 k3 k4 => ?_)
            refine zy_nextW (s := 1) (P := P1 ++ [b]) (Q := r1) (by omega) hl hlen1 hw hm1 h1 (by rw [e1, List.append_assoc]; rfl) (by rw [nI_1, List.length_append]; rfl) (fun P1' Q1' m1 m2 m3 m4 => ?_)
            exact ih P0' Q0' P1' Q1' (by omega) k1 m1 k3 m3 (by rw [ec, k2, m2])
          · rw [if_neg g] at H
            refine pk_le (zw_w F1 F2 F3 (l + 1) b) (zw_w F1 F2 F3 (l + 1) a) (fun g2 => ?_) (fun g2 => ?_)
            · rw [if_neg (by omega)] at H; exact H
            · rw [if_pos g2] at H; exact H
  unfold wpY_compareKeys
  dsimp only
  refine zy_nextW (s := 0) (P := []) (Q := M0) (by omega) hl hlen0 hw hm0 h0 rfl rfl (fun P0' Q0' k1 k2 k3 k4 => ?_)
  refine zy_nextW (s := 1) (P := []) (Q := M1) (by omega) hl hlen1 hw hm1 h1 rfl rfl (fun P1' Q1' m1 m2 m3 m4 => ⟨Q0'.length + 1, ?_⟩)
  exact key _ P0' Q0' P1' Q1' (by omega) k1 m1 k3 m3 (by rw [k2, m2])
theorem zy_cmpForms {post : Int32 → Prop} {L0 L1 : List Nat} (h0 : za_h fo 0 L0) (h1 : za_h fo 64 L1) (hl0 : L0.length ≤ 64) (hl1 : L1.length ≤ 64) (f0 : fl 0 = nI L0.length) (f1 : fl 1 = nI L1.length) (hx0 : ∀ x ∈ L0, x < 48) (hx1 : ∀ x ∈ L1, x < 48)
    (H : post (zw_c L0 L1)) : wpY_compareForms post ((nI cn), rs, nn, (za_F O), (za_F W), pA, pB, (za_F LO), (za_F UA), UB, LA, (za_F KI), wt, EA, yB, (za_F DI), E, (za_F CA), (za_F CB), (za_F CT), lo, (za_F T), (za_F LN), re, yr, fo, fl, ele, els, eb, yl, se, pg, yo) := by
  have key : ∀ (Q0 Q1 P0 P1 : List Nat) (n : Nat), Q0.length < n → L0 = P0 ++ Q0 → L1 = P1 ++ Q1 → P0.length = P1.length → zw_c L0 L1 = zw_c Q0 Q1 → wY_compareForms_2 post (nI cn) rs nn (za_F O) (za_F W) pA pB (za_F LO) (za_F UA) UB LA (za_F KI) wt EA yB (za_F DI) E (za_F CA) (za_F CB) (za_F CT) lo (za_F T) (za_F LN) re yr fo fl ele els eb yl se pg yo n (nI P0.length) := by
    intro Q0
    induction Q0 with
    | nil =>
      intro Q1 P0 P1 n hn e0 e1 ep ec
      obtain ⟨n, rfl⟩ : ∃ k, n = k + 1 := ⟨n - 1, by omega⟩
      have l0 : L0.length = P0.length := by rw [e0, List.append_nil]
      have l1 : L1.length = P1.length + Q1.length := by rw [e1, List.length_append]
      rw [ec] at H
      refine pk_le L0.length P0.length (fun _ => ?_) (fun g => by omega) f0 rfl
      cases Q1 with
      | nil =>
        rw [List.length_nil] at l1
        exact pk_le L1.length L0.length (fun _ => pk_le L0.length L1.length (fun _ => H) (fun g => by omega) f0 f1) (fun g => by omega) f1 f0
      | cons y ys =>
        rw [List.length_cons] at l1
        exact pk_le L1.length L0.length (fun g => by omega) (fun _ => H) f1 f0
    | cons x xs ih =>
      intro Q1 P0 P1 n hn e0 e1 ep ec
      rw [List.length_cons] at hn
      obtain ⟨n, rfl⟩ : ∃ k, n = k + 1 := ⟨n - 1, by omega⟩
      have l0 : L0.length = P0.length + xs.length + 1 := by rw [e0, List.length_append, List.length_cons]; omega
      have l1 : L1.length = P1.length + Q1.length := by rw [e1, List.length_append]
      refine pk_le L0.length P0.length (fun g => by omega) (fun _ => ?_) f0 rfl
      cases Q1 with
      | nil =>
        rw [List.length_nil] at l1
        rw [ec] at H
        refine pk_le L1.length P0.length (fun _ => ?_) (fun g => by omega) f1 rfl
        exact pk_le L1.length L0.length (fun _ => pk_le L0.length L1.length (fun g => by omega) (fun _ => H) f0 f1) (fun g => by omega) f1 f0
      | cons y ys =>
        rw [List.length_cons] at l1
        have hx := hx0 x (by rw [e0]; simp)
        have hy := hx1 y (by rw [e1]; simp)
        have r0 := h0
        have r1 := h1
        rw [e0, za_h_app] at r0
        rw [e1, za_h_app] at r1
        have a0 : fo (nI P0.length).toNatClampNeg = nI x := by
          rw [nI_clamp (by omega)]
          have := r0.2.1
          rw [Nat.zero_add] at this; exact this
        have e64 : (64 : Int32) + nI P0.length = nI (64 + P0.length) := nI_add 64 _
        have a1 : fo (64 + nI P0.length).toNatClampNeg = nI y := by
          rw [e64, nI_clamp (by omega), ep]
          exact r1.2.1
        have hv0 : vp_in (nI P0.length) 128 := vp_in_nI (by omega) (by decide)
        have hv1 : vp_in (64 + nI P0.length) 128 := by rw [e64]; exact vp_in_nI (by omega) (by decide)
        refine pk_le L1.length P0.length (fun g => by omega) (fun _ => ⟨hv0, hv1, ?_⟩) f1 rfl
        refine pk_eq x y (fun g => nm_r (e' := nI (P0 ++ [x]).length) (by rw [nI_1, List.length_append]; rfl) ?_) (fun g => ⟨hv0, hv1, ?_⟩) a0 a1
        · refine ih ys (P0 ++ [x]) (P1 ++ [y]) n (by omega) (by rw [e0, List.append_assoc]; rfl) (by rw [e1, List.append_assoc]; rfl) (by rw [List.length_append, List.length_append, ep]; rfl) ?_
          rw [ec, zw_c, if_pos g]
        · rw [ec, zw_c, if_neg g] at H
          refine pk_le y x (fun g2 => ?_) (fun g2 => ?_) a1 a0
          · rw [if_neg (by omega)] at H; exact H
          · rw [if_pos g2] at H; exact H
  exact ⟨L0.length + 1, key L0 L1 [] [] (L0.length + 1) (by omega) rfl rfl rfl rfl⟩
theorem zy_cmpSides {post : Int32 → Prop} {level : Nat} {L0 L1 : List Nat} (hv1 : 0 < level) (hv4 : level < 5) (hw : ∀ l c, c < 48 → zw_w F1 F2 F3 l c < 100) (hcn : cn ≤ 6) (hC : ∀ j, j < 6 → CA j < 48 ∧ CB j < 48 ∧ CT j < 48) (hE : zw_E EA eB)
    (h0 : zw_Y F1 F2 F3 cn CA CB CT EA eB fo fl ele els 0 L0) (h1 : zw_Y F1 F2 F3 cn CA CB CT EA eB fo fl ele els 1 L1) (hle0 : L0.length ≤ 64) (hle1 : L1.length ≤ 64) (hx0 : ∀ x ∈ L0, x < 48) (hx1 : ∀ x ∈ L1, x < 48)
    (H : post (zw_o F1 F2 F3 cn CA CB CT EA eB level L0 L1)) : wpY_compareSides post ((nI cn), rs, nn, (za_F O), (za_F W), pA, pB, (za_F LO), (za_F UA), UB, LA, (za_F KI), wt, EA, yB, (za_F DI), E, (za_F CA), (za_F CB), (za_F CT), lo, (za_F T), (za_F LN), re, yr, fo, fl, ele, els, eb, yl, se, pg, yo) (nI level) := by
  have E0 := zw_e_lt hcn hC hE L0 hx0
  have E1 := zw_e_lt hcn hC hE L1 hx1
  have h30 : (level = 4 → post (zw_c L0 L1)) → (level ≠ 4 → post 0) → wY_compareSides_30 post (nI level) (nI cn) rs nn (za_F O) (za_F W) pA pB (za_F LO) (za_F UA) UB LA (za_F KI) wt EA yB (za_F DI) E (za_F CA) (za_F CB) (za_F CT) lo (za_F T) (za_F LN) re yr fo fl ele els eb yl se pg yo := by
    intro g1 g2
    refine pk_eq level 4 (fun e => ?_) (fun e => g2 e)
    exact zy_cmpForms h0.1 h1.1 hle0 hle1 h0.2.1 h1.2.1 hx0 hx1 (g1 e)
  have step : ∀ (l n : Nat), l < 3 → l < level →
      (zw_c (zw_f (zw_w F1 F2 F3 (l + 1)) (zw_e cn CA CB CT EA eB L0)) (zw_f (zw_w F1 F2 F3 (l + 1)) (zw_e cn CA CB CT EA eB L1)) = 0 → wY_compareSides_2 post (nI level) (nI cn) rs nn (za_F O) (za_F W) pA pB (za_F LO) (za_F UA) UB LA (za_F KI) wt EA yB (za_F DI) E (za_F CA) (za_F CB) (za_F CT) lo (za_F T) (za_F LN) re yr fo fl ele els eb yl se pg yo n (nI (l + 1))) →
      (zw_c (zw_f (zw_w F1 F2 F3 (l + 1)) (zw_e cn CA CB CT EA eB L0)) (zw_f (zw_w F1 F2 F3 (l + 1)) (zw_e cn CA CB CT EA eB L1)) ≠ 0 → post (zw_c (zw_f (zw_w F1 F2 F3 (l + 1)) (zw_e cn CA CB CT EA eB L0)) (zw_f (zw_w F1 F2 F3 (l + 1)) (zw_e cn CA CB CT EA eB L1)))) →
      wY_compareSides_2 post (nI level) (nI cn) rs nn (za_F O) (za_F W) pA pB (za_F LO) (za_F UA) UB LA (za_F KI) wt EA yB (za_F DI) E (za_F CA) (za_F CB) (za_F CT) lo (za_F T) (za_F LN) re yr fo fl ele els eb yl se pg yo (n + 1) (nI l) := by
    intro l n hl3 hll HJ HP
    refine pk_le 3 l (fun e => by omega) (fun _ => pk_le level l (fun e => by omega) (fun _ => ?_))
    refine zy_cmpKeys hl3 (by omega) (by omega) (hw (l + 1)) E0.1 E1.1 h0.2.2 h1.2.2 ?_
    exact br_c (fun e => nm_r (nI_1 l) (HJ e)) (fun e => HP e)
  unfold zw_o zw_l at H
  refine ⟨4, ?_⟩
  refine step 0 3 (by omega) (by omega) (fun z1 => ?_) (fun z1 => ?_)
  · rw [if_neg (fun q => q z1)] at H
    by_cases e1 : level = 1
    · rw [if_pos e1] at H
      refine pk_le 3 1 (fun e => by omega) (fun _ => pk_le level 1 (fun _ => ?_) (fun e => by omega))
      exact h30 (fun e => by omega) (fun _ => H)
    · rw [if_neg e1] at H
      refine step 1 2 (by omega) (by omega) (fun z2 => ?_) (fun z2 => ?_)
      · rw [if_neg (fun q => q z2)] at H
        by_cases e2 : level = 2
        · rw [if_pos e2] at H
          refine pk_le 3 2 (fun e => by omega) (fun _ => pk_le level 2 (fun _ => ?_) (fun e => by omega))
          exact h30 (fun e => by omega) (fun _ => H)
        · rw [if_neg e2] at H
          refine step 2 1 (by omega) (by omega) (fun z3 => ?_) (fun z3 => ?_)
          · rw [if_neg (fun q => q z3)] at H
            refine pk_le 3 3 (fun _ => ?_) (fun e => by omega)
            refine h30 (fun e => ?_) (fun e => ?_)
            · rw [if_neg (by omega)] at H; exact H
            · rw [if_pos (by omega)] at H; exact H
          · rw [if_pos z3] at H; exact H
      · rw [if_pos z2] at H; exact H
  · rw [if_pos z1] at H; exact H
end
end
section
section
variable {cn : Nat} {rg rs nn : Int32} {O W LO UA KI F1 F2 F3 DI CA CB CT T LN : Nat → Nat} {E UB LA EA dA dB eB fu fz pr wh ro sz em hg lv bh rl rr rv ou nx sl pA pB wt yB lo re yr fo fl ele els eb yl se pg yo : Nat → Int32}
variable {A B : Nat → Nat} {R : List Nat} {k : Nat}
theorem zr_Ex (h : zr_St cn O W LO UA KI F1 F2 F3 DI CA CB CT T LN E UB LA EA dA dB eB fu fz pr wh pA pB wt yB A B) : zw_E EA eB := fun c hc => by
  rcases h.2.2.2.2.2.2.1 c hc with e | ⟨x, y, hx, hy, e1, e2, _⟩
  · exact Or.inl e
  · exact Or.inr ⟨x, y, hx, hy, e1, e2⟩
theorem zr_Ey (h : zr_St cn O W LO UA KI F1 F2 F3 DI CA CB CT T LN E UB LA EA dA dB eB fu fz pr wh pA pB wt yB A B) : zr_E EA eB yB := h.2.2.2.2.2.2.1
theorem zr_wt (h : zr_St cn O W LO UA KI F1 F2 F3 DI CA CB CT T LN E UB LA EA dA dB eB fu fz pr wh pA pB wt yB A B) : zr_W wt F1 F2 F3 := h.2.2.2.2.2.2.2.1
theorem zr_cn (h : zr_St cn O W LO UA KI F1 F2 F3 DI CA CB CT T LN E UB LA EA dA dB eB fu fz pr wh pA pB wt yB A B) : cn ≤ 6 := h.2.1.1
theorem zr_cC (h : zr_St cn O W LO UA KI F1 F2 F3 DI CA CB CT T LN E UB LA EA dA dB eB fu fz pr wh pA pB wt yB A B) : ∀ j, j < 6 → CA j < 48 ∧ CB j < 48 ∧ CT j < 48 := h.2.1.2
theorem zr_w (h : zr_St cn O W LO UA KI F1 F2 F3 DI CA CB CT T LN E UB LA EA dA dB eB fu fz pr wh pA pB wt yB A B) : ∀ l c, c < 48 → zw_w F1 F2 F3 l c < 100 := fun l c hc => by
  have g := (h.1 c hc).2.1
  unfold zw_w
  split
  · omega
  · split <;> omega
theorem zr_seg (h : zr_St cn O W LO UA KI F1 F2 F3 DI CA CB CT T LN E UB LA EA dA dB eB fu fz pr wh pA pB wt yB A B) {t fr to : Nat} (ht : t < 2) (hto : to ≤ LN t) : (∀ x ∈ zt_s T (16 * t + fr) (to - fr), x < 48) ∧ (zt_s T (16 * t + fr) (to - fr)).length ≤ 16 := by
  have hl := zr_LN h t ht
  refine ⟨zt_s_lt (fun j h1 h2 => zr_Tx h j (by omega)), ?_⟩
  rw [zt_s_len]; omega
theorem zx_key53 {post : Int32 → SX → Prop} {l kk : Nat} {L : List Nat} (hl1 : l < 4) (hl0 : 0 < l) (hkk : kk < 2 ^ 31) (hw : ∀ c, c < 48 → zw_w F1 F2 F3 l c < 100) (hcn : cn ≤ 6) (hC : ∀ j, j < 6 → CA j < 48 ∧ CB j < 48 ∧ CT j < 48) (hE : zw_E EA eB)
    (h0 : zx_row ro sz 0 L) (hle : L.length ≤ 64) (hx : ∀ x ∈ L, x < 48) :
    ∀ (xs : List Nat) (x j : Nat) (rem : List Nat) (nx sl : Nat → Int32) (n : Nat), xs.length + 1 < n → j ≤ kk → 0 < x → x < 100 → zw_rd cn CA CB CT EA eB nx sl 0 L rem → zw_f (zw_w F1 F2 F3 l) rem = xs →
    (∀ nx' sl', post (nI ((x :: xs).getD (kk - j) 0)) ((nI cn), rg, (za_F O), (za_F W), dA, dB, E, (za_F LO), (za_F UA), UB, LA, (za_F KI), (za_F F1), (za_F F2), (za_F F3), (za_F DI), EA, eB, (za_F CA), (za_F CB), (za_F CT), fu, fz, pr, wh, (za_F T), (za_F LN), ro, sz, em, hg, lv, bh, rl, rr, rv, ou, nx', sl')) → wX_key_53 post (nI l) (nI kk) n (nI x) (nI j) (nI cn) rg (za_F O) (za_F W) dA dB E (za_F LO) (za_F UA) UB LA (za_F KI) (za_F F1) (za_F F2) (za_F F3) (za_F DI) EA eB (za_F CA) (za_F CB) (za_F CT) fu fz pr wh (za_F T) (za_F LN) ro sz em hg lv bh rl rr rv ou nx sl := by
  intro xs
  induction xs with
  | nil =>
    intro x j rem nx sl n hn hj hx0 hx1 hR hf H
    rw [List.length_nil] at hn
    obtain ⟨n, rfl⟩ : ∃ k, n = k + 1 + 1 := ⟨n - 2, by omega⟩
    refine pk_le kk j (fun g => ?_) (fun g => br_f (nI_pos (by omega)) ?_)
    · have := H nx sl
      rw [show kk - j = 0 by omega] at this
      exact br_t (nI_pos' (by omega)) this
    · refine zx_read (r := 0) (by omega) hl1 hl0 hw hcn hC hE h0 hle hx hR (fun _ nx1 sl1 k1 k2 => nm_r (nI_1 j) ?_) (fun y ys k0 => by rw [hf] at k0; cases k0)
      have hz : ([x] : List Nat).getD (kk - j) 0 = 0 := by
        obtain ⟨d, hd⟩ : ∃ d, kk - j = d + 1 := ⟨kk - j - 1, by omega⟩
        rw [hd]; rfl
      have := H nx1 sl1
      rw [hz] at this
      have h78 : wX_key_78 post (-1) (nI cn) rg (za_F O) (za_F W) dA dB E (za_F LO) (za_F UA) UB LA (za_F KI) (za_F F1) (za_F F2) (za_F F3) (za_F DI) EA eB (za_F CA) (za_F CB) (za_F CT) fu fz pr wh (za_F T) (za_F LN) ro sz em hg lv bh rl rr rv ou nx1 sl1 := br_f (by decide) this
      exact pk_le kk (j + 1) (fun _ => h78) (fun _ => br_t (by decide) h78)
  | cons y ys ih =>
    intro x j rem nx sl n hn hj hx0 hx1 hR hf H
    rw [List.length_cons] at hn
    obtain ⟨n, rfl⟩ : ∃ k, n = k + 1 := ⟨n - 1, by omega⟩
    refine pk_le kk j (fun g => ?_) (fun g => br_f (nI_pos (by omega)) ?_)
    · have := H nx sl
      rw [show kk - j = 0 by omega] at this
      exact br_t (nI_pos' (by omega)) this
    · refine zx_read (r := 0) (by omega) hl1 hl0 hw hcn hC hE h0 hle hx hR (fun k0 => by rw [hf] at k0; cases k0) (fun y' ys' k0 p1 p2 nx1 sl1 rem' k1 k2 k3 => nm_r (nI_1 j) ?_)
      rw [hf] at k0
      injection k0 with k0a k0b
      subst k0a
      subst k0b
      refine ih y (j + 1) rem' nx1 sl1 n (by omega) (by omega) p1 p2 k1 k2 (fun nx' sl' => ?_)
      have := H nx' sl'
      rw [show kk - j = (kk - (j + 1)) + 1 by omega] at this
      exact this
theorem zy_key53 {post : Int32 → SY → Prop} {l kk : Nat} {M : List Nat} (hl1 : l < 3) (hkk : kk < 2 ^ 31) (hlen : M.length ≤ 128) (hw : ∀ c, c < 48 → zw_w F1 F2 F3 (l + 1) c < 100) (hM2 : ∀ e ∈ M, e < 48) (hQ : zw_Q (zw_w F1 F2 F3) ele els 0 M) :
    ∀ (n : Nat) (P Q : List Nat) (j : Nat), Q.length < n → j ≤ kk → M = P ++ Q → (Q = [] ∨ ∃ e r, Q = e :: r ∧ zw_w F1 F2 F3 (l + 1) e ≠ 0) →
    post (nI ((zw_f (zw_w F1 F2 F3 (l + 1)) Q).getD (kk - j) 0)) ((nI cn), rs, nn, (za_F O), (za_F W), pA, pB, (za_F LO), (za_F UA), UB, LA, (za_F KI), wt, EA, yB, (za_F DI), E, (za_F CA), (za_F CB), (za_F CT), lo, (za_F T), (za_F LN), re, yr, fo, fl, ele, els, eb, yl, se, pg, yo) → wY_key_53 post (nI (l + 1)) (nI kk) (nI cn) rs nn (za_F O) (za_F W) pA pB (za_F LO) (za_F UA) UB LA (za_F KI) wt EA yB (za_F DI) E (za_F CA) (za_F CB) (za_F CT) lo (za_F T) (za_F LN) re yr fo fl ele els eb yl se pg yo n (nI P.length) (nI j) := by
  have s0 : els 0 = nI M.length := hQ.1
  have e90 : ∀ (P Q : List Nat), M = P ++ Q → (Q = [] ∨ ∃ e r, Q = e :: r ∧ zw_w F1 F2 F3 (l + 1) e ≠ 0) → post (nI ((zw_f (zw_w F1 F2 F3 (l + 1)) Q).getD 0 0)) ((nI cn), rs, nn, (za_F O), (za_F W), pA, pB, (za_F LO), (za_F UA), UB, LA, (za_F KI), wt, EA, yB, (za_F DI), E, (za_F CA), (za_F CB), (za_F CT), lo, (za_F T), (za_F LN), re, yr, fo, fl, ele, els, eb, yl, se, pg, yo) → wY_key_90 post (nI (l + 1)) (nI P.length) (nI cn) rs nn (za_F O) (za_F W) pA pB (za_F LO) (za_F UA) UB LA (za_F KI) wt EA yB (za_F DI) E (za_F CA) (za_F CB) (za_F CT) lo (za_F T) (za_F LN) re yr fo fl ele els eb yl se pg yo := by
    intro P Q e1 g H
    have l0 : M.length = P.length + Q.length := by rw [e1, List.length_append]
    rcases g with g | ⟨e, r, g, w⟩
    · subst g
      rw [List.length_nil] at l0
      exact pk_le M.length P.length (fun _ => H) (fun q => by omega) s0 rfl
    · subst g
      rw [List.length_cons] at l0
      rw [zw_f, if_neg w] at H
      have ei : 128 * (nI (l + 1) - 1) + nI P.length = nI (384 * 0 + 128 * l + P.length) := by
        rw [nI_pred, show (128 : Int32) * nI l = nI (128 * l) from pk_mul 128 l, nI_add]; exact congrArg nI (by omega)
      obtain ⟨b1, b2⟩ := zw_Qr hQ e1 hl1 ei (by omega) hlen
      refine pk_le M.length P.length (fun q => by omega) (fun _ => ⟨b1, ?_⟩) s0 rfl
      rw [b2]; exact H
  intro n
  induction n with
  | zero => intro P Q j h; omega
  | succ n ih =>
    intro P Q j hn hj e1 g H
    have l0 : M.length = P.length + Q.length := by rw [e1, List.length_append]
    refine pk_le kk j (fun q => e90 P Q e1 g (by rw [show kk - j = 0 by omega] at H; exact H)) (fun q => ?_)
    rcases g with g | ⟨e, r, g, w⟩
    · subst g
      rw [List.length_nil] at l0
      exact pk_le M.length P.length (fun _ => e90 P [] e1 (Or.inl rfl) H) (fun q => by omega) s0 rfl
    · subst g
      rw [List.length_cons] at l0 hn
      rw [zw_f, if_neg w, show kk - j = (kk - (j + 1)) + 1 by omega] at H
      refine pk_le M.length P.length (fun q => by omega) (fun _ => ?_) s0 rfl
      rw [nI_pred]
      refine zy_nextW (s := 0) (P := P ++ [e]) (Q := r) (by omega) hl1 hlen hw hM2 hQ (by rw [e1, List.append_assoc]; rfl) (by rw [nI_1, List.length_append]; rfl) (fun P' Q' k1 k2 k3 k4 => nm_r (nI_1 j) ?_)
      refine ih P' Q' (j + 1) (by omega) (by omega) k1 k3 ?_
      rw [k2]; exact H
theorem zv_key (hS : zr_St cn O W LO UA KI F1 F2 F3 DI CA CB CT T LN E UB LA EA dA dB eB fu fz pr wh pA pB wt yB A B) (hR : zr_R R ro sz re rs) (v1 v2 v3 : Int32) : wpX_key (fun r u' => wpY_key (fun r' v' => r' = r ∧ i_Rel (k + 5) u' v') ((nI cn), rs, nn, (za_F O), (za_F W), pA, pB, (za_F LO), (za_F UA), UB, LA, (za_F KI), wt, EA, yB, (za_F DI), E, (za_F CA), (za_F CB), (za_F CT), lo, (za_F T), (za_F LN), re, yr, fo, fl, ele, els, eb, yl, se, pg, yo) v1 v2 v3) ((nI cn), rg, (za_F O), (za_F W), dA, dB, E, (za_F LO), (za_F UA), UB, LA, (za_F KI), (za_F F1), (za_F F2), (za_F F3), (za_F DI), EA, eB, (za_F CA), (za_F CB), (za_F CT), fu, fz, pr, wh, (za_F T), (za_F LN), ro, sz, em, hg, lv, bh, rl, rr, rv, ou, nx, sl) v1 v2 v3 := by
  have hI : (0 : Int32) = 0 ∧ i_Rel (k + 5) ((nI cn), rg, (za_F O), (za_F W), dA, dB, E, (za_F LO), (za_F UA), UB, LA, (za_F KI), (za_F F1), (za_F F2), (za_F F3), (za_F DI), EA, eB, (za_F CA), (za_F CB), (za_F CT), fu, fz, pr, wh, (za_F T), (za_F LN), ro, sz, em, hg, lv, bh, rl, rr, rv, ou, nx, sl) ((nI cn), rs, nn, (za_F O), (za_F W), pA, pB, (za_F LO), (za_F UA), UB, LA, (za_F KI), wt, EA, yB, (za_F DI), E, (za_F CA), (za_F CB), (za_F CT), lo, (za_F T), (za_F LN), re, yr, fo, fl, ele, els, eb, yl, se, pg, yo) := ⟨rfl, zr_in hS hR⟩
  unfold wpX_key
  dsimp only
  rcases zr_text v1 with ⟨t, ht, rfl⟩ | hn
  · refine zx_isText_t ht (br_f (by decide) ?_)
    have hvt : vp_in (nI t) 2 := vp_in_nI ht (by decide)
    have elen : za_F LN (nI t).toNatClampNeg = nI (LN t) := by rw [nI_clamp (by omega)]; rfl
    have hl := zr_LN hS t ht
    by_cases g1 : v2 < 1
    · refine br_t g1 ?_
      unfold wpY_key
      dsimp only
      exact zy_isText_t ht (br_f (by decide) (zy_in_l g1 (br_t rfl hI)))
    · by_cases g3 : 3 < v2
      · refine br_f g1 (br_t g3 ?_)
        unfold wpY_key
        dsimp only
        exact zy_isText_t ht (br_f (by decide) (zy_in_g g3 (br_t rfl hI)))
      · obtain ⟨l, hl3, rfl⟩ : ∃ l, l < 3 ∧ v2 = nI (l + 1) := by
          have h0 : ¬ v2 < 0 := fun q => g1 (Int32.lt_trans q (by decide))
          obtain ⟨j, hj, rfl⟩ := nI_of h0
          have a1 : ¬ j < 1 := fun q => g1 (nI_lt (a := j) (b := 1) q (by decide))
          have a3 : ¬ 3 < j := fun q => g3 (nI_lt (a := 3) (b := j) q hj)
          exact ⟨j - 1, by omega, congrArg nI (by omega)⟩
        refine br_f g1 (br_f g3 ?_)
        by_cases g0 : 0 ≤ v3
        · obtain ⟨kk, hkk, rfl⟩ := nI_of (Int32.not_lt.mpr g0)
          obtain ⟨hseg, hsl⟩ := zr_seg hS (t := t) (fr := 0) (to := LN t) ht (Nat.le_refl _)
          rw [Nat.add_zero, Nat.sub_zero] at hseg hsl
          have hle := zn_f_le (O := O) (zr_dG hS) (Or.inl rfl) hseg hsl
          have hlt := zn_f_lt (O := O) (m := 1) (zr_dW hS) hseg
          have EL := zw_e_lt (zr_cn hS) (zr_cC hS) (zr_Ex hS) (zn_f O W A B 1 (zt_s T (16 * t) (LN t))) hlt
          have hY : ∀ (p : Int32 → SY → Prop), (∀ nn' yr' fo' fl' ele' els', p (nI ((zw_f (zw_w F1 F2 F3 (l + 1)) (zw_e cn CA CB CT EA eB (zn_f O W A B 1 (zt_s T (16 * t) (LN t))))).getD kk 0)) ((nI cn), rs, nn', (za_F O), (za_F W), pA, pB, (za_F LO), (za_F UA), UB, LA, (za_F KI), wt, EA, yB, (za_F DI), E, (za_F CA), (za_F CB), (za_F CT), lo, (za_F T), (za_F LN), re, yr', fo', fl', ele', els', eb, yl, se, pg, yo)) → wpY_key p ((nI cn), rs, nn, (za_F O), (za_F W), pA, pB, (za_F LO), (za_F UA), UB, LA, (za_F KI), wt, EA, yB, (za_F DI), E, (za_F CA), (za_F CB), (za_F CT), lo, (za_F T), (za_F LN), re, yr, fo, fl, ele, els, eb, yl, se, pg, yo) (nI t) (nI (l + 1)) (nI kk) := by
            intro p hp
            unfold wpY_key
            dsimp only
            refine zy_isText_t ht (br_f (by decide) (zy_in_t (a := 1) (b := 3) (by omega) (by omega) (by decide) (br_f (by decide) (br_t g0 ⟨hvt, ?_⟩))))
            rw [elen]
            refine zy_load (fr := 0) ht (Nat.zero_le _) hl (fun yr1 k1 => ?_)
            dsimp only
            rw [Nat.add_zero, Nat.sub_zero] at k1
            rw [show LN t - 0 = (zt_s T (16 * t) (LN t)).length by rw [zt_s_len]; rfl]
            refine zy_analyse (s := 0) (by omega) (zr_O hS) (zr_dW hS) (zr_dG hS) (zr_W2 hS) (zr_pA hS) (zr_cn hS) (zr_cC hS) (zr_Ey hS) (zr_wt hS) k1 hseg hsl (fun nn' yr' fo' fl' ele' els' k2 k3 => ?_)
            dsimp only
            rw [nI_pred]
            refine zy_nextW (s := 0) (P := []) (Q := zw_e cn CA CB CT EA eB (zn_f O W A B 1 (zt_s T (16 * t) (LN t)))) (by omega) hl3 (by omega) (zr_w hS (l + 1)) EL.1 k2.2.2 rfl rfl (fun P' Q' m1 m2 m3 m4 => ⟨Q'.length + 1, ?_⟩)
            refine zy_key53 hl3 hkk (by omega) (zr_w hS (l + 1)) EL.1 k2.2.2 _ P' Q' 0 (by omega) (by omega) m1 m3 ?_
            rw [m2]
            exact hp nn' yr' fo' fl' ele' els'
          refine br_t g0 ⟨hvt, ?_⟩
          rw [elen]
          refine zx_form (r := 0) (fr := 0) (m := 1) (by omega) ht (Nat.zero_le _) hl (zr_O hS) (zr_Tx hS) (zr_dW hS) (zr_dG hS) (zr_tb hS) (Or.inl ⟨rfl, rfl⟩) (fun ro1 sz1 f1 f2 => ?_)
          dsimp only
          rw [Nat.add_zero, Nat.sub_zero] at f1
          have hR' : zr_R R ro1 sz1 re rs := zr_R3 (by omega) f2 hR
          refine zx_reset (r := 0) (L := zn_f O W A B 1 (zt_s T (16 * t) (LN t))) (by omega) (fun nx1 sl1 r1 r2 => ?_)
          dsimp only
          refine zx_read (r := 0) (by omega) (by omega) (by omega) (zr_w hS (l + 1)) (zr_cn hS) (zr_cC hS) (zr_Ex hS) f1 hle hlt r1 (fun k0 nx2 sl2 m1 m2 => ⟨1, ?_⟩) (fun x xs k0 p1 p2 nx2 sl2 rem m1 m2 m3 => ⟨xs.length + 2, ?_⟩)
          · rw [k0] at hY
            have h78 : ∀ p : Int32 → SX → Prop, p 0 ((nI cn), rg, (za_F O), (za_F W), dA, dB, E, (za_F LO), (za_F UA), UB, LA, (za_F KI), (za_F F1), (za_F F2), (za_F F3), (za_F DI), EA, eB, (za_F CA), (za_F CB), (za_F CT), fu, fz, pr, wh, (za_F T), (za_F LN), ro1, sz1, em, hg, lv, bh, rl, rr, rv, ou, nx2, sl2) → wX_key_78 p (-1) (nI cn) rg (za_F O) (za_F W) dA dB E (za_F LO) (za_F UA) UB LA (za_F KI) (za_F F1) (za_F F2) (za_F F3) (za_F DI) EA eB (za_F CA) (za_F CB) (za_F CT) fu fz pr wh (za_F T) (za_F LN) ro1 sz1 em hg lv bh rl rr rv ou nx2 sl2 := fun p hp => br_f (by decide) hp
            have hfin : wpY_key (fun r' v' => r' = 0 ∧ i_Rel (k + 5) ((nI cn), rg, (za_F O), (za_F W), dA, dB, E, (za_F LO), (za_F UA), UB, LA, (za_F KI), (za_F F1), (za_F F2), (za_F F3), (za_F DI), EA, eB, (za_F CA), (za_F CB), (za_F CT), fu, fz, pr, wh, (za_F T), (za_F LN), ro1, sz1, em, hg, lv, bh, rl, rr, rv, ou, nx2, sl2) v') ((nI cn), rs, nn, (za_F O), (za_F W), pA, pB, (za_F LO), (za_F UA), UB, LA, (za_F KI), wt, EA, yB, (za_F DI), E, (za_F CA), (za_F CB), (za_F CT), lo, (za_F T), (za_F LN), re, yr, fo, fl, ele, els, eb, yl, se, pg, yo) (nI t) (nI (l + 1)) (nI kk) := hY _ (fun nn' yr' fo' fl' ele' els' => ⟨rfl, zr_in hS hR'⟩)
            exact pk_le kk 0 (fun _ => h78 _ hfin) (fun _ => br_t (by decide) (h78 _ hfin))
          · rw [k0] at hY
            refine zx_key53 (by omega) (by omega) hkk (zr_w hS (l + 1)) (zr_cn hS) (zr_cC hS) (zr_Ex hS) f1 hle hlt xs x 0 rem nx2 sl2 _ (by omega) (by omega) p1 p2 m1 m2 (fun nx' sl' => ?_)
            exact hY _ (fun nn' yr' fo' fl' ele' els' => ⟨rfl, zr_in hS hR'⟩)
        · refine br_f g0 ?_
          unfold wpY_key
          dsimp only
          exact zy_isText_t ht (br_f (by decide) (zy_in_t (a := 1) (b := 3) (by omega) (by omega) (by decide) (br_f (by decide) (br_f g0 hI))))
  · refine zx_isText_f hn (br_t rfl ?_)
    unfold wpY_key
    dsimp only
    exact zy_isText_f hn (br_t rfl hI)
theorem zr_lv (x : Int32) : (∃ l, 0 < l ∧ l < 5 ∧ x = nI l) ∨ x < 1 ∨ (¬ x < 1 ∧ 4 < x) := by
  by_cases g1 : x < 1
  · exact Or.inr (Or.inl g1)
  · by_cases g4 : 4 < x
    · exact Or.inr (Or.inr ⟨g1, g4⟩)
    · have h0 : ¬ x < 0 := fun q => g1 (Int32.lt_trans q (by decide))
      obtain ⟨j, hj, rfl⟩ := nI_of h0
      have a1 : ¬ j < 1 := fun q => g1 (nI_lt (a := j) (b := 1) q (by decide))
      have a3 : ¬ 4 < j := fun q => g4 (nI_lt (a := 4) (b := j) q hj)
      exact Or.inl ⟨j, by omega, by omega, rfl⟩
theorem zv_compare (hS : zr_St cn O W LO UA KI F1 F2 F3 DI CA CB CT T LN E UB LA EA dA dB eB fu fz pr wh pA pB wt yB A B) (hR : zr_R R ro sz re rs) (v1 : Int32) : wpX_compare (fun r u' => wpY_compare (fun r' v' => r' = r ∧ i_Rel (k + 5) u' v') ((nI cn), rs, nn, (za_F O), (za_F W), pA, pB, (za_F LO), (za_F UA), UB, LA, (za_F KI), wt, EA, yB, (za_F DI), E, (za_F CA), (za_F CB), (za_F CT), lo, (za_F T), (za_F LN), re, yr, fo, fl, ele, els, eb, yl, se, pg, yo) v1) ((nI cn), rg, (za_F O), (za_F W), dA, dB, E, (za_F LO), (za_F UA), UB, LA, (za_F KI), (za_F F1), (za_F F2), (za_F F3), (za_F DI), EA, eB, (za_F CA), (za_F CB), (za_F CT), fu, fz, pr, wh, (za_F T), (za_F LN), ro, sz, em, hg, lv, bh, rl, rr, rv, ou, nx, sl) v1 := by
  have hI : (2 : Int32) = 2 ∧ i_Rel (k + 5) ((nI cn), rg, (za_F O), (za_F W), dA, dB, E, (za_F LO), (za_F UA), UB, LA, (za_F KI), (za_F F1), (za_F F2), (za_F F3), (za_F DI), EA, eB, (za_F CA), (za_F CB), (za_F CT), fu, fz, pr, wh, (za_F T), (za_F LN), ro, sz, em, hg, lv, bh, rl, rr, rv, ou, nx, sl) ((nI cn), rs, nn, (za_F O), (za_F W), pA, pB, (za_F LO), (za_F UA), UB, LA, (za_F KI), wt, EA, yB, (za_F DI), E, (za_F CA), (za_F CB), (za_F CT), lo, (za_F T), (za_F LN), re, yr, fo, fl, ele, els, eb, yl, se, pg, yo) := ⟨rfl, zr_in hS hR⟩
  unfold wpX_compare wpY_compare
  dsimp only
  have hl0 := zr_LN hS 0 (by omega)
  have hl1 := zr_LN hS 1 (by omega)
  rcases zr_lv v1 with ⟨level, hv0, hv5, rfl⟩ | hlt | ⟨hnl, hgt⟩
  · refine br_f (nI_nlt (a := level) (b := 1) hv0 (by omega)) (pk_le level 4 (fun _ => ?_) (fun h => by omega))
    obtain ⟨hs0, hsl0⟩ := zr_seg hS (t := 0) (fr := 0) (to := LN 0) (by omega) (Nat.le_refl _)
    obtain ⟨hs1, hsl1⟩ := zr_seg hS (t := 1) (fr := 0) (to := LN 1) (by omega) (Nat.le_refl _)
    rw [Nat.sub_zero] at hs0 hsl0 hs1 hsl1
    have hle0 := zn_f_le (O := O) (zr_dG hS) (Or.inl rfl) hs0 hsl0
    have hlt0 := zn_f_lt (O := O) (m := 1) (zr_dW hS) hs0
    have hle1 := zn_f_le (O := O) (zr_dG hS) (Or.inl rfl) hs1 hsl1
    have hlt1 := zn_f_lt (O := O) (m := 1) (zr_dW hS) hs1
    have E0 := zw_e_lt (zr_cn hS) (zr_cC hS) (zr_Ex hS) _ hlt0
    refine zx_form (r := 0) (t := 0) (fr := 0) (to := LN 0) (m := 1) (by omega) (by omega) (Nat.zero_le _) hl0 (zr_O hS) (zr_Tx hS) (zr_dW hS) (zr_dG hS) (zr_tb hS) (Or.inl ⟨rfl, rfl⟩) (fun ro1 sz1 f1 f2 => ?_)
    dsimp only
    refine zx_form (r := 1) (t := 1) (fr := 0) (to := LN 1) (m := 1) (by omega) (by omega) (Nat.zero_le _) hl1 (zr_O hS) (zr_Tx hS) (zr_dW hS) (zr_dG hS) (zr_tb hS) (Or.inl ⟨rfl, rfl⟩) (fun ro2 sz2 f3 f4 => ?_)
    dsimp only
    rw [Nat.sub_zero] at f1 f3
    have hR' : zr_R R ro2 sz2 re rs := zr_R3 (by omega) f4 (zr_R3 (by omega) f2 hR)
    refine zx_order hv0 hv5 (zr_w hS) (zr_cn hS) (zr_cC hS) (zr_Ex hS) (zx_row_k f4 (by omega) hle0 f1) f3 hle0 hle1 hlt0 hlt1 (fun nx' sl' => ?_)
    dsimp only
    refine zy_in_t (a := 1) (b := 4) (by omega) (by omega) (by decide) (br_f (by decide) ?_)
    refine zy_load (t := 0) (fr := 0) (to := LN 0) (by omega) (Nat.zero_le _) hl0 (fun yr1 k1 => ?_)
    dsimp only
    rw [Nat.sub_zero] at k1
    rw [show LN 0 - 0 = (zt_s T (16 * 0 + 0) (LN 0)).length by rw [zt_s_len]; rfl]
    refine zy_analyse (s := 0) (by omega) (zr_O hS) (zr_dW hS) (zr_dG hS) (zr_W2 hS) (zr_pA hS) (zr_cn hS) (zr_cC hS) (zr_Ey hS) (zr_wt hS) k1 hs0 hsl0 (fun nn1 yr2 fo1 fl1 ele1 els1 k2 k3 => ?_)
    dsimp only
    refine zy_load (t := 1) (fr := 0) (to := LN 1) (by omega) (Nat.zero_le _) hl1 (fun yr3 k4 => ?_)
    dsimp only
    rw [Nat.sub_zero] at k4
    rw [show LN 1 - 0 = (zt_s T (16 * 1 + 0) (LN 1)).length by rw [zt_s_len]; rfl]
    refine zy_analyse (s := 1) (by omega) (zr_O hS) (zr_dW hS) (zr_dG hS) (zr_W2 hS) (zr_pA hS) (zr_cn hS) (zr_cC hS) (zr_Ey hS) (zr_wt hS) k4 hs1 hsl1 (fun nn2 yr4 fo2 fl2 ele2 els2 k5 k6 => ?_)
    dsimp only
    refine zy_cmpSides hv0 hv5 (zr_w hS) (zr_cn hS) (zr_cC hS) (zr_Ex hS) (zw_Y_k k6 (by omega) hle0 (by omega) k2) k5 hle0 hle1 hlt0 hlt1 ?_
    exact ⟨rfl, zr_in hS hR'⟩
  · exact br_t hlt (zy_in_l hlt (br_t rfl hI))
  · refine br_f hnl (br_f (Int32.not_le.mpr hgt) ?_)
    exact zy_in_g hgt (br_t rfl hI)
end
end
section
def zg_e (b f : Nat → Bool) : Nat → Nat → Nat
  | 0, _ => 0
  | d + 1, e => if (b e && f e) = true then e + 1 else zg_e b f d (e + 1)
def zg_s (b : Nat → Bool) (f : Nat → Nat → Bool) (n : Nat) : Nat → Nat → Nat
  | 0, _ => 0
  | d + 1, s => if b s = true ∧ zg_e b (f s) (n + 1 - s) s ≠ 0 then 32 * s + zg_e b (f s) (n + 1 - s) s else zg_s b f n d (s + 1)
theorem zg_e_le {b f : Nat → Bool} : ∀ d e, zg_e b f d e ≤ e + d
  | 0, e => Nat.zero_le _
  | d + 1, e => by
    have := zg_e_le (b := b) (f := f) d (e + 1)
    unfold zg_e; split <;> omega
def zg_b (kk : Nat → Nat) (n i : Nat) : Bool := decide (i = 0) || zb_c kk n i
section
variable {cn : Nat} {rg rs nn : Int32} {O W LO UA KI F1 F2 F3 DI CA CB CT T LN : Nat → Nat} {E UB LA EA dA dB eB fu fz pr wh ro sz em hg lv bh rl rr rv ou nx sl pA pB wt yB lo re yr fo fl ele els eb yl se pg yo : Nat → Int32}
variable {A B : Nat → Nat} {R : List Nat} {k : Nat}
theorem zx_ending {post : Int32 → SX → Prop} {level s tot : Nat} {pl : Int32} {L1 : List Nat} {b f : Nat → Bool} (hS : zr_St cn O W LO UA KI F1 F2 F3 DI CA CB CT T LN E UB LA EA dA dB eB fu fz pr wh pA pB wt yB A B) (hv0 : 0 < level) (hv5 : level < 5) (hs : s ≤ LN 0) (hle1 : L1.length ≤ 64) (hlt1 : ∀ x ∈ L1, x < 48)
    (hpl : ∀ i, i ≤ LN 0 → bt pl i = b i) (hr1 : zx_row ro sz 1 L1)
    (hf : ∀ e, f e = decide (zw_o F1 F2 F3 cn CA CB CT EA eB level (zn_f O W A B 1 (zt_s T (16 * 0 + s) (e - s))) L1 = 0)) (htot : tot = zg_e b f (LN 0 + 1 - s) s)
    (H : ∀ ro' sz' nx' sl', zx_rf 0 ro ro' sz sz' → post (nI tot - 1) ((nI cn), rg, (za_F O), (za_F W), dA, dB, E, (za_F LO), (za_F UA), UB, LA, (za_F KI), (za_F F1), (za_F F2), (za_F F3), (za_F DI), EA, eB, (za_F CA), (za_F CB), (za_F CT), fu, fz, pr, wh, (za_F T), (za_F LN), ro', sz', em, hg, lv, bh, rl, rr, rv, ou, nx', sl')) :
    wpX_ending post ((nI cn), rg, (za_F O), (za_F W), dA, dB, E, (za_F LO), (za_F UA), UB, LA, (za_F KI), (za_F F1), (za_F F2), (za_F F3), (za_F DI), EA, eB, (za_F CA), (za_F CB), (za_F CT), fu, fz, pr, wh, (za_F T), (za_F LN), ro, sz, em, hg, lv, bh, rl, rr, rv, ou, nx, sl) (nI s) pl (nI level) := by
  have hl0 := zr_LN hS 0 (by omega)
  have key : ∀ (d e : Nat) (ro' sz' nx' sl' : Nat → Int32) (n : Nat), d < n → e + d = LN 0 + 1 → s ≤ e → zx_rf 0 ro ro' sz sz' → tot = zg_e b f d e →
      wX_ending_3 post (nI s) pl (nI level) n (nI e) (nI cn) rg (za_F O) (za_F W) dA dB E (za_F LO) (za_F UA) UB LA (za_F KI) (za_F F1) (za_F F2) (za_F F3) (za_F DI) EA eB (za_F CA) (za_F CB) (za_F CT) fu fz pr wh (za_F T) (za_F LN) ro' sz' em hg lv bh rl rr rv ou nx' sl' := by
    intro d
    induction d with
    | zero =>
      intro e ro' sz' nx' sl' n hn he hse hrf hg
      obtain ⟨n, rfl⟩ : ∃ k, n = k + 1 := ⟨n - 1, by omega⟩
      refine pk_lt (LN 0) e (fun _ => ?_) (fun g => by omega)
      have := H ro' sz' nx' sl' hrf
      rw [hg] at this
      exact this
    | succ d ih =>
      intro e ro' sz' nx' sl' n hn he hse hrf hg
      obtain ⟨n, rfl⟩ : ∃ k, n = k + 1 := ⟨n - 1, by omega⟩
      refine pk_lt (LN 0) e (fun g => by omega) (fun g => ?_)
      have hb := hpl e (by omega)
      rw [zg_e] at hg
      refine br_c (fun q => nm_r (nI_1 e) (ih (e + 1) ro' sz' nx' sl' n (by omega) (by omega) (by omega) hrf ?_)) (fun q => ?_)
      · have h0 := (zb_test (by omega)).mp q
        rw [hb] at h0
        rw [h0, Bool.false_and, if_neg (by decide)] at hg
        exact hg
      · have h1 : b e = true := by
          cases hz : b e with
          | true => rfl
          | false => exact absurd ((zb_test (by omega)).mpr (by rw [hb]; exact hz)) q
        rw [h1, Bool.true_and, hf e] at hg
        obtain ⟨hs0, hsl0⟩ := zr_seg hS (t := 0) (fr := s) (to := e) (by omega) (by omega)
        have hle0 := zn_f_le (O := O) (zr_dG hS) (Or.inl rfl) hs0 hsl0
        have hlt0 := zn_f_lt (O := O) (m := 1) (zr_dW hS) hs0
        refine zx_form (r := 0) (t := 0) (fr := s) (to := e) (m := 1) (by omega) (by omega) hse (by omega) (zr_O hS) (zr_Tx hS) (zr_dW hS) (zr_dG hS) (zr_tb hS) (Or.inl ⟨rfl, rfl⟩) (fun ro1 sz1 f1 f2 => ?_)
        dsimp only
        have hrf1 := zx_rf_t hrf f2
        refine zx_order hv0 hv5 (zr_w hS) (zr_cn hS) (zr_cC hS) (zr_Ex hS) f1 (zx_row_k hrf1 (by omega) hle1 hr1) hle0 hle1 hlt0 hlt1 (fun nx1 sl1 => ?_)
        refine br_c (fun z => ?_) (fun z => nm_r (nI_1 e) (ih (e + 1) ro1 sz1 nx1 sl1 n (by omega) (by omega) (by omega) hrf1 ?_))
        · rw [if_pos (decide_eq_true z)] at hg
          have := H ro1 sz1 nx1 sl1 hrf1
          rw [hg, nI_pred] at this
          exact this
        · rw [decide_eq_false z, if_neg (by decide)] at hg
          exact hg
  exact ⟨LN 0 + 2 - s, key (LN 0 + 1 - s) s ro sz nx sl _ (by omega) (by omega) (Nat.le_refl _) zx_rf_r htot⟩
theorem zx_sea36 {post : Int32 → SX → Prop} {level tot : Nat} {pl : Int32} {L1 : List Nat} {b : Nat → Bool} {f : Nat → Nat → Bool} (hS : zr_St cn O W LO UA KI F1 F2 F3 DI CA CB CT T LN E UB LA EA dA dB eB fu fz pr wh pA pB wt yB A B) (hv0 : 0 < level) (hv5 : level < 5) (hle1 : L1.length ≤ 64) (hlt1 : ∀ x ∈ L1, x < 48)
    (hpl : ∀ i, i ≤ LN 0 → bt pl i = b i) (hr1 : zx_row ro sz 1 L1)
    (hf : ∀ s e, f s e = decide (zw_o F1 F2 F3 cn CA CB CT EA eB level (zn_f O W A B 1 (zt_s T (16 * 0 + s) (e - s))) L1 = 0))
    (H : ∀ ro' sz' nx' sl', zx_rf 0 ro ro' sz sz' → post (nI tot - 1) ((nI cn), rg, (za_F O), (za_F W), dA, dB, E, (za_F LO), (za_F UA), UB, LA, (za_F KI), (za_F F1), (za_F F2), (za_F F3), (za_F DI), EA, eB, (za_F CA), (za_F CB), (za_F CT), fu, fz, pr, wh, (za_F T), (za_F LN), ro', sz', em, hg, lv, bh, rl, rr, rv, ou, nx', sl')) :
    ∀ (d s : Nat) (ro' sz' nx' sl' : Nat → Int32) (n : Nat), d < n → s + d = LN 0 + 1 → zx_rf 0 ro ro' sz sz' → tot = zg_s b f (LN 0) d s →
      wX_search_36 post (nI level) pl n (nI s) (nI cn) rg (za_F O) (za_F W) dA dB E (za_F LO) (za_F UA) UB LA (za_F KI) (za_F F1) (za_F F2) (za_F F3) (za_F DI) EA eB (za_F CA) (za_F CB) (za_F CT) fu fz pr wh (za_F T) (za_F LN) ro' sz' em hg lv bh rl rr rv ou nx' sl' := by
  have hl0 := zr_LN hS 0 (by omega)
  intro d
  induction d with
  | zero =>
    intro s ro' sz' nx' sl' n hn he hrf hg
    obtain ⟨n, rfl⟩ : ∃ k, n = k + 1 := ⟨n - 1, by omega⟩
    refine pk_lt (LN 0) s (fun _ => ?_) (fun g => by omega)
    have := H ro' sz' nx' sl' hrf
    rw [hg] at this
    exact this
  | succ d ih =>
    intro s ro' sz' nx' sl' n hn he hrf hg
    obtain ⟨n, rfl⟩ : ∃ k, n = k + 1 := ⟨n - 1, by omega⟩
    refine pk_lt (LN 0) s (fun g => by omega) (fun g => ?_)
    have hb := hpl s (by omega)
    rw [zg_s] at hg
    refine br_c (fun q => nm_r (nI_1 s) (ih (s + 1) ro' sz' nx' sl' n (by omega) (by omega) hrf ?_)) (fun q => ?_)
    · have h0 := (zb_test (by omega)).mp q
      rw [hb] at h0
      rw [if_neg (fun z => by rw [h0] at z; exact absurd z.1 (by decide))] at hg
      exact hg
    · have h1 : b s = true := by
        cases hz : b s with
        | true => rfl
        | false => exact absurd ((zb_test (by omega)).mpr (by rw [hb]; exact hz)) q
      have hle := zg_e_le (b := b) (f := f s) (LN 0 + 1 - s) s
      generalize hc : zg_e b (f s) (LN 0 + 1 - s) s = c at hg hle
      refine zx_ending hS hv0 hv5 (by omega) hle1 hlt1 hpl (zx_row_k hrf (by omega) hle1 hr1) (hf s) hc.symm (fun ro2 sz2 nx2 sl2 k1 => ?_)
      have hrf2 := zx_rf_t hrf k1
      by_cases z : c = 0
      · rw [if_neg (fun y => y.2 z)] at hg
        refine br_t (by rw [z]; decide) (nm_r (nI_1 s) (ih (s + 1) ro2 sz2 nx2 sl2 n (by omega) (by omega) hrf2 hg))
      · rw [if_pos ⟨h1, z⟩] at hg
        rw [za_p1 (by omega)]
        refine br_f (nI_pos (by omega)) ?_
        have := H ro2 sz2 nx2 sl2 hrf2
        rw [hg, za_p1 (by omega)] at this
        rw [show (32 : Int32) * nI s = nI (32 * s) from pk_mul 32 s, nI_add, show 32 * s + (c - 1) = 32 * s + c - 1 by omega]
        exact this
theorem zx_search {post : Int32 → SX → Prop} {level tot : Nat} {L1 : List Nat} {f : Nat → Nat → Bool} (hS : zr_St cn O W LO UA KI F1 F2 F3 DI CA CB CT T LN E UB LA EA dA dB eB fu fz pr wh pA pB wt yB A B) (hv0 : 0 < level) (hv5 : level < 5) (hL1 : L1 = zn_f O W A B 1 (zt_s T (16 * 1 + 0) (LN 1)))
    (hf : ∀ s e, f s e = decide (zw_o F1 F2 F3 cn CA CB CT EA eB level (zn_f O W A B 1 (zt_s T (16 * 0 + s) (e - s))) L1 = 0)) (htot : tot = zg_s (zg_b (zb_k KI T 0) (LN 0)) f (LN 0) (LN 0 + 1) 0) (hR : zr_R R ro sz re rs)
    (H : ∀ ro' sz' nx' sl', zr_R R ro' sz' re rs → post (nI tot - 1) ((nI cn), rg, (za_F O), (za_F W), dA, dB, E, (za_F LO), (za_F UA), UB, LA, (za_F KI), (za_F F1), (za_F F2), (za_F F3), (za_F DI), EA, eB, (za_F CA), (za_F CB), (za_F CT), fu, fz, pr, wh, (za_F T), (za_F LN), ro', sz', em, hg, lv, bh, rl, rr, rv, ou, nx', sl')) :
    wpX_search post ((nI cn), rg, (za_F O), (za_F W), dA, dB, E, (za_F LO), (za_F UA), UB, LA, (za_F KI), (za_F F1), (za_F F2), (za_F F3), (za_F DI), EA, eB, (za_F CA), (za_F CB), (za_F CT), fu, fz, pr, wh, (za_F T), (za_F LN), ro, sz, em, hg, lv, bh, rl, rr, rv, ou, nx, sl) (nI level) := by
  have hl0 := zr_LN hS 0 (by omega)
  have hl1 := zr_LN hS 1 (by omega)
  obtain ⟨hs1, hsl1⟩ := zr_seg hS (t := 1) (fr := 0) (to := LN 1) (by omega) (Nat.le_refl _)
  rw [Nat.sub_zero] at hs1 hsl1
  have hle1 := zn_f_le (O := O) (zr_dG hS) (Or.inl rfl) hs1 hsl1
  have hlt1 := zn_f_lt (O := O) (m := 1) (zr_dW hS) hs1
  rw [← hL1] at hle1 hlt1
  unfold wpX_search
  dsimp only
  refine br_f (nI_nlt (a := level) (b := 1) hv0 (by omega)) (pk_le level 4 (fun _ => ?_) (fun h => by omega))
  refine zx_clusters (t := 0) (by omega) hl0 (zr_Tx hS) (zr_KI hS) (fun v hv => nm_e ?_)
  have hpl : ∀ i, i ≤ LN 0 → bt (v ||| 1) i = zg_b (zb_k KI T 0) (LN 0) i := by
    intro i hi
    rw [b_or, hv i (by omega), zb_1 i (by omega), decide_eq_true hi, Bool.true_and, Bool.or_comm]; rfl
  refine zx_form (r := 1) (t := 1) (fr := 0) (to := LN 1) (m := 1) (by omega) (by omega) (Nat.zero_le _) hl1 (zr_O hS) (zr_Tx hS) (zr_dW hS) (zr_dG hS) (zr_tb hS) (Or.inl ⟨rfl, rfl⟩) (fun ro1 sz1 f1 f2 => ?_)
  dsimp only
  rw [Nat.sub_zero, ← hL1] at f1
  have hR1 : zr_R R ro1 sz1 re rs := zr_R3 (by omega) f2 hR
  exact ⟨LN 0 + 2, zx_sea36 hS hv0 hv5 hle1 hlt1 hpl f1 hf (fun ro' sz' nx' sl' h => H ro' sz' nx' sl' (zr_R3 (by omega) h hR1)) (LN 0 + 1) 0 ro1 sz1 nx sl (LN 0 + 2) (by omega) (by omega) zx_rf_r htot⟩
end
section
variable {cn : Nat} {rg rs nn : Int32} {O W LO UA KI F1 F2 F3 DI CA CB CT T LN : Nat → Nat} {E UB LA EA dA dB eB fu fz pr wh ro sz em hg lv bh rl rr rv ou nx sl pA pB wt yB lo re yr fo fl ele els eb yl se pg yo : Nat → Int32}
variable {A B : Nat → Nat} {R : List Nat} {k : Nat}
theorem zy_sea82 {post : Int32 → SY → Prop} {J J2 : Int32 → Int32 → Int32 → Int32 → (Nat → Int32) → (Nat → Int32) → (Nat → Int32) → (Nat → Int32) → (Nat → Int32) → (Nat → Int32) → (Nat → Int32) → (Nat → Int32) → (Nat → Int32) → (Nat → Int32) → (Nat → Int32) → (Nat → Int32) → (Nat → Int32) → (Nat → Int32) → (Nat → Int32) → (Nat → Int32) → (Nat → Int32) → (Nat → Int32) → (Nat → Int32) → (Nat → Int32) → (Nat → Int32) → (Nat → Int32) → (Nat → Int32) → (Nat → Int32) → (Nat → Int32) → (Nat → Int32) → (Nat → Int32) → (Nat → Int32) → (Nat → Int32) → (Nat → Int32) → (Nat → Int32) → Prop} {level s e : Nat} {L1 : List Nat} (hS : zr_St cn O W LO UA KI F1 F2 F3 DI CA CB CT T LN E UB LA EA dA dB eB fu fz pr wh pA pB wt yB A B) (hv0 : 0 < level) (hv5 : level < 5) (hse : s ≤ e) (he : e ≤ LN 0) (hle1 : L1.length ≤ 64) (hlt1 : ∀ x ∈ L1, x < 48)
    (hY : zw_Y F1 F2 F3 cn CA CB CT EA eB fo fl ele els 1 L1)
    (H1 : zw_o F1 F2 F3 cn CA CB CT EA eB level (zn_f O W A B 1 (zt_s T (16 * 0 + s) (e - s))) L1 = 0 → ∀ nn' yr' fo' fl' ele' els', post (nI (32 * s + e)) ((nI cn), rs, nn', (za_F O), (za_F W), pA, pB, (za_F LO), (za_F UA), UB, LA, (za_F KI), wt, EA, yB, (za_F DI), E, (za_F CA), (za_F CB), (za_F CT), lo, (za_F T), (za_F LN), re, yr', fo', fl', ele', els', eb, yl, se, pg, yo))
    (H0 : zw_o F1 F2 F3 cn CA CB CT EA eB level (zn_f O W A B 1 (zt_s T (16 * 0 + s) (e - s))) L1 ≠ 0 → ∀ nn' yr' fo' fl' ele' els', zw_Y F1 F2 F3 cn CA CB CT EA eB fo' fl' ele' els' 1 L1 → J2 (nI (e + 1)) (nI cn) rs nn' (za_F O) (za_F W) pA pB (za_F LO) (za_F UA) UB LA (za_F KI) wt EA yB (za_F DI) E (za_F CA) (za_F CB) (za_F CT) lo (za_F T) (za_F LN) re yr' fo' fl' ele' els' eb yl se pg yo) :
    wY_search_82 post J J2 (nI level) (nI s) (nI e) (nI cn) rs nn (za_F O) (za_F W) pA pB (za_F LO) (za_F UA) UB LA (za_F KI) wt EA yB (za_F DI) E (za_F CA) (za_F CB) (za_F CT) lo (za_F T) (za_F LN) re yr fo fl ele els eb yl se pg yo := by
  have hl0 := zr_LN hS 0 (by omega)
  have E1 := zw_e_lt (zr_cn hS) (zr_cC hS) (zr_Ex hS) L1 hlt1
  obtain ⟨hs0, hsl0⟩ := zr_seg hS (t := 0) (fr := s) (to := e) (by omega) (by omega)
  have hle0 := zn_f_le (O := O) (zr_dG hS) (Or.inl rfl) hs0 hsl0
  have hlt0 := zn_f_lt (O := O) (m := 1) (zr_dW hS) hs0
  refine zy_load (t := 0) (fr := s) (to := e) (by omega) hse (by omega) (fun yr1 k1 => ?_)
  dsimp only
  have hlen : (zt_s T (16 * 0 + s) (e - s)).length = e - s := zt_s_len _ _ _
  generalize hSg : zt_s T (16 * 0 + s) (e - s) = Sg at k1 hs0 hsl0 hle0 hlt0 hlen H1 H0
  rw [← hlen]
  refine zy_analyse (s := 0) (by omega) (zr_O hS) (zr_dW hS) (zr_dG hS) (zr_W2 hS) (zr_pA hS) (zr_cn hS) (zr_cC hS) (zr_Ey hS) (zr_wt hS) k1 hs0 hsl0 (fun nn3 yr5 fo3 fl3 ele3 els3 m1 m2 => ?_)
  dsimp only
  have hY3 := zw_Y_k m2 (by omega) hle1 (by omega) hY
  refine zy_cmpSides hv0 hv5 (zr_w hS) (zr_cn hS) (zr_cC hS) (zr_Ex hS) m1 hY3 hle0 hle1 hlt0 hlt1 ?_
  refine br_c (fun z => ?_) (fun z => nm_r (nI_1 e) (H0 z nn3 yr5 fo3 fl3 ele3 els3 hY3))
  rw [show (32 : Int32) * nI s = nI (32 * s) from pk_mul 32 s, nI_add]
  exact H1 z nn3 yr5 fo3 fl3 ele3 els3
theorem zy_sea42 {post : Int32 → SY → Prop} {J : Int32 → Int32 → Int32 → Int32 → (Nat → Int32) → (Nat → Int32) → (Nat → Int32) → (Nat → Int32) → (Nat → Int32) → (Nat → Int32) → (Nat → Int32) → (Nat → Int32) → (Nat → Int32) → (Nat → Int32) → (Nat → Int32) → (Nat → Int32) → (Nat → Int32) → (Nat → Int32) → (Nat → Int32) → (Nat → Int32) → (Nat → Int32) → (Nat → Int32) → (Nat → Int32) → (Nat → Int32) → (Nat → Int32) → (Nat → Int32) → (Nat → Int32) → (Nat → Int32) → (Nat → Int32) → (Nat → Int32) → (Nat → Int32) → (Nat → Int32) → (Nat → Int32) → (Nat → Int32) → (Nat → Int32) → Prop} {level s tot : Nat} {L1 : List Nat} {f : Nat → Bool} (hS : zr_St cn O W LO UA KI F1 F2 F3 DI CA CB CT T LN E UB LA EA dA dB eB fu fz pr wh pA pB wt yB A B) (hv0 : 0 < level) (hv5 : level < 5) (hs : s ≤ LN 0) (hle1 : L1.length ≤ 64) (hlt1 : ∀ x ∈ L1, x < 48)
    (hf : ∀ e, f e = decide (zw_o F1 F2 F3 cn CA CB CT EA eB level (zn_f O W A B 1 (zt_s T (16 * 0 + s) (e - s))) L1 = 0))
    (HP : ∀ nn' yr' fo' fl' ele' els', tot ≠ 0 → post (nI (32 * s + tot - 1)) ((nI cn), rs, nn', (za_F O), (za_F W), pA, pB, (za_F LO), (za_F UA), UB, LA, (za_F KI), wt, EA, yB, (za_F DI), E, (za_F CA), (za_F CB), (za_F CT), lo, (za_F T), (za_F LN), re, yr', fo', fl', ele', els', eb, yl, se, pg, yo))
    (HJ : ∀ nn' yr' fo' fl' ele' els', tot = 0 → zw_Y F1 F2 F3 cn CA CB CT EA eB fo' fl' ele' els' 1 L1 → J (nI (s + 1)) (nI cn) rs nn' (za_F O) (za_F W) pA pB (za_F LO) (za_F UA) UB LA (za_F KI) wt EA yB (za_F DI) E (za_F CA) (za_F CB) (za_F CT) lo (za_F T) (za_F LN) re yr' fo' fl' ele' els' eb yl se pg yo) :
    ∀ (d e : Nat) (nn : Int32) (yr fo fl ele els : Nat → Int32) (n : Nat), d < n → e + d = LN 0 + 1 → s ≤ e → zw_Y F1 F2 F3 cn CA CB CT EA eB fo fl ele els 1 L1 →
      tot = (if zg_b (zb_k KI T 0) (LN 0) s = true then zg_e (zg_b (zb_k KI T 0) (LN 0)) f d e else 0) →
      wY_search_42 post J (nI level) (nI s) n (nI e) (nI cn) rs nn (za_F O) (za_F W) pA pB (za_F LO) (za_F UA) UB LA (za_F KI) wt EA yB (za_F DI) E (za_F CA) (za_F CB) (za_F CT) lo (za_F T) (za_F LN) re yr fo fl ele els eb yl se pg yo := by
  have hl0 := zr_LN hS 0 (by omega)
  intro d
  induction d with
  | zero =>
    intro e nn yr fo fl ele els n hn he hse hY hg
    obtain ⟨n, rfl⟩ : ∃ k, n = k + 1 := ⟨n - 1, by omega⟩
    refine pk_lt (LN 0) e (fun _ => nm_r (nI_1 s) ?_) (fun g => by omega)
    refine HJ nn yr fo fl ele els ?_ hY
    rw [hg]; split <;> rfl
  | succ d ih =>
    intro e nn yr fo fl ele els n hn he hse hY hg
    obtain ⟨n, rfl⟩ : ∃ k, n = k + 1 := ⟨n - 1, by omega⟩
    refine pk_lt (LN 0) e (fun g => by omega) (fun g => ?_)
    have hskip : (zg_b (zb_k KI T 0) (LN 0) s && zg_b (zb_k KI T 0) (LN 0) e) = false → wY_search_42 post J (nI level) (nI s) n (nI (e + 1)) (nI cn) rs nn (za_F O) (za_F W) pA pB (za_F LO) (za_F UA) UB LA (za_F KI) wt EA yB (za_F DI) E (za_F CA) (za_F CB) (za_F CT) lo (za_F T) (za_F LN) re yr fo fl ele els eb yl se pg yo := by
      intro hz
      refine ih (e + 1) nn yr fo fl ele els n (by omega) (by omega) (by omega) hY ?_
      rw [hg]
      cases hbs : zg_b (zb_k KI T 0) (LN 0) s with
      | false => rfl
      | true =>
        rw [hbs, Bool.true_and] at hz
        rw [if_pos rfl, if_pos rfl, zg_e, hz, Bool.false_and, if_neg (by decide)]
    have h82 : zg_b (zb_k KI T 0) (LN 0) s = true → zg_b (zb_k KI T 0) (LN 0) e = true → wY_search_82 post J (wY_search_42 post J (nI level) (nI s) n) (nI level) (nI s) (nI e) (nI cn) rs nn (za_F O) (za_F W) pA pB (za_F LO) (za_F UA) UB LA (za_F KI) wt EA yB (za_F DI) E (za_F CA) (za_F CB) (za_F CT) lo (za_F T) (za_F LN) re yr fo fl ele els eb yl se pg yo := by
      intro hbs hbe
      refine zy_sea82 hS hv0 hv5 hse (by omega) hle1 hlt1 hY (fun z nn3 yr5 fo3 fl3 ele3 els3 => ?_) (fun z nn3 yr5 fo3 fl3 ele3 els3 hY3 => ih (e + 1) nn3 yr5 fo3 fl3 ele3 els3 n (by omega) (by omega) (by omega) hY3 ?_)
      · have hc : tot = e + 1 := by
          rw [hg, if_pos hbs, zg_e, hbe, Bool.true_and, hf e, if_pos (decide_eq_true z)]
        have := HP nn3 yr5 fo3 fl3 ele3 els3 (by omega)
        rw [hc] at this
        exact this
      · rw [hg, if_pos hbs, if_pos hbs, zg_e, hbe, Bool.true_and, hf e, decide_eq_false z, if_neg (by decide)]
    refine pk_le (LN 0) 0 (fun g0 => h82 ?_ ?_) (fun g0 => ?_)
    · have : s = 0 := by omega
      rw [this]; rfl
    · have : e = 0 := by omega
      rw [this]; rfl
    · have hbc : ∀ i, zg_b (zb_k KI T 0) (LN 0) i = zb_c (zb_k KI T 0) (LN 0) i := by
        intro i
        unfold zg_b
        by_cases e0 : i = 0
        · rw [decide_eq_true e0, Bool.true_or]
          unfold zb_c; rw [if_pos (Or.inl e0)]
          exact (decide_eq_true g0).symm
        · rw [decide_eq_false e0, Bool.false_or]
      refine zy_clusterBreak (t := 0) (by omega) hl0 hs (zr_Tx hS) (zr_KI hS) (fun c1 => br_f (by decide) ?_) (fun c1 => br_t rfl (nm_r (nI_1 e) (hskip (by rw [hbc s, c1]; rfl))))
      refine zy_clusterBreak (t := 0) (by omega) hl0 (by omega) (zr_Tx hS) (zr_KI hS) (fun c2 => br_f (by decide) ?_) (fun c2 => br_t rfl (nm_r (nI_1 e) (hskip (by rw [hbc e, c2, Bool.and_false]))))
      exact h82 (by rw [hbc s]; exact c1) (by rw [hbc e]; exact c2)
theorem zy_sea30 {post : Int32 → SY → Prop} {level tot : Nat} {L1 : List Nat} {f : Nat → Nat → Bool} (hS : zr_St cn O W LO UA KI F1 F2 F3 DI CA CB CT T LN E UB LA EA dA dB eB fu fz pr wh pA pB wt yB A B) (hv0 : 0 < level) (hv5 : level < 5) (hle1 : L1.length ≤ 64) (hlt1 : ∀ x ∈ L1, x < 48)
    (hf : ∀ s e, f s e = decide (zw_o F1 F2 F3 cn CA CB CT EA eB level (zn_f O W A B 1 (zt_s T (16 * 0 + s) (e - s))) L1 = 0))
    (H : ∀ nn' yr' fo' fl' ele' els', post (nI tot - 1) ((nI cn), rs, nn', (za_F O), (za_F W), pA, pB, (za_F LO), (za_F UA), UB, LA, (za_F KI), wt, EA, yB, (za_F DI), E, (za_F CA), (za_F CB), (za_F CT), lo, (za_F T), (za_F LN), re, yr', fo', fl', ele', els', eb, yl, se, pg, yo)) :
    ∀ (d s : Nat) (nn : Int32) (yr fo fl ele els : Nat → Int32) (n : Nat), d < n → s + d = LN 0 + 1 → zw_Y F1 F2 F3 cn CA CB CT EA eB fo fl ele els 1 L1 → tot = zg_s (zg_b (zb_k KI T 0) (LN 0)) f (LN 0) d s →
      wY_search_30 post (nI level) n (nI s) (nI cn) rs nn (za_F O) (za_F W) pA pB (za_F LO) (za_F UA) UB LA (za_F KI) wt EA yB (za_F DI) E (za_F CA) (za_F CB) (za_F CT) lo (za_F T) (za_F LN) re yr fo fl ele els eb yl se pg yo := by
  have hl0 := zr_LN hS 0 (by omega)
  intro d
  induction d with
  | zero =>
    intro s nn yr fo fl ele els n hn he hY hg
    obtain ⟨n, rfl⟩ : ∃ k, n = k + 1 := ⟨n - 1, by omega⟩
    refine pk_lt (LN 0) s (fun _ => ?_) (fun g => by omega)
    have := H nn yr fo fl ele els
    rw [hg] at this
    exact this
  | succ d ih =>
    intro s nn yr fo fl ele els n hn he hY hg
    obtain ⟨n, rfl⟩ : ∃ k, n = k + 1 := ⟨n - 1, by omega⟩
    refine pk_lt (LN 0) s (fun g => by omega) (fun g => ⟨LN 0 + 2, ?_⟩)
    rw [zg_s] at hg
    have hle := zg_e_le (b := zg_b (zb_k KI T 0) (LN 0)) (f := f s) (LN 0 + 1 - s) s
    refine zy_sea42 (tot := if zg_b (zb_k KI T 0) (LN 0) s = true then zg_e (zg_b (zb_k KI T 0) (LN 0)) (f s) (LN 0 + 1 - s) s else 0) hS hv0 hv5 (by omega) hle1 hlt1 (hf s) (fun nn' yr' fo' fl' ele' els' hc0 => ?_) (fun nn' yr' fo' fl' ele' els' hc hY' => ?_) (LN 0 + 1 - s) s nn yr fo fl ele els (LN 0 + 2) (by omega) (by omega) (Nat.le_refl _) hY rfl
    · by_cases hbs : zg_b (zb_k KI T 0) (LN 0) s = true
      · rw [if_pos hbs] at hc0 ⊢
        rw [if_pos ⟨hbs, hc0⟩] at hg
        have := H nn' yr' fo' fl' ele' els'
        rw [hg, za_p1 (by omega)] at this
        exact this
      · rw [if_neg hbs] at hc0
        exact absurd rfl hc0
    · refine ih (s + 1) nn' yr' fo' fl' ele' els' n (by omega) (by omega) hY' ?_
      rw [if_neg] at hg
      · exact hg
      · rintro ⟨z1, z2⟩
        rw [if_pos z1] at hc
        exact z2 hc
theorem zy_search {post : Int32 → SY → Prop} {level tot : Nat} {L1 : List Nat} {f : Nat → Nat → Bool} (hS : zr_St cn O W LO UA KI F1 F2 F3 DI CA CB CT T LN E UB LA EA dA dB eB fu fz pr wh pA pB wt yB A B) (hv0 : 0 < level) (hv5 : level < 5) (hL1 : L1 = zn_f O W A B 1 (zt_s T (16 * 1 + 0) (LN 1)))
    (hf : ∀ s e, f s e = decide (zw_o F1 F2 F3 cn CA CB CT EA eB level (zn_f O W A B 1 (zt_s T (16 * 0 + s) (e - s))) L1 = 0)) (htot : tot = zg_s (zg_b (zb_k KI T 0) (LN 0)) f (LN 0) (LN 0 + 1) 0)
    (H : ∀ nn' yr' fo' fl' ele' els', post (nI tot - 1) ((nI cn), rs, nn', (za_F O), (za_F W), pA, pB, (za_F LO), (za_F UA), UB, LA, (za_F KI), wt, EA, yB, (za_F DI), E, (za_F CA), (za_F CB), (za_F CT), lo, (za_F T), (za_F LN), re, yr', fo', fl', ele', els', eb, yl, se, pg, yo)) :
    wpY_search post ((nI cn), rs, nn, (za_F O), (za_F W), pA, pB, (za_F LO), (za_F UA), UB, LA, (za_F KI), wt, EA, yB, (za_F DI), E, (za_F CA), (za_F CB), (za_F CT), lo, (za_F T), (za_F LN), re, yr, fo, fl, ele, els, eb, yl, se, pg, yo) (nI level) := by
  have hl0 := zr_LN hS 0 (by omega)
  have hl1 := zr_LN hS 1 (by omega)
  obtain ⟨hs1, hsl1⟩ := zr_seg hS (t := 1) (fr := 0) (to := LN 1) (by omega) (Nat.le_refl _)
  rw [Nat.sub_zero] at hs1 hsl1
  have hle1 := zn_f_le (O := O) (zr_dG hS) (Or.inl rfl) hs1 hsl1
  have hlt1 := zn_f_lt (O := O) (m := 1) (zr_dW hS) hs1
  rw [← hL1] at hle1 hlt1
  unfold wpY_search
  dsimp only
  refine zy_in_t (a := 1) (b := 4) (by omega) (by omega) (by decide) (br_f (by decide) ?_)
  refine zy_load (t := 1) (fr := 0) (to := LN 1) (by omega) (Nat.zero_le _) hl1 (fun yr3 k4 => ?_)
  dsimp only
  rw [Nat.sub_zero] at k4
  rw [show LN 1 - 0 = (zt_s T (16 * 1 + 0) (LN 1)).length by rw [zt_s_len]; rfl]
  refine zy_analyse (s := 1) (by omega) (zr_O hS) (zr_dW hS) (zr_dG hS) (zr_W2 hS) (zr_pA hS) (zr_cn hS) (zr_cC hS) (zr_Ey hS) (zr_wt hS) k4 hs1 hsl1 (fun nn2 yr4 fo2 fl2 ele2 els2 k5 k6 => ?_)
  dsimp only
  rw [← hL1] at k5
  exact ⟨LN 0 + 2, zy_sea30 hS hv0 hv5 hle1 hlt1 hf H (LN 0 + 1) 0 nn2 yr4 fo2 fl2 ele2 els2 (LN 0 + 2) (by omega) (by omega) k5 htot⟩
theorem zv_search (hS : zr_St cn O W LO UA KI F1 F2 F3 DI CA CB CT T LN E UB LA EA dA dB eB fu fz pr wh pA pB wt yB A B) (hR : zr_R R ro sz re rs) (v1 : Int32) : wpX_search (fun r u' => wpY_search (fun r' v' => r' = r ∧ i_Rel (k + 5) u' v') ((nI cn), rs, nn, (za_F O), (za_F W), pA, pB, (za_F LO), (za_F UA), UB, LA, (za_F KI), wt, EA, yB, (za_F DI), E, (za_F CA), (za_F CB), (za_F CT), lo, (za_F T), (za_F LN), re, yr, fo, fl, ele, els, eb, yl, se, pg, yo) v1) ((nI cn), rg, (za_F O), (za_F W), dA, dB, E, (za_F LO), (za_F UA), UB, LA, (za_F KI), (za_F F1), (za_F F2), (za_F F3), (za_F DI), EA, eB, (za_F CA), (za_F CB), (za_F CT), fu, fz, pr, wh, (za_F T), (za_F LN), ro, sz, em, hg, lv, bh, rl, rr, rv, ou, nx, sl) v1 := by
  have hI : (-1 : Int32) = -1 ∧ i_Rel (k + 5) ((nI cn), rg, (za_F O), (za_F W), dA, dB, E, (za_F LO), (za_F UA), UB, LA, (za_F KI), (za_F F1), (za_F F2), (za_F F3), (za_F DI), EA, eB, (za_F CA), (za_F CB), (za_F CT), fu, fz, pr, wh, (za_F T), (za_F LN), ro, sz, em, hg, lv, bh, rl, rr, rv, ou, nx, sl) ((nI cn), rs, nn, (za_F O), (za_F W), pA, pB, (za_F LO), (za_F UA), UB, LA, (za_F KI), wt, EA, yB, (za_F DI), E, (za_F CA), (za_F CB), (za_F CT), lo, (za_F T), (za_F LN), re, yr, fo, fl, ele, els, eb, yl, se, pg, yo) := ⟨rfl, zr_in hS hR⟩
  rcases zr_lv v1 with ⟨level, hv0, hv5, rfl⟩ | hlt | ⟨hnl, hgt⟩
  · obtain ⟨f, hf⟩ : ∃ f : Nat → Nat → Bool, ∀ s e, f s e = decide (zw_o F1 F2 F3 cn CA CB CT EA eB level (zn_f O W A B 1 (zt_s T (16 * 0 + s) (e - s))) (zn_f O W A B 1 (zt_s T (16 * 1 + 0) (LN 1))) = 0) := ⟨_, fun _ _ => rfl⟩
    refine zx_search hS hv0 hv5 rfl hf rfl hR (fun ro' sz' nx' sl' h => ?_)
    exact zy_search hS hv0 hv5 rfl hf rfl (fun nn' yr' fo' fl' ele' els' => ⟨rfl, zr_in hS h⟩)
  · unfold wpX_search wpY_search
    dsimp only
    exact br_t hlt (zy_in_l hlt (br_t rfl hI))
  · unfold wpX_search wpY_search
    dsimp only
    refine br_f hnl (br_f (Int32.not_le.mpr hgt) ?_)
    exact zy_in_g hgt (br_t rfl hI)
end
end
section
/-! embedding levels, directions, levels -/
def zl_n (e d : Nat) : Nat := e + (if e % 2 = d - 4 then 1 else 2)
def zl_p1 (e : Nat) (st : List Nat) (d : Nat) : Nat := if d = 6 then st.headD e else e
def zl_p2 (st : List Nat) (d : Nat) : List Nat := if d = 6 then st.tail else st
def zl_q1 (e d : Nat) : Nat := if (d = 4 ∨ d = 5) ∧ zl_n e d < 7 then zl_n e d else e
def zl_q2 (e : Nat) (st : List Nat) (d : Nat) : List Nat := if d = 4 ∨ d = 5 then e :: st else st
def zl_em (dd : Nat → Nat) : Nat → Nat → Nat → List Nat → List Nat
  | 0, _, _, _ => []
  | k + 1, i, e, st => zl_p1 e st (dd i) :: zl_em dd k (i + 1) (zl_q1 (zl_p1 e st (dd i)) (dd i)) (zl_q2 (zl_p1 e st (dd i)) (zl_p2 st (dd i)) (dd i))
def zl_h3 (d : Nat) : Nat := if d ≤ 3 then d else 3
def zl_hd (dd : Nat → Nat) : Nat → Nat → List Nat
  | 0, _ => []
  | k + 1, i => zl_h3 (dd i) :: zl_hd dd k (i + 1)
theorem zl_p1_lt {e d : Nat} {st : List Nat} (he : e < 7) (hs : ∀ x ∈ st, x < 7) : zl_p1 e st d < 7 := by
  unfold zl_p1
  split
  · cases st with
    | nil => exact he
    | cons x xs => exact hs x (by simp)
  · exact he
theorem zl_p2_lt {d : Nat} {st : List Nat} (hs : ∀ x ∈ st, x < 7) : ∀ x ∈ zl_p2 st d, x < 7 := by
  unfold zl_p2
  split
  · intro x hx; exact hs x (List.mem_of_mem_tail hx)
  · exact hs
theorem zl_q1_lt {e d : Nat} (he : e < 7) : zl_q1 e d < 7 := by
  unfold zl_q1; split
  · rename_i h; exact h.2
  · exact he
theorem zl_q2_lt {e d : Nat} {st : List Nat} (he : e < 7) (hs : ∀ x ∈ st, x < 7) : ∀ x ∈ zl_q2 e st d, x < 7 := by
  unfold zl_q2; split
  · intro x hx
    rcases List.mem_cons.mp hx with h | h
    · omega
    · exact hs x h
  · exact hs
theorem zl_em_len (dd : Nat → Nat) : ∀ k i e st, (zl_em dd k i e st).length = k
  | 0, _, _, _ => rfl
  | k + 1, i, e, st => by rw [zl_em, List.length_cons, zl_em_len dd k]
theorem zl_hd_len (dd : Nat → Nat) : ∀ k i, (zl_hd dd k i).length = k
  | 0, _ => rfl
  | k + 1, i => by rw [zl_hd, List.length_cons, zl_hd_len dd k]
theorem zl_em_lt {dd : Nat → Nat} : ∀ {k i e : Nat} {st : List Nat}, e < 7 → (∀ x ∈ st, x < 7) → ∀ x ∈ zl_em dd k i e st, x < 7
  | 0, _, _, _, _, _, x, hx => by simp [zl_em] at hx
  | k + 1, i, e, st, he, hs, x, hx => by
    have h1 := zl_p1_lt (d := dd i) he hs
    rcases List.mem_cons.mp hx with h | h
    · omega
    · exact zl_em_lt (k := k) (zl_q1_lt h1) (zl_q2_lt h1 (zl_p2_lt hs)) x h
theorem zl_hd_lt {dd : Nat → Nat} : ∀ {k i : Nat}, ∀ x ∈ zl_hd dd k i, x < 4
  | 0, _, x, hx => by simp [zl_hd] at hx
  | k + 1, i, x, hx => by
    rcases List.mem_cons.mp hx with h | h
    · rw [h]; unfold zl_h3; split <;> omega
    · exact zl_hd_lt (k := k) x h
/-- directions in a run -/
def zl_sd (d : Nat) : Nat := if d = 2 then 1 else d
def zl_v (near side e : Nat) : Nat := if near = side then side else e % 2
def zl_nm : Nat → List Nat → List Nat
  | _, [] => []
  | l, d :: ds => (if d = 2 ∧ (if d < 2 then d else l) = 0 then 0 else d) :: zl_nm (if d < 2 then d else l) ds
def zl_fl (e after : Nat) : Nat → Nat → List Nat → List Nat
  | near, k, [] => List.replicate k (zl_v near after e)
  | near, k, d :: ds => if d = 3 then zl_fl e after near (k + 1) ds else List.replicate k (zl_v near (zl_sd d) e) ++ d :: zl_fl e after (zl_sd d) 0 ds
def zl_fx (e after : Nat) : Nat → Nat → Nat → List Nat → List Nat
  | _, near, k, [] => List.replicate k (zl_v near after e)
  | strong, near, k, d :: ds => if d = 3 then zl_fx e after strong near (k + 1) ds else
      List.replicate k (zl_v near (zl_sd (if d = 2 ∧ strong = 0 then 0 else d)) e) ++ (if d = 2 ∧ strong = 0 then 0 else d) :: zl_fx e after (if (if d = 2 ∧ strong = 0 then 0 else d) < 2 then (if d = 2 ∧ strong = 0 then 0 else d) else strong) (zl_sd (if d = 2 ∧ strong = 0 then 0 else d)) 0 ds
theorem zl_fx_fl {e after : Nat} : ∀ (ds : List Nat) (strong near k : Nat), (∀ d ∈ ds, d < 4) → zl_fx e after strong near k ds = zl_fl e after near k (zl_nm strong ds)
  | [], _, _, _, _ => rfl
  | d :: ds, strong, near, k, h => by
    have hd : d < 4 := h d (by simp)
    have ih := fun s n k => zl_fx_fl (e := e) (after := after) ds s n k (fun x hx => h x (by simp [hx]))
    rw [zl_fx, zl_nm, zl_fl]
    have : d = 0 ∨ d = 1 ∨ d = 2 ∨ d = 3 := by omega
    rcases this with rfl | rfl | rfl | rfl
    · simp [ih]
    · simp [ih]
    · by_cases hs : strong = 0
      · simp [hs, ih]
      · simp [hs, ih]
    · simp [ih]
theorem zl_fl_len {e after : Nat} : ∀ (ds : List Nat) (near k : Nat), (zl_fl e after near k ds).length = k + ds.length
  | [], near, k => by simp [zl_fl]
  | d :: ds, near, k => by
    rw [zl_fl]
    split
    · rw [zl_fl_len ds, List.length_cons]; omega
    · rw [List.length_append, List.length_replicate, List.length_cons, List.length_cons, zl_fl_len ds]; omega
theorem zl_fx_len {e after : Nat} : ∀ (ds : List Nat) (strong near k : Nat), (zl_fx e after strong near k ds).length = k + ds.length
  | [], _, near, k => by simp [zl_fx]
  | d :: ds, strong, near, k => by
    rw [zl_fx]
    split
    · rw [zl_fx_len ds, List.length_cons]; omega
    · rw [List.length_append, List.length_replicate, List.length_cons, List.length_cons, zl_fx_len ds]; omega
theorem zl_nm_len : ∀ (ds : List Nat) (l : Nat), (zl_nm l ds).length = ds.length
  | [], _ => rfl
  | d :: ds, l => by rw [zl_nm, List.length_cons, List.length_cons, zl_nm_len ds]
theorem zl_nm_lt : ∀ {ds : List Nat} {l : Nat}, (∀ d ∈ ds, d < 4) → ∀ x ∈ zl_nm l ds, x < 4
  | [], _, _, x, hx => by simp [zl_nm] at hx
  | d :: ds, l, h, x, hx => by
    have hd := h d (by simp)
    rw [zl_nm] at hx
    rcases List.mem_cons.mp hx with g | g
    · rw [g]
      by_cases q : d = 2 ∧ (if d < 2 then d else l) = 0
      · rw [if_pos q]; omega
      · rw [if_neg q]; exact hd
    · exact zl_nm_lt (ds := ds) (fun y hy => h y (by simp [hy])) x g
theorem zl_v_lt {near side e : Nat} (hs : side < 2) : zl_v near side e < 2 := by
  unfold zl_v; split
  · exact hs
  · omega
theorem zl_sd_lt {d : Nat} (h : d < 3) : zl_sd d < 2 := by unfold zl_sd; split <;> omega
theorem zl_fl_lt {e after : Nat} (ha : after < 2) : ∀ {ds : List Nat} {near k : Nat}, (∀ d ∈ ds, d < 4) → ∀ x ∈ zl_fl e after near k ds, x < 3
  | [], near, k, _, x, hx => by
    rw [zl_fl] at hx
    have := List.eq_of_mem_replicate hx
    have := zl_v_lt (near := near) (e := e) ha
    omega
  | d :: ds, near, k, h, x, hx => by
    have hd := h d (by simp)
    have ih := fun n k => zl_fl_lt (e := e) ha (ds := ds) (near := n) (k := k) (fun y hy => h y (by simp [hy]))
    rw [zl_fl] at hx
    split at hx
    · exact ih _ _ x hx
    · rename_i g
      rcases List.mem_append.mp hx with hx | hx
      · have := List.eq_of_mem_replicate hx
        have := zl_v_lt (near := near) (e := e) (zl_sd_lt (d := d) (by omega))
        omega
      · rcases List.mem_cons.mp hx with hx | hx
        · omega
        · exact ih _ _ x hx
def zl_lv (e d : Nat) : Nat := if e % 2 = 0 then e + d else if d = 1 then e else e + 1
theorem zl_lv_lt {e d : Nat} (he : e < 7) (hd : d < 3) : zl_lv e d ≤ 8 := by
  unfold zl_lv; split
  · omega
  · split <;> omega
def zl_mx (a b : Nat) : Nat := if b < a then a else b
theorem zl_mx_lt {a b : Nat} (ha : a < 7) (hb : b < 7) : zl_mx a b < 7 := by unfold zl_mx; split <;> omega
/-- how many levels in front are equal to e -/
def zl_c (e : Nat) : List Nat → Nat
  | [] => 0
  | x :: xs => if x = e then zl_c e xs + 1 else 0
theorem zl_c_le (e : Nat) : ∀ L, zl_c e L ≤ L.length
  | [] => Nat.le_refl _
  | x :: xs => by
    have := zl_c_le e xs
    unfold zl_c; split
    · rw [List.length_cons]; omega
    · exact Nat.zero_le _
/-- the levels of a text, by runs -/
def zl_L (base : Nat) : Nat → Nat → List Nat → List Nat → List Nat
  | 0, _, _, _ => []
  | _ + 1, _, [], _ => []
  | f + 1, old, e :: es, hs =>
    (zl_fx e (zl_mx ((es.drop (zl_c e es)).headD base) e % 2) (zl_mx old e % 2) (zl_mx old e % 2) 0 (hs.take (zl_c e es + 1))).map (zl_lv e) ++ zl_L base f e (es.drop (zl_c e es)) (hs.drop (zl_c e es + 1))
end
section
theorem zl_n4 : ∀ e, e < 7 → (nI e + 1) ||| 1 = nI (zl_n e 4) := by decide +kernel
theorem zl_n5 : ∀ e, e < 7 → (nI e + 2) &&& (-2) = nI (zl_n e 5) := by decide +kernel
theorem zl_n_le {e d : Nat} : zl_n e d ≤ e + 2 := by unfold zl_n; split <;> omega
section
variable {cn : Nat} {rg : Int32} {O W LO UA KI F1 F2 F3 DI CA CB CT T LN : Nat → Nat} {E UB LA EA dA dB eB fu fz pr wh ro sz em hg lv bh rl rr rv ou nx sl : Nat → Int32}
theorem zx_embed {post : SX → Prop} {t base : Nat} (ht : t < 2) (hb : base < 2) (hl : LN t ≤ 16) (hT : ∀ j, j < 32 → T j < 48) (hD : ∀ x, x < 48 → DI x < 7)
    (H : ∀ em' hg' ou', za_h em' 0 (zl_em (zb_k DI T t) (LN t) 0 base []) → za_h hg' 0 (zl_hd (zb_k DI T t) (LN t) 0) → post ((nI cn), rg, (za_F O), (za_F W), dA, dB, E, (za_F LO), (za_F UA), UB, LA, (za_F KI), (za_F F1), (za_F F2), (za_F F3), (za_F DI), EA, eB, (za_F CA), (za_F CB), (za_F CT), fu, fz, pr, wh, (za_F T), (za_F LN), ro, sz, em', hg', lv, bh, rl, rr, rv, ou', nx, sl)) : wpX_embed post ((nI cn), rg, (za_F O), (za_F W), dA, dB, E, (za_F LO), (za_F UA), UB, LA, (za_F KI), (za_F F1), (za_F F2), (za_F F3), (za_F DI), EA, eB, (za_F CA), (za_F CB), (za_F CT), fu, fz, pr, wh, (za_F T), (za_F LN), ro, sz, em, hg, lv, bh, rl, rr, rv, ou, nx, sl) (nI t) (nI base) := by
  have hvt : vp_in (nI t) 2 := vp_in_nI ht (by decide)
  have elen : za_F LN (nI t).toNatClampNeg = nI (LN t) := by rw [nI_clamp (by omega)]; rfl
  have key : ∀ (k i e : Nat) (st Pe Ph : List Nat) (em hg ou : Nat → Int32) (n : Nat), k < n → i + k = LN t → Pe.length = i → Ph.length = i → st.length ≤ i → e < 7 → (∀ x ∈ st, x < 7) → za_h em 0 Pe → za_h hg 0 Ph → za_h ou 0 st.reverse →
      Pe ++ zl_em (zb_k DI T t) k i e st = zl_em (zb_k DI T t) (LN t) 0 base [] → Ph ++ zl_hd (zb_k DI T t) k i = zl_hd (zb_k DI T t) (LN t) 0 →
      wX_embed_8 post (nI t) (nI cn) rg n (nI e) (nI st.length) (nI i) (za_F O) (za_F W) dA dB E (za_F LO) (za_F UA) UB LA (za_F KI) (za_F F1) (za_F F2) (za_F F3) (za_F DI) EA eB (za_F CA) (za_F CB) (za_F CT) fu fz pr wh (za_F T) (za_F LN) ro sz em hg lv bh rl rr rv ou nx sl := by
    intro k
    induction k with
    | zero =>
      intro i e st Pe Ph em hg ou n hn hi h1 h2 h3 h4 h5 g1 g2 g3 q1 q2
      obtain ⟨n, rfl⟩ : ∃ k, n = k + 1 := ⟨n - 1, by omega⟩
      refine ⟨hvt, pk_le (LN t) i (fun _ => H em hg ou ?_ ?_) (fun g => by omega) elen rfl⟩
      · rw [← q1]; show za_h em 0 (Pe ++ []); rw [List.append_nil]; exact g1
      · rw [← q2]; show za_h hg 0 (Ph ++ []); rw [List.append_nil]; exact g2
    | succ k ih =>
      intro i e st Pe Ph em hg ou n hn hi h1 h2 h3 h4 h5 g1 g2 g3 q1 q2
      obtain ⟨n, rfl⟩ : ∃ k, n = k + 1 := ⟨n - 1, by omega⟩
      obtain ⟨b1, b2, b3⟩ := zb_rd (KI := DI) (T := T) ht (show i < 16 by omega) hT (za_x16 t i)
      have hd : zb_k DI T t i < 7 := hD _ (hT (16 * t + i) (by omega))
      rw [zl_em] at q1
      rw [zl_hd] at q2
      generalize hdd : zb_k DI T t i = d at hd b3 q1 q2
      -- the rest behind the new level
      have h126 : ∀ (e1 e2 : Nat) (st2 : List Nat) (ou2 : Nat → Int32), e1 < 7 → e2 < 7 → st2.length ≤ i + 1 → (∀ x ∈ st2, x < 7) → za_h ou2 0 st2.reverse → Pe ++ e1 :: zl_em (zb_k DI T t) k (i + 1) e2 st2 = zl_em (zb_k DI T t) (LN t) 0 base [] →
          wX_embed_126 post (wX_embed_8 post (nI t) (nI cn) rg n) (nI t) (nI e2) (nI st2.length) (nI i) (nI d) (nI cn) rg (za_F O) (za_F W) dA dB E (za_F LO) (za_F UA) UB LA (za_F KI) (za_F F1) (za_F F2) (za_F F3) (za_F DI) EA eB (za_F CA) (za_F CB) (za_F CT) fu fz pr wh (za_F T) (za_F LN) ro sz (upd em (0 + Pe.length) (nI e1)) hg lv bh rl rr rv ou2 nx sl := by
        intro e1 e2 st2 ou2 k1 k2 k3 k4 k5 k6
        have hnx : ∀ v, v = zl_h3 d → wX_embed_8 post (nI t) (nI cn) rg n (nI e2) (nI st2.length) (nI (i + 1)) (za_F O) (za_F W) dA dB E (za_F LO) (za_F UA) UB LA (za_F KI) (za_F F1) (za_F F2) (za_F F3) (za_F DI) EA eB (za_F CA) (za_F CB) (za_F CT) fu fz pr wh (za_F T) (za_F LN) ro sz (upd em (0 + Pe.length) (nI e1)) (upd hg (0 + Ph.length) (nI v)) lv bh rl rr rv ou2 nx sl := by
          intro v hv
          refine ih (i + 1) e2 st2 (Pe ++ [e1]) (Ph ++ [v]) _ _ ou2 n (by omega) (by omega) (by simp; omega) (by simp; omega) k3 k2 k4 (za_h_snoc g1) (za_h_snoc g2) k5 ?_ ?_
          · rw [List.append_assoc]; exact k6
          · rw [List.append_assoc, hv]; exact q2
        refine pk_le d 3 (fun g => ⟨vp_in_nI (by omega) (by decide), ?_⟩) (fun g => ⟨vp_in_nI (by omega) (by decide), ?_⟩)
        · refine nm_r (e' := upd hg (0 + Ph.length) (nI d)) (by rw [nI_clamp (by omega), za_nb2 (by omega), h2, Nat.zero_add]) (nm_r (nI_1 i) (hnx d ?_))
          unfold zl_h3; rw [if_pos g]
        · refine nm_r (e' := upd hg (0 + Ph.length) (nI 3)) (by rw [nI_clamp (by omega), h2, Nat.zero_add]; exact congrArg (upd hg i) (za_nb2 (v := 3) (by omega))) (nm_r (nI_1 i) (hnx 3 ?_))
          unfold zl_h3; rw [if_neg (by omega)]
      have h61 : ∀ (e1 : Nat) (st1 : List Nat), e1 < 7 → st1.length ≤ i → (∀ x ∈ st1, x < 7) → za_h ou 0 st1.reverse → Pe ++ e1 :: zl_em (zb_k DI T t) k (i + 1) (zl_q1 e1 d) (zl_q2 e1 st1 d) = zl_em (zb_k DI T t) (LN t) 0 base [] →
          wX_embed_61 post (wX_embed_8 post (nI t) (nI cn) rg n) (nI t) (nI e1) (nI st1.length) (nI i) (nI d) (nI cn) rg (za_F O) (za_F W) dA dB E (za_F LO) (za_F UA) UB LA (za_F KI) (za_F F1) (za_F F2) (za_F F3) (za_F DI) EA eB (za_F CA) (za_F CB) (za_F CT) fu fz pr wh (za_F T) (za_F LN) ro sz em hg lv bh rl rr rv ou nx sl := by
        intro e1 st1 k1 k2 k3 k4 k5
        refine ⟨vp_in_nI (by omega) (by decide), nm_r (e' := upd em (0 + Pe.length) (nI e1)) (by rw [nI_clamp (by omega), za_nb2 (by omega), h1, Nat.zero_add]) ?_⟩
        have hpush : (d = 4 ∨ d = 5) → ∀ z : Int32, z = nI (zl_n e1 d) → wX_embed_102 post (wX_embed_8 post (nI t) (nI cn) rg n) (nI t) (nI e1) (nI st1.length) (nI i) (nI d) z (nI cn) rg (za_F O) (za_F W) dA dB E (za_F LO) (za_F UA) UB LA (za_F KI) (za_F F1) (za_F F2) (za_F F3) (za_F DI) EA eB (za_F CA) (za_F CB) (za_F CT) fu fz pr wh (za_F T) (za_F LN) ro sz (upd em (0 + Pe.length) (nI e1)) hg lv bh rl rr rv ou nx sl := by
          intro hd45 z hz
          have hle := zl_n_le (e := e1) (d := d)
          have e2 : zl_q2 e1 st1 d = e1 :: st1 := by unfold zl_q2; rw [if_pos hd45]
          have hou : za_h (upd ou (0 + st1.reverse.length) (nI e1)) 0 (e1 :: st1).reverse := by
            rw [List.reverse_cons]; exact za_h_snoc k4
          rw [e2] at k5
          refine nm_r (e' := nI (e1 :: st1).length) (nI_1 _) ⟨vp_in_nI (by omega) (by decide), ?_⟩
          refine nm_r (e' := upd ou (0 + st1.reverse.length) (nI e1)) (by rw [nI_clamp (by omega), za_nb2 (by omega), List.length_reverse, Nat.zero_add]) ?_
          have hst : ∀ x ∈ e1 :: st1, x < 7 := fun x hx => by
            rcases List.mem_cons.mp hx with h | h
            · omega
            · exact k3 x h
          refine pk_le 7 (zl_n e1 d) (fun g => ?_) (fun g => ?_) rfl hz
          · have e3 : zl_q1 e1 d = e1 := by unfold zl_q1; rw [if_neg (by omega)]
            rw [e3] at k5
            exact h126 e1 e1 (e1 :: st1) _ k1 k1 (by rw [List.length_cons]; omega) hst hou k5
          · have e3 : zl_q1 e1 d = zl_n e1 d := by unfold zl_q1; rw [if_pos ⟨hd45, g⟩]
            rw [e3] at k5
            rw [hz]
            exact h126 e1 (zl_n e1 d) (e1 :: st1) _ k1 g (by rw [List.length_cons]; omega) hst hou k5
        refine pk_eq d 4 (fun g => pk_eq d 4 (fun _ => hpush (Or.inl g) _ ?_) (fun q => by omega)) (fun g => pk_eq d 5 (fun g2 => pk_eq d 4 (fun q => by omega) (fun _ => hpush (Or.inr g2) _ ?_)) (fun g2 => ?_))
        · rw [g]; exact zl_n4 e1 k1
        · rw [g2]; exact zl_n5 e1 k1
        · have e2 : zl_q2 e1 st1 d = st1 := by unfold zl_q2; rw [if_neg (by omega)]
          have e3 : zl_q1 e1 d = e1 := by unfold zl_q1; rw [if_neg (by omega)]
          rw [e2, e3] at k5
          exact h126 e1 e1 st1 ou k1 k1 (by omega) k3 k4 k5
      refine ⟨hvt, pk_le (LN t) i (fun g => by omega) (fun _ => ⟨b1, b2, nm_r b3 ?_⟩) elen rfl⟩
      refine pk_eq d 6 (fun g => ?_) (fun g => ?_)
      · have ep1 : zl_p1 e st d = st.headD e := by unfold zl_p1; rw [if_pos g]
        have ep2 : zl_p2 st d = st.tail := by unfold zl_p2; rw [if_pos g]
        rw [ep1, ep2] at q1
        cases st with
        | nil =>
          refine pk_le 0 0 (fun _ => ?_) (fun q => by omega)
          exact h61 e [] h4 (by simp) h5 g3 q1
        | cons x xs =>
          rw [List.length_cons] at h3
          refine pk_le (x :: xs).length 0 (fun q => by rw [List.length_cons] at q; omega) (fun _ => ?_) rfl rfl (by rw [List.length_cons]; omega)
          refine nm_r (e' := nI xs.length) (pk_m1 _) ⟨vp_in_nI (by omega) (by decide), ?_⟩
          rw [List.reverse_cons, za_h_app] at g3
          refine nm_r (e' := nI x) (by rw [nI_clamp (by omega)]; have := g3.2.1; rw [List.length_reverse, Nat.zero_add] at this; exact this) ?_
          exact h61 x xs (h5 x (by simp)) (by omega) (fun y hy => h5 y (by simp [hy])) g3.1 q1
      · have ep1 : zl_p1 e st d = e := by unfold zl_p1; rw [if_neg g]
        have ep2 : zl_p2 st d = st := by unfold zl_p2; rw [if_neg g]
        rw [ep1, ep2] at q1
        exact h61 e st h4 h3 h5 g3 q1
  exact ⟨LN t + 1, key (LN t) 0 base [] [] [] em hg ou (LN t + 1) (by omega) (by omega) rfl rfl (Nat.le_refl _) (by omega) (fun x hx => by simp at hx) trivial trivial trivial rfl rfl⟩
end
section
variable {cn : Nat} {rs nn : Int32} {O W LO UA KI F1 F2 F3 DI CA CB CT T LN : Nat → Nat} {E UB LA EA pA pB wt yB lo re yr fo fl ele els eb yl se pg yo : Nat → Int32}
theorem zy_embed {post : SY → Prop} {t base : Nat} (ht : t < 2) (hb : base < 2) (hl : LN t ≤ 16) (hT : ∀ j, j < 32 → T j < 48) (hD : ∀ x, x < 48 → DI x < 7)
    (H : ∀ em' hg' ou', za_h em' 0 (zl_em (zb_k DI T t) (LN t) 0 base []) → za_h hg' 0 (zl_hd (zb_k DI T t) (LN t) 0) → post ((nI cn), rs, nn, (za_F O), (za_F W), pA, pB, (za_F LO), (za_F UA), UB, LA, (za_F KI), wt, EA, yB, (za_F DI), E, (za_F CA), (za_F CB), (za_F CT), lo, (za_F T), (za_F LN), re, yr, fo, fl, ele, els, em', yl, hg', pg, ou')) : wpY_embed post ((nI cn), rs, nn, (za_F O), (za_F W), pA, pB, (za_F LO), (za_F UA), UB, LA, (za_F KI), wt, EA, yB, (za_F DI), E, (za_F CA), (za_F CB), (za_F CT), lo, (za_F T), (za_F LN), re, yr, fo, fl, ele, els, eb, yl, se, pg, yo) (nI t) (nI base) := by
  have hvt : vp_in (nI t) 2 := vp_in_nI ht (by decide)
  have elen : za_F LN (nI t).toNatClampNeg = nI (LN t) := by rw [nI_clamp (by omega)]; rfl
  have h2n : ¬ (2 : Int32) = 0 := by decide
  have key : ∀ (k i e : Nat) (st Pe Ph : List Nat) (em hg ou : Nat → Int32) (n : Nat), k < n → i + k = LN t → Pe.length = i → Ph.length = i → st.length ≤ i → e < 7 → (∀ x ∈ st, x < 7) → za_h em 0 Pe → za_h hg 0 Ph → za_h ou 0 st.reverse →
      Pe ++ zl_em (zb_k DI T t) k i e st = zl_em (zb_k DI T t) (LN t) 0 base [] → Ph ++ zl_hd (zb_k DI T t) k i = zl_hd (zb_k DI T t) (LN t) 0 →
      wY_embed_8 post (nI t) (nI cn) rs nn n (nI e) (nI st.length) (nI i) (za_F O) (za_F W) pA pB (za_F LO) (za_F UA) UB LA (za_F KI) wt EA yB (za_F DI) E (za_F CA) (za_F CB) (za_F CT) lo (za_F T) (za_F LN) re yr fo fl ele els em yl hg pg ou := by
    intro k
    induction k with
    | zero =>
      intro i e st Pe Ph em hg ou n hn hi h1 h2 h3 h4 h5 g1 g2 g3 q1 q2
      obtain ⟨n, rfl⟩ : ∃ k, n = k + 1 := ⟨n - 1, by omega⟩
      refine ⟨hvt, pk_le (LN t) i (fun _ => H em hg ou ?_ ?_) (fun g => by omega) elen rfl⟩
      · rw [← q1]; show za_h em 0 (Pe ++ []); rw [List.append_nil]; exact g1
      · rw [← q2]; show za_h hg 0 (Ph ++ []); rw [List.append_nil]; exact g2
    | succ k ih =>
      intro i e st Pe Ph em hg ou n hn hi h1 h2 h3 h4 h5 g1 g2 g3 q1 q2
      obtain ⟨n, rfl⟩ : ∃ k, n = k + 1 := ⟨n - 1, by omega⟩
      obtain ⟨b1, b2, b3⟩ := zb_rd (KI := DI) (T := T) ht (show i < 16 by omega) hT (za_x16 t i)
      have hd : zb_k DI T t i < 7 := hD _ (hT (16 * t + i) (by omega))
      rw [zl_em] at q1
      rw [zl_hd] at q2
      generalize hdd : zb_k DI T t i = d at hd b3 q1 q2
      have hnx : ∀ (e1 e2 : Nat) (st2 : List Nat) (ou2 : Nat → Int32), e1 < 7 → e2 < 7 → st2.length ≤ i + 1 → (∀ x ∈ st2, x < 7) → za_h ou2 0 st2.reverse → Pe ++ e1 :: zl_em (zb_k DI T t) k (i + 1) e2 st2 = zl_em (zb_k DI T t) (LN t) 0 base [] →
          wY_embed_8 post (nI t) (nI cn) rs nn n (nI e2) (nI st2.length) (nI (i + 1)) (za_F O) (za_F W) pA pB (za_F LO) (za_F UA) UB LA (za_F KI) wt EA yB (za_F DI) E (za_F CA) (za_F CB) (za_F CT) lo (za_F T) (za_F LN) re yr fo fl ele els (upd em (0 + Pe.length) (nI e1)) yl (upd hg (0 + Ph.length) (nI (zl_h3 d))) pg ou2 := by
        intro e1 e2 st2 ou2 k1 k2 k3 k4 k5 k6
        refine ih (i + 1) e2 st2 (Pe ++ [e1]) (Ph ++ [zl_h3 d]) _ _ ou2 n (by omega) (by omega) (by simp; omega) (by simp; omega) k3 k2 k4 (za_h_snoc g1) (za_h_snoc g2) k5 ?_ ?_
        · rw [List.append_assoc]; exact k6
        · rw [List.append_assoc]; exact q2
      have h51 : ∀ (e1 : Nat) (st1 : List Nat), e1 < 7 → st1.length ≤ i → (∀ x ∈ st1, x < 7) → za_h ou 0 st1.reverse → Pe ++ e1 :: zl_em (zb_k DI T t) k (i + 1) (zl_q1 e1 d) (zl_q2 e1 st1 d) = zl_em (zb_k DI T t) (LN t) 0 base [] →
          wY_embed_51 post (wY_embed_8 post (nI t) (nI cn) rs nn n) (nI t) (nI e1) (nI st1.length) (nI i) (nI d) (nI cn) rs nn (za_F O) (za_F W) pA pB (za_F LO) (za_F UA) UB LA (za_F KI) wt EA yB (za_F DI) E (za_F CA) (za_F CB) (za_F CT) lo (za_F T) (za_F LN) re yr fo fl ele els em yl hg pg ou := by
        intro e1 st1 k1 k2 k3 k4 k5
        refine ⟨vp_in_nI (by omega) (by decide), nm_r (e' := upd em (0 + Pe.length) (nI e1)) (by rw [nI_clamp (by omega), h1, Nat.zero_add]) ?_⟩
        have h77 : ∀ z : Int32, z = nI (zl_h3 d) → wY_embed_77 post (wY_embed_8 post (nI t) (nI cn) rs nn n) (nI t) (nI e1) (nI st1.length) (nI i) (nI d) z (nI i) (nI cn) rs nn (za_F O) (za_F W) pA pB (za_F LO) (za_F UA) UB LA (za_F KI) wt EA yB (za_F DI) E (za_F CA) (za_F CB) (za_F CT) lo (za_F T) (za_F LN) re yr fo fl ele els (upd em (0 + Pe.length) (nI e1)) yl hg pg ou := by
          intro z hz
          refine ⟨vp_in_nI (by omega) (by decide), nm_r (e' := upd hg (0 + Ph.length) (nI (zl_h3 d))) (by rw [nI_clamp (by omega), hz, h2, Nat.zero_add]) ?_⟩
          have h90 : (d = 4 ∨ d = 5) → wY_embed_90 post (wY_embed_8 post (nI t) (nI cn) rs nn n) (nI t) (nI e1) (nI st1.length) (nI i) (nI d) (nI cn) rs nn (za_F O) (za_F W) pA pB (za_F LO) (za_F UA) UB LA (za_F KI) wt EA yB (za_F DI) E (za_F CA) (za_F CB) (za_F CT) lo (za_F T) (za_F LN) re yr fo fl ele els (upd em (0 + Pe.length) (nI e1)) yl (upd hg (0 + Ph.length) (nI (zl_h3 d))) pg ou := by
            intro hd45
            have hle := zl_n_le (e := e1) (d := d)
            have e2 : zl_q2 e1 st1 d = e1 :: st1 := by unfold zl_q2; rw [if_pos hd45]
            have hou : za_h (upd ou (0 + st1.reverse.length) (nI e1)) 0 (e1 :: st1).reverse := by
              rw [List.reverse_cons]; exact za_h_snoc k4
            rw [e2] at k5
            have hst : ∀ x ∈ e1 :: st1, x < 7 := fun x hx => by
              rcases List.mem_cons.mp hx with h | h
              · omega
              · exact k3 x h
            refine ⟨vp_in_nI (by omega) (by decide), nm_r (e' := upd ou (0 + st1.reverse.length) (nI e1)) (by rw [nI_clamp (by omega), List.length_reverse, Nat.zero_add]) (nm_r (e' := nI (e1 :: st1).length) (nI_1 _) ⟨h2n, ?_⟩)⟩
            have h117 : ∀ w : Int32, w + 0 = w → nI e1 + w = nI (zl_n e1 d) → wY_embed_117 post (wY_embed_8 post (nI t) (nI cn) rs nn n) (nI t) (nI e1) (nI (e1 :: st1).length) (nI i) w (nI e1) (nI cn) rs nn (za_F O) (za_F W) pA pB (za_F LO) (za_F UA) UB LA (za_F KI) wt EA yB (za_F DI) E (za_F CA) (za_F CB) (za_F CT) lo (za_F T) (za_F LN) re yr fo fl ele els (upd em (0 + Pe.length) (nI e1)) yl (upd hg (0 + Ph.length) (nI (zl_h3 d))) pg (upd ou (0 + st1.reverse.length) (nI e1)) := by
              intro w _ hw
              refine nm_r hw (pk_lt 6 (zl_n e1 d) (fun g => nm_r (nI_1 i) ?_) (fun g => nm_r (nI_1 i) ?_))
              · have e3 : zl_q1 e1 d = e1 := by unfold zl_q1; rw [if_neg (by omega)]
                rw [e3] at k5
                exact hnx e1 e1 (e1 :: st1) _ k1 k1 (by rw [List.length_cons]; omega) hst hou k5
              · have e3 : zl_q1 e1 d = zl_n e1 d := by unfold zl_q1; rw [if_pos ⟨hd45, by omega⟩]
                rw [e3] at k5
                exact hnx e1 (zl_n e1 d) (e1 :: st1) _ k1 (by omega) (by rw [List.length_cons]; omega) hst hou k5
            have er : nI e1 - nI e1 / 2 * 2 = nI (e1 % 2) := pk_rem (d := 2) (by omega) (by omega) (by omega)
            have ed : nI d - 4 = nI (d - 4) := pk_sub (b := 4) (by omega)
            refine pk_eq (e1 % 2) (d - 4) (fun g => h117 1 (by decide) ?_) (fun g => h117 2 (by decide) ?_) er ed
            · unfold zl_n; rw [if_pos g]; exact nI_add e1 1
            · unfold zl_n; rw [if_neg g]; exact nI_add e1 2
          refine pk_eq d 4 (fun g => h90 (Or.inl g)) (fun g => pk_eq d 5 (fun g2 => h90 (Or.inr g2)) (fun g2 => nm_r (nI_1 i) ?_))
          have e2 : zl_q2 e1 st1 d = st1 := by unfold zl_q2; rw [if_neg (by omega)]
          have e3 : zl_q1 e1 d = e1 := by unfold zl_q1; rw [if_neg (by omega)]
          rw [e2, e3] at k5
          exact hnx e1 e1 st1 ou k1 k1 (by omega) k3 k4 k5
        refine pk_le d 3 (fun g => h77 _ ?_) (fun g => h77 _ ?_)
        · unfold zl_h3; rw [if_pos g]
        · unfold zl_h3; rw [if_neg (by omega)]; rfl
      refine ⟨hvt, pk_le (LN t) i (fun g => by omega) (fun _ => ⟨b1, b2, ?_⟩) elen rfl⟩
      rw [b3]
      refine pk_eq d 6 (fun g => ?_) (fun g => ?_)
      · have ep1 : zl_p1 e st d = st.headD e := by unfold zl_p1; rw [if_pos g]
        have ep2 : zl_p2 st d = st.tail := by unfold zl_p2; rw [if_pos g]
        rw [ep1, ep2] at q1
        cases st with
        | nil =>
          refine pk_le 0 0 (fun _ => ?_) (fun q => by omega)
          exact h51 e [] h4 (by simp) h5 g3 q1
        | cons x xs =>
          rw [List.length_cons] at h3
          refine pk_le (x :: xs).length 0 (fun q => by rw [List.length_cons] at q; omega) (fun _ => ?_) rfl rfl (by rw [List.length_cons]; omega)
          refine nm_r (e' := nI xs.length) (pk_m1 _) ⟨vp_in_nI (by omega) (by decide), ?_⟩
          rw [List.reverse_cons, za_h_app] at g3
          refine nm_r (e' := nI x) (by rw [nI_clamp (by omega)]; have := g3.2.1; rw [List.length_reverse, Nat.zero_add] at this; exact this) ?_
          exact h51 x xs (h5 x (by simp)) (by omega) (fun y hy => h5 y (by simp [hy])) g3.1 q1
      · have ep1 : zl_p1 e st d = e := by unfold zl_p1; rw [if_neg g]
        have ep2 : zl_p2 st d = st := by unfold zl_p2; rw [if_neg g]
        rw [ep1, ep2] at q1
        exact h51 e st h4 h3 h5 g3 q1
  exact ⟨LN t + 1, key (LN t) 0 base [] [] [] eb se yo (LN t + 1) (by omega) (by omega) rfl rfl (Nat.le_refl _) (by omega) (fun x hx => by simp at hx) trivial trivial trivial rfl rfl⟩
end
end
section
theorem zl_rep3 {k : Nat} {ds : List Nat} {v : Nat} : List.replicate k v ++ v :: ds = List.replicate (k + 1) v ++ ds := by
  rw [List.replicate_succ', List.append_assoc]; rfl
section
variable {cn : Nat} {rg : Int32} {O W LO UA KI F1 F2 F3 DI CA CB CT T LN : Nat → Nat} {E UB LA EA dA dB eB fu fz pr wh ro sz em hg lv bh rl rr rv ou nx sl : Nat → Int32}
theorem zx_res105 {post : SX → Prop} {J : Int32 → Int32 → Int32 → Int32 → (Nat → Int32) → (Nat → Int32) → (Nat → Int32) → (Nat → Int32) → (Nat → Int32) → (Nat → Int32) → (Nat → Int32) → (Nat → Int32) → (Nat → Int32) → (Nat → Int32) → (Nat → Int32) → (Nat → Int32) → (Nat → Int32) → (Nat → Int32) → (Nat → Int32) → (Nat → Int32) → (Nat → Int32) → (Nat → Int32) → (Nat → Int32) → (Nat → Int32) → (Nat → Int32) → (Nat → Int32) → (Nat → Int32) → (Nat → Int32) → (Nat → Int32) → (Nat → Int32) → (Nat → Int32) → (Nat → Int32) → (Nat → Int32) → (Nat → Int32) → (Nat → Int32) → (Nat → Int32) → (Nat → Int32) → (Nat → Int32) → (Nat → Int32) → (Nat → Int32) → (Nat → Int32) → Prop} {x6 : Int32} {x4 : Int32} {a b p e near side d' : Nat} {tl : List Nat} (hb : b ≤ 16) (hp : p ≤ b) (he : e < 7) (hne : near < 2) (hsi : side < 2) (hd' : d' < 3) :
    ∀ (k : Nat) (Dn : List Nat) (hg : Nat → Int32) (n : Nat), k < n → a + Dn.length + k = p → za_h hg a (Dn ++ (List.replicate k 3 ++ tl)) →
    (∀ hg', za_h hg' a (Dn ++ (List.replicate k (zl_v near side e) ++ tl)) → (∀ j, j < a ∨ p ≤ j → hg' j = hg j) → (b ≤ p → J x6 (nI side) (nI (p + 1)) (nI (p + 1)) (za_F O) (za_F W) dA dB E (za_F LO) (za_F UA) UB LA (za_F KI) (za_F F1) (za_F F2) (za_F F3) (za_F DI) EA eB (za_F CA) (za_F CB) (za_F CT) fu fz pr wh (za_F T) (za_F LN) ro sz em hg' lv bh rl rr rv ou nx sl) ∧ (p < b → J x6 (nI side) (nI (p + 1)) (nI (p + 1)) (za_F O) (za_F W) dA dB E (za_F LO) (za_F UA) UB LA (za_F KI) (za_F F1) (za_F F2) (za_F F3) (za_F DI) EA eB (za_F CA) (za_F CB) (za_F CT) fu fz pr wh (za_F T) (za_F LN) ro sz em (upd hg' p (nI d')) lv bh rl rr rv ou nx sl)) →
    wX_resolve_105 post J (nI a) (nI b) x4 (nI e) x6 (nI near) (nI p) (nI d') (nI side) (nI cn) rg n (nI (a + Dn.length)) (za_F O) (za_F W) dA dB E (za_F LO) (za_F UA) UB LA (za_F KI) (za_F F1) (za_F F2) (za_F F3) (za_F DI) EA eB (za_F CA) (za_F CB) (za_F CT) fu fz pr wh (za_F T) (za_F LN) ro sz em hg lv bh rl rr rv ou nx sl := by
  intro k
  induction k with
  | zero =>
    intro Dn hg n hn hp1 hh H
    obtain ⟨n, rfl⟩ : ∃ k, n = k + 1 := ⟨n - 1, by omega⟩
    obtain ⟨h1, h2⟩ := H hg hh (fun _ _ => rfl)
    refine pk_le p (a + Dn.length) (fun _ => pk_le b p (fun g => nm_r (nI_1 p) (nm_r (nI_1 p) (h1 g))) (fun g => ⟨vp_in_nI (by omega) (by decide), ?_⟩)) (fun g => by omega)
    exact nm_r (e' := upd hg p (nI d')) (by rw [nI_clamp (by omega), za_nb2 (by omega)]) (nm_r (nI_1 p) (nm_r (nI_1 p) (h2 g)))
  | succ k ih =>
    intro Dn hg n hn hp1 hh H
    obtain ⟨n, rfl⟩ : ∃ k, n = k + 1 := ⟨n - 1, by omega⟩
    have hx : ∀ v : Nat, v = zl_v near side e → v < 2 → wX_resolve_105 post J (nI a) (nI b) x4 (nI e) x6 (nI near) (nI p) (nI d') (nI side) (nI cn) rg n (nI (a + Dn.length + 1)) (za_F O) (za_F W) dA dB E (za_F LO) (za_F UA) UB LA (za_F KI) (za_F F1) (za_F F2) (za_F F3) (za_F DI) EA eB (za_F CA) (za_F CB) (za_F CT) fu fz pr wh (za_F T) (za_F LN) ro sz em (upd hg (a + Dn.length) (nI v)) lv bh rl rr rv ou nx sl := by
      intro v hv hv2
      rw [za_h_app] at hh
      have := ih (Dn ++ [v]) (upd hg (a + Dn.length) (nI v)) n (by omega) (by simp; omega) (by
        rw [List.append_assoc, za_h_app]
        refine ⟨za_h_up hh.1 (by omega), pk_us, ?_⟩
        exact za_h_up hh.2.2 (by omega)) (fun hg' g1 g2 => by
        refine H hg' ?_ (fun j hj => ?_)
        · rw [List.append_assoc] at g1
          rw [← hv] at g1 ⊢
          rw [List.replicate_succ]
          exact g1
        · rw [g2 j hj, pk_un (by omega)])
      rw [show a + (Dn ++ [v]).length = a + Dn.length + 1 by simp; omega] at this
      exact this
    refine pk_le p (a + Dn.length) (fun g => by omega) (fun _ => nm_r (nI_1 _) ?_)
    refine pk_eq near side (fun g => ⟨vp_in_nI (by omega) (by decide), ?_⟩) (fun g => ⟨vp_in_nI (by omega) (by decide), ?_⟩)
    · refine nm_r (e' := upd hg (a + Dn.length) (nI side)) (by rw [nI_clamp (by omega), za_nb2 (by omega)]) (hx side ?_ hsi)
      unfold zl_v; rw [if_pos g]
    · have ee : nI e &&& 1 = nI (e % 2) := pk_andN (by omega) 1 (by decide)
      refine nm_r (e' := upd hg (a + Dn.length) (nI (e % 2))) (by rw [nI_clamp (by omega), ee, za_nb2 (by omega)]) (hx (e % 2) ?_ (by omega))
      unfold zl_v; rw [if_neg g]
theorem zx_res20 {post : SX → Prop} {a b e after : Nat} {RS : List Nat} (hb : b ≤ 16) (he : e < 7) (haf : after < 2) :
    ∀ (ds : List Nat) (k : Nat) (Dn : List Nat) (strong near : Nat) (hg : Nat → Int32) (n : Nat), ds.length + 1 < n → a + Dn.length + k + ds.length = b → za_h hg a (Dn ++ (List.replicate k 3 ++ ds)) → (∀ d ∈ ds, d < 4) → strong < 2 → near < 2 → Dn ++ zl_fx e after strong near k ds = RS →
    (∀ hg', za_h hg' a RS → (∀ j, j < a ∨ b ≤ j → hg' j = hg j) → ∃ n, wX_resolve_177 post (nI b) (nI e) (nI cn) rg n (nI a) (za_F O) (za_F W) dA dB E (za_F LO) (za_F UA) UB LA (za_F KI) (za_F F1) (za_F F2) (za_F F3) (za_F DI) EA eB (za_F CA) (za_F CB) (za_F CT) fu fz pr wh (za_F T) (za_F LN) ro sz em hg' lv bh rl rr rv ou nx sl) →
    wX_resolve_20 post (nI a) (nI b) (nI after) (nI e) (nI cn) rg n (nI strong) (nI near) (nI (a + Dn.length)) (nI (a + Dn.length + k)) (za_F O) (za_F W) dA dB E (za_F LO) (za_F UA) UB LA (za_F KI) (za_F F1) (za_F F2) (za_F F3) (za_F DI) EA eB (za_F CA) (za_F CB) (za_F CT) fu fz pr wh (za_F T) (za_F LN) ro sz em hg lv bh rl rr rv ou nx sl := by
  intro ds
  induction ds with
  | nil =>
    intro k Dn strong near hg n hn hlen hh hds hst hne hRS H
    rw [List.length_nil] at hn hlen
    obtain ⟨n, rfl⟩ : ∃ k, n = k + 1 + 1 := ⟨n - 2, by omega⟩
    have hp : a + Dn.length + k = b := by omega
    refine pk_lt b (a + Dn.length + k) (fun g => by omega) (fun _ => pk_eq (a + Dn.length + k) b (fun _ => ?_) (fun g => by omega))
    refine pk_eq after 3 (fun g => by omega) (fun _ => pk_le b (a + Dn.length + k) (fun _ => ?_) (fun g => by omega))
    refine pk_le b (a + Dn.length + k) (fun _ => ?_) (fun g => by omega)
    refine pk_eq after 2 (fun g => by omega) (fun _ => ⟨k + 1, ?_⟩)
    refine zx_res105 (tl := []) hb (by omega) he hne haf (by omega) k Dn hg (k + 1) (by omega) rfl hh (fun hg' g1 g2 => ⟨fun _ => ?_, fun g => by omega⟩)
    refine pk_lt b (a + Dn.length + k + 1) (fun _ => H hg' ?_ (fun j hj => g2 j (by omega))) (fun g => by omega)
    rw [List.append_nil] at g1
    rw [← hRS]; exact g1
  | cons d ds ih =>
    intro k Dn strong near hg n hn hlen hh hds hst hne hRS H
    rw [List.length_cons] at hn hlen
    obtain ⟨n, rfl⟩ : ∃ k, n = k + 1 := ⟨n - 1, by omega⟩
    have hd : d < 4 := hds d (by simp)
    have hds2 : ∀ x ∈ ds, x < 4 := fun x hx => hds x (by simp [hx])
    have hpb : a + Dn.length + k < b := by omega
    have hrd : hg (a + Dn.length + k) = nI d := by
      have h1 := hh
      rw [← List.append_assoc, za_h_app] at h1
      have := h1.2.1
      rw [List.length_append, List.length_replicate, ← Nat.add_assoc] at this
      exact this
    refine pk_lt b (a + Dn.length + k) (fun g => by omega) (fun _ => pk_eq (a + Dn.length + k) b (fun g => by omega) (fun _ => ⟨vp_in_nI (by omega) (by decide), ?_⟩))
    rw [nI_clamp (show a + Dn.length + k < 2 ^ 31 by omega), hrd]
    rw [zl_fx] at hRS
    refine pk_eq d 3 (fun g3 => nm_r (nI_1 _) ?_) (fun g3 => ?_)
    · rw [if_pos g3] at hRS
      subst g3
      rw [zl_rep3] at hh
      exact ih (k + 1) Dn strong near hg n (by omega) (by omega) hh hds2 hst hne hRS H
    · rw [if_neg g3] at hRS
      refine pk_le b (a + Dn.length + k) (fun g => by omega) (fun _ => ?_)
      -- with the direction after the look at numbers
      have h75 : ∀ d' : Nat, d' = (if d = 2 ∧ strong = 0 then 0 else d) → d' < 3 → wX_resolve_75 post (wX_resolve_20 post (nI a) (nI b) (nI after) (nI e) (nI cn) rg n) (nI a) (nI b) (nI after) (nI e) (nI strong) (nI near) (nI (a + Dn.length)) (nI (a + Dn.length + k)) (nI d') (nI cn) rg (za_F O) (za_F W) dA dB E (za_F LO) (za_F UA) UB LA (za_F KI) (za_F F1) (za_F F2) (za_F F3) (za_F DI) EA eB (za_F CA) (za_F CB) (za_F CT) fu fz pr wh (za_F T) (za_F LN) ro sz em hg lv bh rl rr rv ou nx sl := by
        intro d' hd' hd3
        rw [← hd'] at hRS
        have h105 : ∀ (strong' side : Nat), strong' = (if d' < 2 then d' else strong) → side = zl_sd d' → strong' < 2 → side < 2 → ∃ m, wX_resolve_105 post (wX_resolve_20 post (nI a) (nI b) (nI after) (nI e) (nI cn) rg n) (nI a) (nI b) (nI after) (nI e) (nI strong') (nI near) (nI (a + Dn.length + k)) (nI d') (nI side) (nI cn) rg m (nI (a + Dn.length)) (za_F O) (za_F W) dA dB E (za_F LO) (za_F UA) UB LA (za_F KI) (za_F F1) (za_F F2) (za_F F3) (za_F DI) EA eB (za_F CA) (za_F CB) (za_F CT) fu fz pr wh (za_F T) (za_F LN) ro sz em hg lv bh rl rr rv ou nx sl := by
          intro strong' side hs' hsd hs2 hsd2
          rw [← hs', ← hsd] at hRS
          refine ⟨k + 1, zx_res105 (tl := d :: ds) hb (by omega) he hne hsd2 hd3 k Dn hg (k + 1) (by omega) rfl hh (fun hg' g1 g2 => ⟨fun g => by omega, fun _ => ?_⟩)⟩
          have hlen2 : a + (Dn ++ (List.replicate k (zl_v near side e) ++ [d'])).length = a + Dn.length + k + 1 := by simp; omega
          have hset : za_h (upd hg' (a + Dn.length + k) (nI d')) a ((Dn ++ (List.replicate k (zl_v near side e) ++ [d'])) ++ (List.replicate 0 3 ++ ds)) := by
            rw [← List.append_assoc, za_h_app] at g1
            have hl3 : (Dn ++ List.replicate k (zl_v near side e)).length = Dn.length + k := by simp
            rw [show (Dn ++ (List.replicate k (zl_v near side e) ++ [d'])) ++ (List.replicate 0 3 ++ ds) = (Dn ++ List.replicate k (zl_v near side e)) ++ (d' :: ds) by simp, za_h_app, hl3, ← Nat.add_assoc]
            rw [hl3, ← Nat.add_assoc] at g1
            exact ⟨za_h_up g1.1 (by omega), pk_us, za_h_up g1.2.2 (by omega)⟩
          have := ih 0 (Dn ++ (List.replicate k (zl_v near side e) ++ [d'])) strong' side (upd hg' (a + Dn.length + k) (nI d')) n (by omega) (by omega) hset hds2 hs2 hsd2 (by
            rw [← hRS]; simp) (fun hg2 k1 k2 => H hg2 k1 (fun j hj => by rw [k2 j hj, pk_un (by omega), g2 j (by omega)]))
          rw [Nat.add_zero, hlen2] at this
          exact this
        have h91 : ∀ (strong' : Nat), strong' = (if d' < 2 then d' else strong) → strong' < 2 → wX_resolve_91 post (wX_resolve_20 post (nI a) (nI b) (nI after) (nI e) (nI cn) rg n) (nI a) (nI b) (nI after) (nI e) (nI strong') (nI near) (nI (a + Dn.length)) (nI (a + Dn.length + k)) (nI d') (nI cn) rg (za_F O) (za_F W) dA dB E (za_F LO) (za_F UA) UB LA (za_F KI) (za_F F1) (za_F F2) (za_F F3) (za_F DI) EA eB (za_F CA) (za_F CB) (za_F CT) fu fz pr wh (za_F T) (za_F LN) ro sz em hg lv bh rl rr rv ou nx sl := by
          intro strong' hs' hs2
          refine pk_eq d' 2 (fun g => ?_) (fun g => ?_)
          · exact h105 strong' 1 hs' (by unfold zl_sd; rw [if_pos g]) hs2 (by omega)
          · exact h105 strong' d' hs' (by unfold zl_sd; rw [if_neg g]) hs2 (by omega)
        refine pk_le b (a + Dn.length + k) (fun g => by omega) (fun _ => pk_le 2 d' (fun g => ?_) (fun g => ?_))
        · exact h91 strong (by rw [if_neg (by omega)]) hst
        · exact h91 d' (by rw [if_pos g]) g
      refine pk_eq d 2 (fun g => pk_eq strong 0 (fun g0 => ?_) (fun g0 => ?_)) (fun g => ?_)
      · exact h75 0 (by rw [if_pos ⟨g, g0⟩]) (by omega)
      · exact h75 d (by rw [if_neg (fun q => g0 q.2)]) (by omega)
      · exact h75 d (by rw [if_neg (fun q => g q.1)]) (by omega)
theorem zx_res177 {post : SX → Prop} {a b e : Nat} {RS : List Nat} (hb : b ≤ 16) (he : e < 7) (hR : za_h hg a RS) (hl : a + RS.length = b) (hR3 : ∀ x ∈ RS, x < 3) :
    ∀ (ds Dn Pl : List Nat) (lv : Nat → Int32) (n : Nat), ds.length < n → RS = Dn ++ ds → Pl.length = a + Dn.length → za_h lv 0 Pl →
    (∀ lv', za_h lv' 0 (Pl ++ ds.map (zl_lv e)) → post ((nI cn), rg, (za_F O), (za_F W), dA, dB, E, (za_F LO), (za_F UA), UB, LA, (za_F KI), (za_F F1), (za_F F2), (za_F F3), (za_F DI), EA, eB, (za_F CA), (za_F CB), (za_F CT), fu, fz, pr, wh, (za_F T), (za_F LN), ro, sz, em, hg, lv', bh, rl, rr, rv, ou, nx, sl)) → wX_resolve_177 post (nI b) (nI e) (nI cn) rg n (nI (a + Dn.length)) (za_F O) (za_F W) dA dB E (za_F LO) (za_F UA) UB LA (za_F KI) (za_F F1) (za_F F2) (za_F F3) (za_F DI) EA eB (za_F CA) (za_F CB) (za_F CT) fu fz pr wh (za_F T) (za_F LN) ro sz em hg lv bh rl rr rv ou nx sl := by
  have ee : nI e &&& 1 = nI (e % 2) := pk_andN (by omega) 1 (by decide)
  intro ds
  induction ds with
  | nil =>
    intro Dn Pl lv n hn hD hP hlv H
    obtain ⟨n, rfl⟩ : ∃ k, n = k + 1 := ⟨n - 1, by omega⟩
    have : Dn.length = RS.length := by rw [hD, List.append_nil]
    refine pk_le b (a + Dn.length) (fun _ => H lv ?_) (fun g => by omega)
    rw [List.map_nil, List.append_nil]; exact hlv
  | cons d ds ih =>
    intro Dn Pl lv n hn hD hP hlv H
    rw [List.length_cons] at hn
    obtain ⟨n, rfl⟩ : ∃ k, n = k + 1 := ⟨n - 1, by omega⟩
    have hl2 : RS.length = Dn.length + ds.length + 1 := by rw [hD, List.length_append, List.length_cons]; omega
    have hd : d < 3 := hR3 d (by rw [hD]; simp)
    have hrd : hg (nI (a + Dn.length)).toNatClampNeg = nI d := by
      rw [nI_clamp (by omega)]
      have h1 := hR
      rw [hD, za_h_app] at h1
      exact h1.2.1
    have hnx : ∀ v, v = zl_lv e d → wX_resolve_177 post (nI b) (nI e) (nI cn) rg n (nI (a + Dn.length + 1)) (za_F O) (za_F W) dA dB E (za_F LO) (za_F UA) UB LA (za_F KI) (za_F F1) (za_F F2) (za_F F3) (za_F DI) EA eB (za_F CA) (za_F CB) (za_F CT) fu fz pr wh (za_F T) (za_F LN) ro sz em hg (upd lv (0 + Pl.length) (nI v)) bh rl rr rv ou nx sl := by
      intro v hv
      have := ih (Dn ++ [d]) (Pl ++ [v]) (upd lv (0 + Pl.length) (nI v)) n (by omega) (by rw [hD, List.append_assoc]; rfl) (by simp; omega) (za_h_snoc hlv) (fun lv' k1 => H lv' (by
        rw [List.append_assoc] at k1
        rw [List.map_cons, ← hv]; exact k1))
      rw [show a + (Dn ++ [d]).length = a + Dn.length + 1 by simp; omega] at this
      exact this
    have hlvl := zl_lv_lt he hd
    have hst : ∀ v, v ≤ 8 → upd lv (nI (a + Dn.length)).toNatClampNeg (vp_nar .byte (nI v).toInt8.toInt32) = upd lv (0 + Pl.length) (nI v) := by
      intro v hv
      rw [nI_clamp (by omega), za_nb2 (by omega), hP, Nat.zero_add]
    have hvp : vp_in (nI (a + Dn.length)) 16 := vp_in_nI (by omega) (by decide)
    refine pk_le b (a + Dn.length) (fun g => by omega) (fun _ => ⟨hvp, nm_r hrd ?_⟩)
    refine pk_eq (e % 2) 0 (fun g => ⟨hvp, ?_⟩) (fun g => ?_) ee rfl
    · rw [nI_add]
      refine nm_r (hst (e + d) (by omega)) (nm_r (nI_1 _) (hnx (e + d) ?_))
      unfold zl_lv; rw [if_pos g]
    · refine pk_eq d 1 (fun g1 => ⟨hvp, ?_⟩) (fun g1 => ⟨hvp, ?_⟩)
      · refine nm_r (hst e (by omega)) (nm_r (nI_1 _) (hnx e ?_))
        unfold zl_lv; rw [if_neg g, if_pos g1]
      · rw [nI_1]
        refine nm_r (hst (e + 1) (by omega)) (nm_r (nI_1 _) (hnx (e + 1) ?_))
        unfold zl_lv; rw [if_neg g, if_neg g1]
theorem zx_resolve {post : SX → Prop} {a b e before after : Nat} {ds Pl : List Nat} (hb : b ≤ 16) (hab : a < b) (he : e < 7) (hem : em a = nI e) (hbf : before < 2) (haf : after < 2) (hl : a + ds.length = b) (hds : ∀ d ∈ ds, d < 4) (hh : za_h hg a ds) (hP : Pl.length = a) (hlv : za_h lv 0 Pl)
    (H : ∀ hg' lv', za_h lv' 0 (Pl ++ (zl_fx e after before before 0 ds).map (zl_lv e)) → (∀ j, b ≤ j → hg' j = hg j) → post ((nI cn), rg, (za_F O), (za_F W), dA, dB, E, (za_F LO), (za_F UA), UB, LA, (za_F KI), (za_F F1), (za_F F2), (za_F F3), (za_F DI), EA, eB, (za_F CA), (za_F CB), (za_F CT), fu, fz, pr, wh, (za_F T), (za_F LN), ro, sz, em, hg', lv', bh, rl, rr, rv, ou, nx, sl)) : wpX_resolve post ((nI cn), rg, (za_F O), (za_F W), dA, dB, E, (za_F LO), (za_F UA), UB, LA, (za_F KI), (za_F F1), (za_F F2), (za_F F3), (za_F DI), EA, eB, (za_F CA), (za_F CB), (za_F CT), fu, fz, pr, wh, (za_F T), (za_F LN), ro, sz, em, hg, lv, bh, rl, rr, rv, ou, nx, sl) (nI a) (nI b) (nI before) (nI after) := by
  refine ⟨vp_in_nI (by omega) (by decide), nm_r (e' := nI e) (by rw [nI_clamp (by omega)]; exact hem) ⟨ds.length + 2, ?_⟩⟩
  have h3 : ∀ x ∈ zl_fx e after before before 0 ds, x < 3 := by
    rw [zl_fx_fl _ _ _ _ hds]; exact zl_fl_lt haf (zl_nm_lt hds)
  have hlen := zl_fx_len (e := e) (after := after) ds before before 0
  refine zx_res20 hb he haf ds 0 [] before before hg (ds.length + 2) (by omega) (by simp; omega) hh hds hbf hbf rfl (fun hg' g1 g2 => ⟨(zl_fx e after before before 0 ds).length + 1, ?_⟩)
  rw [List.nil_append] at g1
  exact zx_res177 hb he g1 (by omega) h3 (zl_fx e after before before 0 ds) [] Pl lv _ (by omega) rfl (by simp; omega) hlv (fun lv' k1 => H hg' lv' k1 (fun j hj => g2 j (by omega)))
end
end
section
theorem zl_fl3 {e after near : Nat} {ds : List Nat} : ∀ (m k : Nat), zl_fl e after near k (List.replicate m 3 ++ ds) = zl_fl e after near (k + m) ds
  | 0, k => rfl
  | m + 1, k => by
    rw [List.replicate_succ]
    show zl_fl e after near k (3 :: (List.replicate m 3 ++ ds)) = _
    rw [zl_fl, if_pos rfl, zl_fl3 m (k + 1)]
    exact congrArg (fun z => zl_fl e after near z ds) (by omega)
section
variable {cn : Nat} {rs nn : Int32} {O W LO UA KI F1 F2 F3 DI CA CB CT T LN : Nat → Nat} {E UB LA EA pA pB wt yB lo re yr fo fl ele els eb yl se pg yo : Nat → Int32}
theorem zy_edge {post : Int32 → Prop} {t base level o : Nat} {x : Int32} (ht : t < 2) (hl : LN t ≤ 16) (hbs : base < 2) (hle : level < 7) (ho : o < 7)
    (hx : (x < 0 ∧ o = base) ∨ (∃ i, x = nI i ∧ i < LN t ∧ eb i = nI o) ∨ (∃ i, x = nI i ∧ LN t ≤ i ∧ i ≤ 16 ∧ o = base))
    (H : post (nI (zl_mx o level % 2))) : wpY_edge post ((nI cn), rs, nn, (za_F O), (za_F W), pA, pB, (za_F LO), (za_F UA), UB, LA, (za_F KI), wt, EA, yB, (za_F DI), E, (za_F CA), (za_F CB), (za_F CT), lo, (za_F T), (za_F LN), re, yr, fo, fl, ele, els, eb, yl, se, pg, yo) (nI t) (nI base) (nI level) x := by
  have hvt : vp_in (nI t) 2 := vp_in_nI ht (by decide)
  have elen : za_F LN (nI t).toNatClampNeg = nI (LN t) := by rw [nI_clamp (by omega)]; rfl
  have h41 : ∀ z : Nat, z < 7 → z = zl_mx o level → wY_edge_41 post (nI z) (nI cn) rs nn (za_F O) (za_F W) pA pB (za_F LO) (za_F UA) UB LA (za_F KI) wt EA yB (za_F DI) E (za_F CA) (za_F CB) (za_F CT) lo (za_F T) (za_F LN) re yr fo fl ele els eb yl se pg yo := by
    intro z hz he
    have er : nI z - nI z / 2 * 2 = nI (z % 2) := pk_rem (d := 2) (by omega) (by omega) (by omega)
    rw [← he] at H
    refine ⟨by decide, pk_eq (z % 2) 1 (fun g => ?_) (fun g => ?_) er rfl⟩
    · rw [g] at H; exact H
    · rw [show z % 2 = 0 by omega] at H; exact H
  have h27 : wY_edge_27 post (nI level) (nI o) (nI cn) rs nn (za_F O) (za_F W) pA pB (za_F LO) (za_F UA) UB LA (za_F KI) wt EA yB (za_F DI) E (za_F CA) (za_F CB) (za_F CT) lo (za_F T) (za_F LN) re yr fo fl ele els eb yl se pg yo := by
    refine pk_le level o (fun g => h41 o ho ?_) (fun g => h41 level hle ?_)
    · unfold zl_mx; split <;> omega
    · unfold zl_mx; split <;> omega
  rcases hx with ⟨h1, h2⟩ | ⟨i, h1, h2, h3⟩ | ⟨i, h1, h2, h3, h4⟩
  · rw [h2] at h27
    exact br_t h1 h27
  · subst h1
    refine br_f (nI_pos (by omega)) ⟨hvt, pk_lt i (LN t) (fun _ => ⟨vp_in_nI (by omega) (by decide), ?_⟩) (fun g => by omega) rfl elen⟩
    rw [nI_clamp (by omega), h3]
    exact h27
  · subst h1
    rw [h4] at h27
    exact br_f (nI_pos (by omega)) ⟨hvt, pk_lt i (LN t) (fun g => by omega) (fun _ => h27) rfl elen⟩
theorem zy_res40 {post : SY → Prop} {x5 x6 x7 : Int32} {a b : Nat} {NM : List Nat} (hb : b ≤ 16) :
    ∀ (ds Dn : List Nat) (latest : Nat) (se : Nat → Int32) (n : Nat), ds.length < n → a + Dn.length + ds.length = b → za_h se a (Dn ++ ds) → (∀ d ∈ ds, d < 4) → latest < 2 → Dn ++ zl_nm latest ds = NM →
    (∀ se', za_h se' a NM → (∀ j, j < a ∨ b ≤ j → se' j = se j) → ∃ n, wY_resolve_110 post (nI a) (nI b) x5 x6 x7 (nI cn) rs nn n (nI a) (za_F O) (za_F W) pA pB (za_F LO) (za_F UA) UB LA (za_F KI) wt EA yB (za_F DI) E (za_F CA) (za_F CB) (za_F CT) lo (za_F T) (za_F LN) re yr fo fl ele els eb yl se' pg yo) →
    wY_resolve_40 post (nI a) (nI b) x5 x6 x7 (nI cn) rs nn n (nI latest) (nI (a + Dn.length)) (za_F O) (za_F W) pA pB (za_F LO) (za_F UA) UB LA (za_F KI) wt EA yB (za_F DI) E (za_F CA) (za_F CB) (za_F CT) lo (za_F T) (za_F LN) re yr fo fl ele els eb yl se pg yo := by
  intro ds
  induction ds with
  | nil =>
    intro Dn latest se n hn hl hh hds hla hNM H
    rw [List.length_nil] at hl
    obtain ⟨n, rfl⟩ : ∃ k, n = k + 1 := ⟨n - 1, by omega⟩
    refine pk_le b (a + Dn.length) (fun _ => H se ?_ (fun _ _ => rfl)) (fun g => by omega)
    rw [← hNM]; exact hh
  | cons d ds ih =>
    intro Dn latest se n hn hl hh hds hla hNM H
    rw [List.length_cons] at hn hl
    obtain ⟨n, rfl⟩ : ∃ k, n = k + 1 := ⟨n - 1, by omega⟩
    have hd : d < 4 := hds d (by simp)
    have hds2 : ∀ x ∈ ds, x < 4 := fun x hx => hds x (by simp [hx])
    have hvp : vp_in (nI (a + Dn.length)) 16 := vp_in_nI (by omega) (by decide)
    have h1 := (za_h_app se Dn (d :: ds) a).mp hh
    have hrd : se (nI (a + Dn.length)).toNatClampNeg = nI d := by
      rw [nI_clamp (by omega)]; exact h1.2.1
    rw [zl_nm] at hNM
    have h77 : ∀ la : Nat, la = (if d < 2 then d else latest) → la < 2 → wY_resolve_77 post (wY_resolve_40 post (nI a) (nI b) x5 x6 x7 (nI cn) rs nn n) (nI a) (nI b) x5 x6 x7 (nI la) (nI (a + Dn.length)) (nI cn) rs nn (za_F O) (za_F W) pA pB (za_F LO) (za_F UA) UB LA (za_F KI) wt EA yB (za_F DI) E (za_F CA) (za_F CB) (za_F CT) lo (za_F T) (za_F LN) re yr fo fl ele els eb yl se pg yo := by
      intro la hla2 hla3
      rw [← hla2] at hNM
      have hnx : ∀ (d' : Nat) (se2 : Nat → Int32), d' = (if d = 2 ∧ la = 0 then 0 else d) → za_h se2 a (Dn ++ d' :: ds) → (∀ j, j < a ∨ b ≤ j → se2 j = se j) → wY_resolve_40 post (nI a) (nI b) x5 x6 x7 (nI cn) rs nn n (nI la) (nI (a + Dn.length + 1)) (za_F O) (za_F W) pA pB (za_F LO) (za_F UA) UB LA (za_F KI) wt EA yB (za_F DI) E (za_F CA) (za_F CB) (za_F CT) lo (za_F T) (za_F LN) re yr fo fl ele els eb yl se2 pg yo := by
        intro d' se2 hd' hs hf
        rw [← hd'] at hNM
        have := ih (Dn ++ [d']) la se2 n (by omega) (by simp; omega) (by rw [List.append_assoc]; exact hs) hds2 hla3 (by rw [List.append_assoc]; exact hNM) (fun se' k1 k2 => H se' k1 (fun j hj => by rw [k2 j hj, hf j hj]))
        rw [show a + (Dn ++ [d']).length = a + Dn.length + 1 by simp; omega] at this
        exact this
      refine ⟨hvp, pk_eq d 2 (fun g => pk_eq la 0 (fun g0 => ⟨hvp, ?_⟩) (fun g0 => nm_r (nI_1 _) ?_)) (fun g => nm_r (nI_1 _) ?_) hrd rfl⟩
      · refine nm_r (e' := upd se (a + Dn.length) (nI 0)) (by rw [nI_clamp (by omega)]; rfl) (nm_r (nI_1 _) (hnx 0 _ (by rw [if_pos ⟨g, g0⟩]) ?_ (fun j hj => pk_un (by omega))))
        rw [za_h_app]
        exact ⟨za_h_up h1.1 (by omega), pk_us, za_h_up h1.2.2 (by omega)⟩
      · exact hnx d se (by rw [if_neg (fun q => g0 q.2)]) hh (fun _ _ => rfl)
      · exact hnx d se (by rw [if_neg (fun q => g q.1)]) hh (fun _ _ => rfl)
    have h68 : d < 2 → wY_resolve_68 post (wY_resolve_40 post (nI a) (nI b) x5 x6 x7 (nI cn) rs nn n) (nI a) (nI b) x5 x6 x7 (nI (a + Dn.length)) (nI cn) rs nn (za_F O) (za_F W) pA pB (za_F LO) (za_F UA) UB LA (za_F KI) wt EA yB (za_F DI) E (za_F CA) (za_F CB) (za_F CT) lo (za_F T) (za_F LN) re yr fo fl ele els eb yl se pg yo :=
      fun g => ⟨hvp, nm_r hrd (h77 d (by rw [if_pos g]) g)⟩
    refine pk_le b (a + Dn.length) (fun g => by omega) (fun _ => ⟨hvp, ?_⟩)
    refine pk_eq d 0 (fun g => h68 (by omega)) (fun g => ⟨hvp, ?_⟩) hrd rfl
    refine pk_eq d 1 (fun g1 => h68 (by omega)) (fun g1 => ?_) hrd rfl
    exact h77 latest (by rw [if_neg (by omega)]) hla
theorem zy_strong {post : Int32 → Prop} {d : Nat} (hd : d < 4) (H : post (nI (zl_sd d))) : wpY_strong post ((nI cn), rs, nn, (za_F O), (za_F W), pA, pB, (za_F LO), (za_F UA), UB, LA, (za_F KI), wt, EA, yB, (za_F DI), E, (za_F CA), (za_F CB), (za_F CT), lo, (za_F T), (za_F LN), re, yr, fo, fl, ele, els, eb, yl, se, pg, yo) (nI d) := by
  unfold zl_sd at H
  refine pk_eq d 2 (fun g => ?_) (fun g => ?_)
  · rw [if_pos g] at H; exact H
  · rw [if_neg g] at H; exact H
theorem zy_res223 {post : SY → Prop} {J : Int32 → (Nat → Int32) → (Nat → Int32) → (Nat → Int32) → (Nat → Int32) → (Nat → Int32) → (Nat → Int32) → (Nat → Int32) → (Nat → Int32) → (Nat → Int32) → (Nat → Int32) → (Nat → Int32) → (Nat → Int32) → (Nat → Int32) → (Nat → Int32) → (Nat → Int32) → (Nat → Int32) → (Nat → Int32) → (Nat → Int32) → (Nat → Int32) → (Nat → Int32) → (Nat → Int32) → (Nat → Int32) → (Nat → Int32) → (Nat → Int32) → (Nat → Int32) → (Nat → Int32) → (Nat → Int32) → (Nat → Int32) → (Nat → Int32) → (Nat → Int32) → (Nat → Int32) → Prop} {x3 x4 x5 x6 x7 : Int32} {a j v : Nat} {tl : List Nat} (hj : j ≤ 16) :
    ∀ (m : Nat) (Dn : List Nat) (se : Nat → Int32) (n : Nat), m < n → a + Dn.length + m = j → za_h se a (Dn ++ (List.replicate m 3 ++ tl)) →
    (∀ se', za_h se' a (Dn ++ (List.replicate m v ++ tl)) → (∀ i, i < a ∨ j ≤ i → se' i = se i) → J (nI (j + 1)) (za_F O) (za_F W) pA pB (za_F LO) (za_F UA) UB LA (za_F KI) wt EA yB (za_F DI) E (za_F CA) (za_F CB) (za_F CT) lo (za_F T) (za_F LN) re yr fo fl ele els eb yl se' pg yo) →
    wY_resolve_223 post J x3 x4 x5 x6 x7 (nI j) (nI v) (nI cn) rs nn n (nI (a + Dn.length)) (za_F O) (za_F W) pA pB (za_F LO) (za_F UA) UB LA (za_F KI) wt EA yB (za_F DI) E (za_F CA) (za_F CB) (za_F CT) lo (za_F T) (za_F LN) re yr fo fl ele els eb yl se pg yo := by
  intro m
  induction m with
  | zero =>
    intro Dn se n hn hl hh H
    obtain ⟨n, rfl⟩ : ∃ k, n = k + 1 := ⟨n - 1, by omega⟩
    have ej : a + Dn.length = j := by omega
    refine pk_le j (a + Dn.length) (fun _ => ?_) (fun g => by omega)
    rw [ej]
    exact nm_r (nI_1 _) (H se hh (fun _ _ => rfl))
  | succ m ih =>
    intro Dn se n hn hl hh H
    obtain ⟨n, rfl⟩ : ∃ k, n = k + 1 := ⟨n - 1, by omega⟩
    rw [za_h_app] at hh
    refine pk_le j (a + Dn.length) (fun g => by omega) (fun _ => ⟨vp_in_nI (by omega) (by decide), ?_⟩)
    refine nm_r (e' := upd se (a + Dn.length) (nI v)) (by rw [nI_clamp (by omega)]) (nm_r (nI_1 _) ?_)
    have := ih (Dn ++ [v]) (upd se (a + Dn.length) (nI v)) n (by omega) (by simp; omega) (by
      rw [List.append_assoc, za_h_app]
      exact ⟨za_h_up hh.1 (by omega), pk_us, za_h_up hh.2.2 (by omega)⟩) (fun se' k1 k2 => by
      refine H se' ?_ (fun i hi => by rw [k2 i hi, pk_un (by omega)])
      rw [List.append_assoc] at k1
      rw [List.replicate_succ]; exact k1)
    rw [show a + (Dn ++ [v]).length = a + Dn.length + 1 by simp; omega] at this
    exact this
theorem zy_res110 {post : SY → Prop} {a b e begins ends : Nat} {RS : List Nat} (hb : b ≤ 16) (he : e < 7) (hbe : begins < 2) (hen : ends < 2) :
    ∀ (n : Nat) (ds Dn : List Nat) (near : Nat) (se : Nat → Int32), ds.length + 1 < n → a + Dn.length + ds.length = b → za_h se a (Dn ++ ds) → (∀ d ∈ ds, d < 4) → near < 2 →
    ((Dn = [] ∧ near = begins) ∨ ∃ D' d, Dn = D' ++ [d] ∧ near = zl_sd d ∧ d < 3) → Dn ++ zl_fl e ends near 0 ds = RS →
    (∀ se', za_h se' a RS → (∀ j, j < a ∨ b ≤ j → se' j = se j) → ∃ n, wY_resolve_254 post (nI b) (nI e) (nI cn) rs nn n (nI a) (za_F O) (za_F W) pA pB (za_F LO) (za_F UA) UB LA (za_F KI) wt EA yB (za_F DI) E (za_F CA) (za_F CB) (za_F CT) lo (za_F T) (za_F LN) re yr fo fl ele els eb yl se' pg yo) →
    wY_resolve_110 post (nI a) (nI b) (nI e) (nI begins) (nI ends) (nI cn) rs nn n (nI (a + Dn.length)) (za_F O) (za_F W) pA pB (za_F LO) (za_F UA) UB LA (za_F KI) wt EA yB (za_F DI) E (za_F CA) (za_F CB) (za_F CT) lo (za_F T) (za_F LN) re yr fo fl ele els eb yl se pg yo := by
  intro n
  induction n with
  | zero => intro ds Dn near se h; omega
  | succ n ih =>
    intro ds Dn near se hn hl hh hds hne hnear hRS H
    have er : nI e - nI e / 2 * 2 = nI (e % 2) := pk_rem (d := 2) (by omega) (by omega) (by omega)
    -- behind the neutrals
    have h194 : ∀ (m side : Nat) (tl : List Nat), m + tl.length = ds.length → ds = List.replicate m 3 ++ tl → side < 2 →
        (∀ se', za_h se' a (Dn ++ (List.replicate m (zl_v near side e) ++ tl)) → (∀ i, i < a ∨ a + Dn.length + m ≤ i → se' i = se i) → wY_resolve_110 post (nI a) (nI b) (nI e) (nI begins) (nI ends) (nI cn) rs nn n (nI (a + Dn.length + m + 1)) (za_F O) (za_F W) pA pB (za_F LO) (za_F UA) UB LA (za_F KI) wt EA yB (za_F DI) E (za_F CA) (za_F CB) (za_F CT) lo (za_F T) (za_F LN) re yr fo fl ele els eb yl se' pg yo) →
        wY_resolve_194 post (wY_resolve_110 post (nI a) (nI b) (nI e) (nI begins) (nI ends) (nI cn) rs nn n) (nI a) (nI b) (nI e) (nI begins) (nI ends) (nI (a + Dn.length)) (nI (a + Dn.length + m)) (nI near) (nI side) (nI cn) rs nn (za_F O) (za_F W) pA pB (za_F LO) (za_F UA) UB LA (za_F KI) wt EA yB (za_F DI) E (za_F CA) (za_F CB) (za_F CT) lo (za_F T) (za_F LN) re yr fo fl ele els eb yl se pg yo := by
      intro m side tl hm hd hsi hc
      rw [hd] at hh
      have hfill : ∀ v, v = zl_v near side e → ∃ q, wY_resolve_223 post (wY_resolve_110 post (nI a) (nI b) (nI e) (nI begins) (nI ends) (nI cn) rs nn n) (nI a) (nI b) (nI e) (nI begins) (nI ends) (nI (a + Dn.length + m)) (nI v) (nI cn) rs nn q (nI (a + Dn.length)) (za_F O) (za_F W) pA pB (za_F LO) (za_F UA) UB LA (za_F KI) wt EA yB (za_F DI) E (za_F CA) (za_F CB) (za_F CT) lo (za_F T) (za_F LN) re yr fo fl ele els eb yl se pg yo := by
        intro v hv
        subst hv
        exact ⟨m + 1, zy_res223 (tl := tl) (by omega) m Dn se (m + 1) (by omega) rfl hh hc⟩
      refine pk_eq near side (fun g => hfill near ?_) (fun g => ⟨by decide, pk_eq (e % 2) 1 (fun g1 => hfill 1 ?_) (fun g1 => hfill 0 ?_) er rfl⟩)
      · unfold zl_v; rw [if_pos g]; exact g
      · unfold zl_v; rw [if_neg g]; omega
      · unfold zl_v; rw [if_neg g]; omega
    have h145 : ∀ (m : Nat) (tl : List Nat), m + tl.length = ds.length → ds = List.replicate m 3 ++ tl → (tl = [] ∨ ∃ d tl', tl = d :: tl' ∧ d ≠ 3) →
        wY_resolve_145 post (wY_resolve_110 post (nI a) (nI b) (nI e) (nI begins) (nI ends) (nI cn) rs nn n) (nI a) (nI b) (nI e) (nI begins) (nI ends) (nI (a + Dn.length)) (nI (a + Dn.length + m)) (nI cn) rs nn (za_F O) (za_F W) pA pB (za_F LO) (za_F UA) UB LA (za_F KI) wt EA yB (za_F DI) E (za_F CA) (za_F CB) (za_F CT) lo (za_F T) (za_F LN) re yr fo fl ele els eb yl se pg yo := by
      intro m tl hm hd htl
      have h169 : wY_resolve_169 post (wY_resolve_110 post (nI a) (nI b) (nI e) (nI begins) (nI ends) (nI cn) rs nn n) (nI a) (nI b) (nI e) (nI begins) (nI ends) (nI (a + Dn.length)) (nI (a + Dn.length + m)) (nI near) (nI cn) rs nn (za_F O) (za_F W) pA pB (za_F LO) (za_F UA) UB LA (za_F KI) wt EA yB (za_F DI) E (za_F CA) (za_F CB) (za_F CT) lo (za_F T) (za_F LN) re yr fo fl ele els eb yl se pg yo := by
        have hRS2 := hRS
        rw [hd, zl_fl3, Nat.zero_add] at hRS2
        rcases htl with htl | ⟨d, tl', htl, hd3⟩
        · subst htl
          rw [List.length_nil] at hm
          refine pk_eq (a + Dn.length + m) b (fun _ => ?_) (fun g => by omega)
          refine h194 m ends [] (by simpa using hm) hd hen (fun se' k1 k2 => ?_)
          obtain ⟨n', rfl⟩ : ∃ k, n = k + 1 := ⟨n - 1, by omega⟩
          refine pk_le b (a + Dn.length + m + 1) (fun _ => H se' ?_ (fun j hj => k2 j (by omega))) (fun g => by omega)
          rw [← hRS2, zl_fl]
          rw [List.append_nil] at k1
          exact k1
        · subst htl
          rw [List.length_cons] at hm
          have hdm : d ∈ ds := by rw [hd]; simp
          have hd4 := hds d hdm
          rw [zl_fl, if_neg hd3] at hRS2
          refine pk_eq (a + Dn.length + m) b (fun g => by omega) (fun _ => ⟨vp_in_nI (by omega) (by decide), ?_⟩)
          have hrd : se (nI (a + Dn.length + m)).toNatClampNeg = nI d := by
            rw [nI_clamp (by omega)]
            have h1 := hh
            rw [hd, ← List.append_assoc, za_h_app] at h1
            have := h1.2.1
            rw [List.length_append, List.length_replicate, ← Nat.add_assoc] at this
            exact this
          rw [hrd]
          refine zy_strong hd4 ?_
          refine h194 m (zl_sd d) (d :: tl') (by rw [List.length_cons]; omega) hd (zl_sd_lt (by omega)) (fun se' k1 k2 => ?_)
          have := ih tl' (Dn ++ (List.replicate m (zl_v near (zl_sd d) e) ++ [d])) (zl_sd d) se' (by omega) (by simp; omega) (by simpa using k1) (fun x hx => hds x (by rw [hd]; simp [hx])) (zl_sd_lt (by omega)) (Or.inr ⟨Dn ++ List.replicate m (zl_v near (zl_sd d) e), d, by simp, rfl, by omega⟩) (by rw [← hRS2]; simp) (fun se2 m1 m2 => H se2 m1 (fun j hj => by rw [m2 j hj, k2 j (by omega)]))
          rw [show a + (Dn ++ (List.replicate m (zl_v near (zl_sd d) e) ++ [d])).length = a + Dn.length + m + 1 by simp; omega] at this
          exact this
      rcases hnear with ⟨h1, h2⟩ | ⟨D', d, h1, h2, h3⟩
      · subst h1
        subst h2
        exact pk_eq (a + 0) a (fun _ => h169) (fun g => by omega)
      · have hlD : Dn.length = D'.length + 1 := by rw [h1]; simp
        refine pk_eq (a + Dn.length) a (fun g => by omega) (fun _ => ?_)
        have e1 : nI (a + Dn.length) - 1 = nI (a + D'.length) := by rw [za_p1 (by omega)]; exact congrArg nI (by omega)
        refine ⟨by rw [e1]; exact vp_in_nI (by omega) (by decide), ?_⟩
        have hrd : se (nI (a + Dn.length) - 1).toNatClampNeg = nI d := by
          rw [e1, nI_clamp (by omega)]
          have h4 := hh
          rw [h1, List.append_assoc, za_h_app] at h4
          exact h4.2.1
        rw [hrd]
        refine zy_strong (by omega) ?_
        rw [← h2]
        exact h169
    have h121 : ∀ (tl : List Nat) (m q : Nat), tl.length < q → m + tl.length = ds.length → ds = List.replicate m 3 ++ tl → wY_resolve_121 post (wY_resolve_110 post (nI a) (nI b) (nI e) (nI begins) (nI ends) (nI cn) rs nn n) (nI a) (nI b) (nI e) (nI begins) (nI ends) (nI (a + Dn.length)) (nI cn) rs nn (za_F O) (za_F W) pA pB (za_F LO) (za_F UA) UB LA (za_F KI) wt EA yB (za_F DI) E (za_F CA) (za_F CB) (za_F CT) lo (za_F T) (za_F LN) re yr fo fl ele els eb yl se pg yo q (nI (a + Dn.length + m)) := by
      intro tl
      induction tl with
      | nil =>
        intro m q hq hm hd
        obtain ⟨q, rfl⟩ : ∃ k, q = k + 1 := ⟨q - 1, by omega⟩
        have hm2 := hm
        rw [List.length_nil] at hm2
        exact pk_le b (a + Dn.length + m) (fun _ => h145 m [] hm hd (Or.inl rfl)) (fun g => by omega)
      | cons d tl' ih2 =>
        intro m q hq hm hd
        obtain ⟨q, rfl⟩ : ∃ k, q = k + 1 := ⟨q - 1, by omega⟩
        have hm2 := hm
        rw [List.length_cons] at hm2 hq
        have hd4 := hds d (by rw [hd]; simp)
        have hrd : se (nI (a + Dn.length + m)).toNatClampNeg = nI d := by
          rw [nI_clamp (by omega)]
          have h1 := hh
          rw [hd, ← List.append_assoc, za_h_app] at h1
          have := h1.2.1
          rw [List.length_append, List.length_replicate, ← Nat.add_assoc] at this
          exact this
        refine pk_le b (a + Dn.length + m) (fun g => by omega) (fun _ => ⟨vp_in_nI (by omega) (by decide), ?_⟩)
        refine pk_eq d 3 (fun g => nm_r (nI_1 _) ?_) (fun g => h145 m (d :: tl') hm hd (Or.inr ⟨d, tl', rfl, g⟩)) hrd rfl
        subst g
        exact ih2 (m + 1) q (by omega) (by omega) (by rw [hd, zl_rep3])
    refine pk_le b (a + Dn.length) (fun g => H se ?_ (fun _ _ => rfl)) (fun g => ⟨ds.length + 1, ?_⟩)
    · have : ds = [] := List.length_eq_zero_iff.mp (by omega)
      subst this
      rw [← hRS]
      exact hh
    · have := h121 ds 0 (ds.length + 1) (by omega) (by omega) rfl
      exact this
theorem zy_res254 {post : SY → Prop} {a b e : Nat} {RS : List Nat} (hb : b ≤ 16) (he : e < 7) (hR : za_h se a RS) (hl : a + RS.length = b) (hR3 : ∀ x ∈ RS, x < 3) :
    ∀ (ds Dn Pl : List Nat) (yl : Nat → Int32) (n : Nat), ds.length < n → RS = Dn ++ ds → Pl.length = a + Dn.length → za_h yl 0 Pl →
    (∀ yl', za_h yl' 0 (Pl ++ ds.map (zl_lv e)) → post ((nI cn), rs, nn, (za_F O), (za_F W), pA, pB, (za_F LO), (za_F UA), UB, LA, (za_F KI), wt, EA, yB, (za_F DI), E, (za_F CA), (za_F CB), (za_F CT), lo, (za_F T), (za_F LN), re, yr, fo, fl, ele, els, eb, yl', se, pg, yo)) → wY_resolve_254 post (nI b) (nI e) (nI cn) rs nn n (nI (a + Dn.length)) (za_F O) (za_F W) pA pB (za_F LO) (za_F UA) UB LA (za_F KI) wt EA yB (za_F DI) E (za_F CA) (za_F CB) (za_F CT) lo (za_F T) (za_F LN) re yr fo fl ele els eb yl se pg yo := by
  have er : nI e - nI e / 2 * 2 = nI (e % 2) := pk_rem (d := 2) (by omega) (by omega) (by omega)
  intro ds
  induction ds with
  | nil =>
    intro Dn Pl yl n hn hD hP hlv H
    obtain ⟨n, rfl⟩ : ∃ k, n = k + 1 := ⟨n - 1, by omega⟩
    have : Dn.length = RS.length := by rw [hD, List.append_nil]
    refine pk_le b (a + Dn.length) (fun _ => H yl ?_) (fun g => by omega)
    rw [List.map_nil, List.append_nil]; exact hlv
  | cons d ds ih =>
    intro Dn Pl yl n hn hD hP hlv H
    rw [List.length_cons] at hn
    obtain ⟨n, rfl⟩ : ∃ k, n = k + 1 := ⟨n - 1, by omega⟩
    have hl2 : RS.length = Dn.length + ds.length + 1 := by rw [hD, List.length_append, List.length_cons]; omega
    have hd : d < 3 := hR3 d (by rw [hD]; simp)
    have hrd : se (nI (a + Dn.length)).toNatClampNeg = nI d := by
      rw [nI_clamp (by omega)]
      have h1 := hR
      rw [hD, za_h_app] at h1
      exact h1.2.1
    have hnx : ∀ v, v = zl_lv e d → wY_resolve_254 post (nI b) (nI e) (nI cn) rs nn n (nI (a + Dn.length + 1)) (za_F O) (za_F W) pA pB (za_F LO) (za_F UA) UB LA (za_F KI) wt EA yB (za_F DI) E (za_F CA) (za_F CB) (za_F CT) lo (za_F T) (za_F LN) re yr fo fl ele els eb (upd yl (0 + Pl.length) (nI v)) se pg yo := by
      intro v hv
      have := ih (Dn ++ [d]) (Pl ++ [v]) (upd yl (0 + Pl.length) (nI v)) n (by omega) (by rw [hD, List.append_assoc]; rfl) (by simp; omega) (za_h_snoc hlv) (fun lv' k1 => H lv' (by
        rw [List.append_assoc] at k1
        rw [List.map_cons, ← hv]; exact k1))
      rw [show a + (Dn ++ [d]).length = a + Dn.length + 1 by simp; omega] at this
      exact this
    have hst : ∀ (v w : Nat), upd yl (nI (a + Dn.length)).toNatClampNeg (nI e + nI w) = upd yl (0 + Pl.length) (nI (e + w)) := by
      intro v w
      rw [nI_clamp (by omega), nI_add, hP, Nat.zero_add]
    have hvp : vp_in (nI (a + Dn.length)) 16 := vp_in_nI (by omega) (by decide)
    refine pk_le b (a + Dn.length) (fun g => by omega) (fun _ => ⟨by decide, ?_⟩)
    refine pk_eq (e % 2) 0 (fun g => ⟨hvp, ?_⟩) (fun g => ⟨hvp, ?_⟩) er rfl
    · refine pk_eq d 0 (fun g0 => ⟨hvp, nm_r (hst 0 0) (nm_r (nI_1 _) (hnx (e + 0) ?_))⟩) (fun g0 => ⟨hvp, ?_⟩) hrd rfl
      · unfold zl_lv; rw [if_pos g, g0]
      refine pk_eq d 1 (fun g1 => ⟨hvp, nm_r (hst 0 1) (nm_r (nI_1 _) (hnx (e + 1) ?_))⟩) (fun g1 => ⟨hvp, nm_r (hst 0 2) (nm_r (nI_1 _) (hnx (e + 2) ?_))⟩) hrd rfl
      · unfold zl_lv; rw [if_pos g, g1]
      · unfold zl_lv; rw [if_pos g]; omega
    · refine pk_eq d 1 (fun g1 => ⟨hvp, nm_r (hst 0 0) (nm_r (nI_1 _) (hnx (e + 0) ?_))⟩) (fun g1 => ⟨hvp, nm_r (hst 0 1) (nm_r (nI_1 _) (hnx (e + 1) ?_))⟩) hrd rfl
      · unfold zl_lv; rw [if_neg g, if_pos g1]; rfl
      · unfold zl_lv; rw [if_neg g, if_neg g1]
theorem zy_resolve {post : SY → Prop} {t base a b e o1 o2 : Nat} {ds Pl : List Nat} (ht : t < 2) (hln : LN t ≤ 16) (hbs : base < 2) (hb : b ≤ LN t) (hab : a < b) (he : e < 7) (hem : eb a = nI e) (ho1 : o1 < 7) (ho2 : o2 < 7)
    (hx1 : (a = 0 ∧ o1 = base) ∨ (0 < a ∧ eb (a - 1) = nI o1)) (hx2 : (b < LN t ∧ eb b = nI o2) ∨ (b = LN t ∧ o2 = base))
    (hl : a + ds.length = b) (hds : ∀ d ∈ ds, d < 4) (hh : za_h se a ds) (hP : Pl.length = a) (hlv : za_h yl 0 Pl)
    (H : ∀ se' yl', za_h yl' 0 (Pl ++ (zl_fx e (zl_mx o2 e % 2) (zl_mx o1 e % 2) (zl_mx o1 e % 2) 0 ds).map (zl_lv e)) → (∀ j, b ≤ j → se' j = se j) → post ((nI cn), rs, nn, (za_F O), (za_F W), pA, pB, (za_F LO), (za_F UA), UB, LA, (za_F KI), wt, EA, yB, (za_F DI), E, (za_F CA), (za_F CB), (za_F CT), lo, (za_F T), (za_F LN), re, yr, fo, fl, ele, els, eb, yl', se', pg, yo)) : wpY_resolve post ((nI cn), rs, nn, (za_F O), (za_F W), pA, pB, (za_F LO), (za_F UA), UB, LA, (za_F KI), wt, EA, yB, (za_F DI), E, (za_F CA), (za_F CB), (za_F CT), lo, (za_F T), (za_F LN), re, yr, fo, fl, ele, els, eb, yl, se, pg, yo) (nI t) (nI base) (nI a) (nI b) := by
  refine ⟨vp_in_nI (by omega) (by decide), nm_r (e' := nI e) (by rw [nI_clamp (by omega)]; exact hem) ?_⟩
  refine zy_edge (o := o1) ht hln hbs he ho1 ?_ (zy_edge (o := o2) ht hln hbs he ho2 ?_ ⟨ds.length + 1, ?_⟩)
  · rcases hx1 with ⟨h1, h2⟩ | ⟨h1, h2⟩
    · exact Or.inl ⟨by rw [h1]; decide, h2⟩
    · exact Or.inr (Or.inl ⟨a - 1, za_p1 h1, by omega, h2⟩)
  · rcases hx2 with ⟨h1, h2⟩ | ⟨h1, h2⟩
    · exact Or.inr (Or.inl ⟨b, rfl, h1, h2⟩)
    · exact Or.inr (Or.inr ⟨b, rfl, by omega, by omega, h2⟩)
  have m1 : zl_mx o1 e % 2 < 2 := by omega
  have m2 : zl_mx o2 e % 2 < 2 := by omega
  have h3 : ∀ x ∈ zl_fx e (zl_mx o2 e % 2) (zl_mx o1 e % 2) (zl_mx o1 e % 2) 0 ds, x < 3 := by
    rw [zl_fx_fl _ _ _ _ hds]; exact zl_fl_lt m2 (zl_nm_lt hds)
  have hlen := zl_fx_len (e := e) (after := zl_mx o2 e % 2) ds (zl_mx o1 e % 2) (zl_mx o1 e % 2) 0
  have hfl := zl_fx_fl (e := e) (after := zl_mx o2 e % 2) ds (zl_mx o1 e % 2) (zl_mx o1 e % 2) 0 hds
  have hnl := zl_nm_len ds (zl_mx o1 e % 2)
  refine zy_res40 (by omega) ds [] (zl_mx o1 e % 2) se (ds.length + 1) (by omega) (by simp; omega) hh hds m1 rfl (fun se1 g1 g2 => ⟨(zl_nm (zl_mx o1 e % 2) ds).length + 2, ?_⟩)
  rw [List.nil_append] at g1
  refine zy_res110 (by omega) he m1 m2 _ (zl_nm (zl_mx o1 e % 2) ds) [] (zl_mx o1 e % 2) se1 (by omega) (by simp; omega) g1 (zl_nm_lt hds) m1 (Or.inl ⟨rfl, rfl⟩) rfl (fun se2 k1 k2 => ⟨(zl_fx e (zl_mx o2 e % 2) (zl_mx o1 e % 2) (zl_mx o1 e % 2) 0 ds).length + 1, ?_⟩)
  rw [List.nil_append, ← hfl] at k1
  exact zy_res254 (by omega) he k1 (by omega) h3 (zl_fx e (zl_mx o2 e % 2) (zl_mx o1 e % 2) (zl_mx o1 e % 2) 0 ds) [] Pl yl _ (by omega) rfl (by simp; omega) hlv (fun lv' q1 => H se2 lv' q1 (fun j hj => by rw [k2 j (by omega), g2 j (by omega)]))
end
end
section
theorem zl_c_rep {e : Nat} {tl : List Nat} : ∀ m, zl_c e (List.replicate m e ++ tl) = m + zl_c e tl
  | 0 => by simp
  | m + 1 => by
    rw [List.replicate_succ]
    show zl_c e (e :: (List.replicate m e ++ tl)) = _
    rw [zl_c, if_pos rfl, zl_c_rep m]; omega
theorem zl_c0 {e : Nat} {tl : List Nat} (h : tl = [] ∨ ∃ x r, tl = x :: r ∧ x ≠ e) : zl_c e tl = 0 := by
  rcases h with h | ⟨x, r, h, g⟩
  · rw [h]; rfl
  · rw [h, zl_c, if_neg g]
theorem zl_drop {m : Nat} {x : Nat} {tl : List Nat} : (List.replicate m x ++ tl).drop m = tl := by
  have := List.drop_left (l₁ := List.replicate m x) (l₂ := tl)
  rw [List.length_replicate] at this
  exact this
/-- one run of the levels -/
theorem zl_L_run {base f old e m : Nat} {tl hs : List Nat} (h : tl = [] ∨ ∃ x r, tl = x :: r ∧ x ≠ e) :
    zl_L base (f + 1) old (e :: (List.replicate m e ++ tl)) hs = (zl_fx e (zl_mx (tl.headD base) e % 2) (zl_mx old e % 2) (zl_mx old e % 2) 0 (hs.take (m + 1))).map (zl_lv e) ++ zl_L base f e tl (hs.drop (m + 1)) := by
  have hc : zl_c e (List.replicate m e ++ tl) = m := by rw [zl_c_rep, zl_c0 h]; rfl
  rw [zl_L, hc, zl_drop]
theorem zl_L_len {base : Nat} : ∀ (f old : Nat) (es hs : List Nat), es.length ≤ f → hs.length = es.length → (zl_L base f old es hs).length = es.length
  | 0, _, es, hs, h, _ => by
    have : es = [] := List.length_eq_zero_iff.mp (by omega)
    rw [this]; rfl
  | f + 1, _, [], hs, _, _ => rfl
  | f + 1, old, e :: es, hs, h, g => by
    rw [List.length_cons] at h g
    have hc := zl_c_le e es
    rw [zl_L, List.length_append, List.length_map, zl_fx_len, List.length_take, zl_L_len f e _ _ (by rw [List.length_drop]; omega) (by rw [List.length_drop, List.length_drop]; omega), List.length_drop, List.length_cons]
    omega
theorem zl_L_lt {base : Nat} : ∀ (f old : Nat) (es hs : List Nat), (∀ x ∈ es, x < 7) → (∀ x ∈ hs, x < 4) → ∀ x ∈ zl_L base f old es hs, x ≤ 8
  | 0, _, es, hs, _, _, x, hx => by simp [zl_L] at hx
  | f + 1, _, [], hs, _, _, x, hx => by simp [zl_L] at hx
  | f + 1, old, e :: es, hs, h, g, x, hx => by
    rw [zl_L] at hx
    rcases List.mem_append.mp hx with hx | hx
    · obtain ⟨d, hd, rfl⟩ := List.mem_map.mp hx
      have hg : ∀ y ∈ hs.take (zl_c e es + 1), y < 4 := fun y hy => g y (List.mem_of_mem_take hy)
      rw [zl_fx_fl _ _ _ _ hg] at hd
      exact zl_lv_lt (h e (by simp)) (zl_fl_lt (by omega) (zl_nm_lt hg) d hd)
    · exact zl_L_lt f e _ _ (fun y hy => h y (List.mem_cons_of_mem _ (List.mem_of_mem_drop hy))) (fun y hy => g y (List.mem_of_mem_drop hy)) x hx
theorem zl_hdD {base : Nat} {tl : List Nat} (hb : base < 7) (h : ∀ x ∈ tl, x < 7) : tl.headD base < 7 := by
  cases tl with
  | nil => exact hb
  | cons x r => exact h x (by simp)
section
variable {cn : Nat} {rg : Int32} {O W LO UA KI F1 F2 F3 DI CA CB CT T LN : Nat → Nat} {E UB LA EA dA dB eB fu fz pr wh ro sz em hg lv bh rl rr rv ou nx sl : Nat → Int32}
theorem zx_lv19 {post : SX → Prop} {base N : Nat} {LV : List Nat} (hN : N ≤ 16) (hbs : base < 2)
    (H : ∀ hg' lv', za_h lv' 0 LV → post ((nI cn), rg, (za_F O), (za_F W), dA, dB, E, (za_F LO), (za_F UA), UB, LA, (za_F KI), (za_F F1), (za_F F2), (za_F F3), (za_F DI), EA, eB, (za_F CA), (za_F CB), (za_F CT), fu, fz, pr, wh, (za_F T), (za_F LN), ro, sz, em, hg', lv', bh, rl, rr, rv, ou, nx, sl)) :
    ∀ (f a old : Nat) (es hs Pl : List Nat) (hg lv : Nat → Int32) (n : Nat), es.length ≤ f → es.length < n → a + es.length = N → hs.length = es.length → za_h em a es → za_h hg a hs → (∀ x ∈ hs, x < 4) → (∀ x ∈ es, x < 7) → old < 7 → za_h lv 0 Pl → Pl.length = a → Pl ++ zl_L base f old es hs = LV →
    wX_levelsOf_19 post (nI base) (nI N) n (nI a) (nI old) (nI cn) rg (za_F O) (za_F W) dA dB E (za_F LO) (za_F UA) UB LA (za_F KI) (za_F F1) (za_F F2) (za_F F3) (za_F DI) EA eB (za_F CA) (za_F CB) (za_F CT) fu fz pr wh (za_F T) (za_F LN) ro sz em hg lv bh rl rr rv ou nx sl := by
  intro f
  induction f with
  | zero =>
    intro a old es hs Pl hg lv n h1 h2 h3 h4 g1 g2 g3 g4 g5 g6 g7 g8
    have : es = [] := List.length_eq_zero_iff.mp (by omega)
    subst this
    rw [List.length_nil] at h3
    obtain ⟨n, rfl⟩ : ∃ k, n = k + 1 := ⟨n - 1, by omega⟩
    refine pk_le N a (fun _ => H hg lv ?_) (fun g => by omega)
    rw [← g8]; show za_h lv 0 (Pl ++ []); rw [List.append_nil]; exact g6
  | succ f ih =>
    intro a old es hs Pl hg lv n h1 h2 h3 h4 g1 g2 g3 g4 g5 g6 g7 g8
    obtain ⟨n, rfl⟩ : ∃ k, n = k + 1 := ⟨n - 1, by omega⟩
    cases es with
    | nil =>
      rw [List.length_nil] at h3
      refine pk_le N a (fun _ => H hg lv ?_) (fun g => by omega)
      rw [← g8]; show za_h lv 0 (Pl ++ []); rw [List.append_nil]; exact g6
    | cons e es =>
      rw [List.length_cons] at h1 h2 h3 h4
      have he : e < 7 := g4 e (by simp)
      have hea : em (nI a).toNatClampNeg = nI e := by rw [nI_clamp (by omega)]; exact g1.1
      refine pk_le N a (fun g => by omega) (fun _ => ⟨vp_in_nI (by omega) (by decide), nm_r hea (nm_r (nI_1 a) ⟨es.length + 1, ?_⟩)⟩)
      -- the end of the run is found
      have h64 : ∀ (m : Nat) (tl : List Nat), es = List.replicate m e ++ tl → (tl = [] ∨ ∃ x r, tl = x :: r ∧ x ≠ e) → wX_levelsOf_64 post (wX_levelsOf_19 post (nI base) (nI N) n) (nI base) (nI N) (nI a) (nI old) (nI e) (nI (a + 1 + m)) (nI cn) rg (za_F O) (za_F W) dA dB E (za_F LO) (za_F UA) UB LA (za_F KI) (za_F F1) (za_F F2) (za_F F3) (za_F DI) EA eB (za_F CA) (za_F CB) (za_F CT) fu fz pr wh (za_F T) (za_F LN) ro sz em hg lv bh rl rr rv ou nx sl := by
        intro m tl hes htl
        have hle : es.length = m + tl.length := by rw [hes, List.length_append, List.length_replicate]
        rw [hes, zl_L_run htl, ← List.append_assoc] at g8
        have htl7 : ∀ x ∈ tl, x < 7 := fun x hx => g4 x (by rw [hes]; simp [hx])
        have hnx := zl_hdD (base := base) (by omega) htl7
        have hds : hs = hs.take (m + 1) ++ hs.drop (m + 1) := (List.take_append_drop _ _).symm
        have hlt : (hs.take (m + 1)).length = m + 1 := by rw [List.length_take]; omega
        have hgd := g2
        rw [hds, za_h_app, hlt] at hgd
        have g1t : za_h em (a + 1 + m) tl := by
          have := g1.2
          rw [hes, za_h_app, List.length_replicate] at this
          exact this.2
        have h118 : ∀ (z0 z1 : Nat), z0 = zl_mx (tl.headD base) e → z1 = zl_mx old e → wX_levelsOf_118 post (wX_levelsOf_19 post (nI base) (nI N) n) (nI base) (nI N) (nI e) (nI (a + 1 + m)) (nI z0) (nI z1 &&& 1) (nI (a + 1 + m)) (nI a) (nI cn) rg (za_F O) (za_F W) dA dB E (za_F LO) (za_F UA) UB LA (za_F KI) (za_F F1) (za_F F2) (za_F F3) (za_F DI) EA eB (za_F CA) (za_F CB) (za_F CT) fu fz pr wh (za_F T) (za_F LN) ro sz em hg lv bh rl rr rv ou nx sl := by
          intro z0 z1 hz0 hz1
          have hm0 := zl_mx_lt hnx he
          have hm1 := zl_mx_lt g5 he
          rw [← hz0] at hm0
          rw [← hz1] at hm1
          have e0 : nI z0 &&& 1 = nI (z0 % 2) := pk_andN (by omega) 1 (by decide)
          have e1 : nI z1 &&& 1 = nI (z1 % 2) := pk_andN (by omega) 1 (by decide)
          unfold wX_levelsOf_118
          rw [e0, e1]
          rw [← hz0, ← hz1] at g8
          refine zx_resolve (by omega) (by omega) he g1.1 (by omega) (by omega) (by omega) (fun d hd => g3 d (List.mem_of_mem_take hd)) hgd.1 g7 g6 (fun hg' lv' k1 k2 => ?_)
          refine ih (a + 1 + m) e tl (hs.drop (m + 1)) _ hg' lv' n (by omega) (by omega) (by omega) (by rw [List.length_drop]; omega) g1t ?_ (fun x hx => g3 x (List.mem_of_mem_drop hx)) htl7 he k1 ?_ g8
          · refine za_h_cg _ _ (fun j j1 j2 => k2 j (by omega)) ?_
            rw [show a + 1 + m = a + (m + 1) by omega]; exact hgd.2
          · rw [List.length_append, List.length_map, zl_fx_len]; omega
        have h102 : ∀ (nx1 z0 : Nat), nx1 = tl.headD base → z0 = zl_mx old e → wX_levelsOf_102 post (wX_levelsOf_19 post (nI base) (nI N) n) (nI base) (nI N) (nI e) (nI (a + 1 + m)) (nI nx1) (nI z0) (nI (a + 1 + m)) (nI a) (nI cn) rg (za_F O) (za_F W) dA dB E (za_F LO) (za_F UA) UB LA (za_F KI) (za_F F1) (za_F F2) (za_F F3) (za_F DI) EA eB (za_F CA) (za_F CB) (za_F CT) fu fz pr wh (za_F T) (za_F LN) ro sz em hg lv bh rl rr rv ou nx sl := by
          intro nx1 z0 hn1 hz0
          rw [← hn1] at hnx
          refine pk_le nx1 e (fun g => h118 e z0 ?_ hz0) (fun g => h118 nx1 z0 ?_ hz0)
          · unfold zl_mx; rw [← hn1, if_neg (by omega)]
          · unfold zl_mx; rw [← hn1, if_pos g]
        have h81 : ∀ (nx1 : Nat), nx1 = tl.headD base → wX_levelsOf_81 post (wX_levelsOf_19 post (nI base) (nI N) n) (nI base) (nI N) (nI a) (nI old) (nI e) (nI (a + 1 + m)) (nI nx1) (nI cn) rg (za_F O) (za_F W) dA dB E (za_F LO) (za_F UA) UB LA (za_F KI) (za_F F1) (za_F F2) (za_F F3) (za_F DI) EA eB (za_F CA) (za_F CB) (za_F CT) fu fz pr wh (za_F T) (za_F LN) ro sz em hg lv bh rl rr rv ou nx sl := by
          intro nx1 hn1
          refine pk_le old e (fun g => h102 nx1 e hn1 ?_) (fun g => h102 nx1 old hn1 ?_)
          · unfold zl_mx; rw [if_neg (by omega)]
          · unfold zl_mx; rw [if_pos g]
        rcases htl with htl | ⟨x, r, htl, hxe⟩
        · subst htl
          rw [List.length_nil] at hle
          exact pk_le N (a + 1 + m) (fun _ => h81 base rfl) (fun g => by omega)
        · subst htl
          rw [List.length_cons] at hle
          refine pk_le N (a + 1 + m) (fun g => by omega) (fun _ => ⟨vp_in_nI (by omega) (by decide), ?_⟩)
          rw [nI_clamp (show a + 1 + m < 2 ^ 31 by omega), g1t.1]
          exact h81 x rfl
      have h40 : ∀ (tl : List Nat) (m q : Nat), tl.length < q → es = List.replicate m e ++ tl → wX_levelsOf_40 post (wX_levelsOf_19 post (nI base) (nI N) n) (nI base) (nI N) (nI a) (nI old) (nI e) (nI cn) rg (za_F O) (za_F W) dA dB E (za_F LO) (za_F UA) UB LA (za_F KI) (za_F F1) (za_F F2) (za_F F3) (za_F DI) EA eB (za_F CA) (za_F CB) (za_F CT) fu fz pr wh (za_F T) (za_F LN) ro sz em hg lv bh rl rr rv ou nx sl q (nI (a + 1 + m)) := by
        intro tl
        induction tl with
        | nil =>
          intro m q hq hes
          obtain ⟨q, rfl⟩ : ∃ k, q = k + 1 := ⟨q - 1, by omega⟩
          have hle : es.length = m := by rw [hes, List.append_nil, List.length_replicate]
          exact pk_le N (a + 1 + m) (fun _ => h64 m [] hes (Or.inl rfl)) (fun g => by omega)
        | cons x r ih2 =>
          intro m q hq hes
          rw [List.length_cons] at hq
          obtain ⟨q, rfl⟩ : ∃ k, q = k + 1 := ⟨q - 1, by omega⟩
          have hle : es.length = m + r.length + 1 := by rw [hes, List.length_append, List.length_replicate, List.length_cons]; omega
          have hx7 : x < 7 := g4 x (by rw [hes]; simp)
          have hex : em (nI (a + 1 + m)).toNatClampNeg = nI x := by
            rw [nI_clamp (by omega)]
            have := g1.2
            rw [hes, za_h_app, List.length_replicate] at this
            exact this.2.1
          refine pk_le N (a + 1 + m) (fun g => by omega) (fun _ => ⟨vp_in_nI (by omega) (by decide), ?_⟩)
          refine pk_eq x e (fun g => nm_r (nI_1 _) ?_) (fun g => h64 m (x :: r) hes (Or.inr ⟨x, r, rfl, g⟩)) hex rfl
          subst g
          exact ih2 (m + 1) q (by omega) (by rw [hes, zl_rep3])
      exact h40 es 0 (es.length + 1) (by omega) rfl
/-- the levels of a text -/
def zl_A (DI T : Nat → Nat) (t n base : Nat) : List Nat := zl_L base n base (zl_em (zb_k DI T t) n 0 base []) (zl_hd (zb_k DI T t) n 0)
theorem zx_levelsOf {post : SX → Prop} {t base : Nat} (ht : t < 2) (hbs : base < 2) (hl : LN t ≤ 16) (hT : ∀ j, j < 32 → T j < 48) (hD : ∀ x, x < 48 → DI x < 7)
    (H : ∀ em' hg' lv' ou', za_h lv' 0 (zl_A DI T t (LN t) base) → post ((nI cn), rg, (za_F O), (za_F W), dA, dB, E, (za_F LO), (za_F UA), UB, LA, (za_F KI), (za_F F1), (za_F F2), (za_F F3), (za_F DI), EA, eB, (za_F CA), (za_F CB), (za_F CT), fu, fz, pr, wh, (za_F T), (za_F LN), ro, sz, em', hg', lv', bh, rl, rr, rv, ou', nx, sl)) : wpX_levelsOf post ((nI cn), rg, (za_F O), (za_F W), dA, dB, E, (za_F LO), (za_F UA), UB, LA, (za_F KI), (za_F F1), (za_F F2), (za_F F3), (za_F DI), EA, eB, (za_F CA), (za_F CB), (za_F CT), fu, fz, pr, wh, (za_F T), (za_F LN), ro, sz, em, hg, lv, bh, rl, rr, rv, ou, nx, sl) (nI t) (nI base) := by
  have elen : za_F LN (nI t).toNatClampNeg = nI (LN t) := by rw [nI_clamp (by omega)]; rfl
  unfold wpX_levelsOf
  dsimp only
  refine zx_embed ht hbs hl hT hD (fun em' hg' ou' k1 k2 => ⟨vp_in_nI ht (by decide), nm_r elen ⟨LN t + 1, ?_⟩⟩)
  have e1 := zl_em_len (zb_k DI T t) (LN t) 0 base []
  have e2 := zl_hd_len (zb_k DI T t) (LN t) 0
  exact zx_lv19 hl hbs (fun hg2 lv2 q => H em' hg2 lv2 ou' q) (LN t) 0 base _ _ [] hg' lv (LN t + 1) (by omega) (by omega) (by omega) (by omega) k1 k2 zl_hd_lt (zl_em_lt (by omega) (fun x hx => by simp at hx)) (by omega) trivial rfl rfl
end
section
variable {cn : Nat} {rs nn : Int32} {O W LO UA KI F1 F2 F3 DI CA CB CT T LN : Nat → Nat} {E UB LA EA pA pB wt yB lo re yr fo fl ele els eb yl se pg yo : Nat → Int32}
theorem zy_fl8 {post : SY → Prop} {t base : Nat} {LV : List Nat} (ht : t < 2) (hN : LN t ≤ 16) (hbs : base < 2)
    (H : ∀ se' yl', za_h yl' 0 LV → post ((nI cn), rs, nn, (za_F O), (za_F W), pA, pB, (za_F LO), (za_F UA), UB, LA, (za_F KI), wt, EA, yB, (za_F DI), E, (za_F CA), (za_F CB), (za_F CT), lo, (za_F T), (za_F LN), re, yr, fo, fl, ele, els, eb, yl', se', pg, yo)) :
    ∀ (f a old : Nat) (es hs Pl : List Nat) (se yl : Nat → Int32) (n : Nat), es.length ≤ f → es.length < n → a + es.length = LN t → hs.length = es.length → za_h eb a es → za_h se a hs → (∀ x ∈ hs, x < 4) → (∀ x ∈ es, x < 7) → old < 7 → ((a = 0 ∧ old = base) ∨ (0 < a ∧ eb (a - 1) = nI old)) → za_h yl 0 Pl → Pl.length = a → Pl ++ zl_L base f old es hs = LV →
    wY_findLevels_8 post (nI t) (nI base) n (nI a) (nI cn) rs nn (za_F O) (za_F W) pA pB (za_F LO) (za_F UA) UB LA (za_F KI) wt EA yB (za_F DI) E (za_F CA) (za_F CB) (za_F CT) lo (za_F T) (za_F LN) re yr fo fl ele els eb yl se pg yo := by
  have hvt : vp_in (nI t) 2 := vp_in_nI ht (by decide)
  have elen : za_F LN (nI t).toNatClampNeg = nI (LN t) := by rw [nI_clamp (by omega)]; rfl
  intro f
  induction f with
  | zero =>
    intro a old es hs Pl se yl n h1 h2 h3 h4 g1 g2 g3 g4 g5 go g6 g7 g8
    have : es = [] := List.length_eq_zero_iff.mp (by omega)
    subst this
    rw [List.length_nil] at h3
    obtain ⟨n, rfl⟩ : ∃ k, n = k + 1 := ⟨n - 1, by omega⟩
    refine ⟨hvt, pk_le (LN t) a (fun _ => H se yl ?_) (fun g => by omega) elen rfl⟩
    rw [← g8]; show za_h yl 0 (Pl ++ []); rw [List.append_nil]; exact g6
  | succ f ih =>
    intro a old es hs Pl se yl n h1 h2 h3 h4 g1 g2 g3 g4 g5 go g6 g7 g8
    obtain ⟨n, rfl⟩ : ∃ k, n = k + 1 := ⟨n - 1, by omega⟩
    cases es with
    | nil =>
      rw [List.length_nil] at h3
      refine ⟨hvt, pk_le (LN t) a (fun _ => H se yl ?_) (fun g => by omega) elen rfl⟩
      rw [← g8]; show za_h yl 0 (Pl ++ []); rw [List.append_nil]; exact g6
    | cons e es =>
      rw [List.length_cons] at h1 h2 h3 h4
      have he : e < 7 := g4 e (by simp)
      have hva : vp_in (nI a) 16 := vp_in_nI (by omega) (by decide)
      have hea : eb (nI a).toNatClampNeg = nI e := by rw [nI_clamp (by omega)]; exact g1.1
      refine ⟨hvt, pk_le (LN t) a (fun g => by omega) (fun _ => ⟨es.length + 2, ?_⟩) elen rfl⟩
      have h54 : ∀ (m : Nat) (tl : List Nat), es = List.replicate m e ++ tl → (tl = [] ∨ ∃ x r, tl = x :: r ∧ x ≠ e) → wY_findLevels_54 post (wY_findLevels_8 post (nI t) (nI base) n) (nI t) (nI base) (nI a) (nI (a + 1 + m)) (nI cn) rs nn (za_F O) (za_F W) pA pB (za_F LO) (za_F UA) UB LA (za_F KI) wt EA yB (za_F DI) E (za_F CA) (za_F CB) (za_F CT) lo (za_F T) (za_F LN) re yr fo fl ele els eb yl se pg yo := by
        intro m tl hes htl
        have hle : es.length = m + tl.length := by rw [hes, List.length_append, List.length_replicate]
        rw [hes, zl_L_run htl, ← List.append_assoc] at g8
        have htl7 : ∀ x ∈ tl, x < 7 := fun x hx => g4 x (by rw [hes]; simp [hx])
        have hnx := zl_hdD (base := base) (by omega) htl7
        have hds : hs = hs.take (m + 1) ++ hs.drop (m + 1) := (List.take_append_drop _ _).symm
        have hlt : (hs.take (m + 1)).length = m + 1 := by rw [List.length_take]; omega
        have hgd := g2
        rw [hds, za_h_app, hlt] at hgd
        have g1t : za_h eb (a + 1 + m) tl := by
          have := g1.2
          rw [hes, za_h_app, List.length_replicate] at this
          exact this.2
        have hlast : eb (a + 1 + m - 1) = nI e := by
          have hall : za_h eb a (List.replicate (m + 1) e ++ tl) := by
            rw [List.replicate_succ]
            rw [hes] at g1
            exact g1
          have := za_h_get eb _ a m hall (by simp; omega)
          rw [show a + 1 + m - 1 = a + m by omega, this, List.getD_eq_getElem?_getD, List.getElem?_append_left (by simp), List.getElem?_replicate, if_pos (by omega)]; rfl
        refine zy_resolve (o1 := old) (o2 := tl.headD base) ht hN hbs (by omega) (by omega) he g1.1 g5 hnx go ?_ (by omega) (fun d hd => g3 d (List.mem_of_mem_take hd)) hgd.1 g7 g6 (fun se' yl' k1 k2 => ?_)
        · rcases htl with htl | ⟨x, r, htl, hxe⟩
          · subst htl
            rw [List.length_nil] at hle
            exact Or.inr ⟨by omega, rfl⟩
          · subst htl
            rw [List.length_cons] at hle
            exact Or.inl ⟨by omega, g1t.1⟩
        · refine ih (a + 1 + m) e tl (hs.drop (m + 1)) _ se' yl' n (by omega) (by omega) (by omega) (by rw [List.length_drop]; omega) g1t ?_ (fun x hx => g3 x (List.mem_of_mem_drop hx)) htl7 he (Or.inr ⟨by omega, hlast⟩) k1 ?_ g8
          · refine za_h_cg _ _ (fun j j1 j2 => k2 j (by omega)) ?_
            rw [show a + 1 + m = a + (m + 1) by omega]; exact hgd.2
          · rw [List.length_append, List.length_map, zl_fx_len]; omega
      have h21 : ∀ (tl : List Nat) (m q : Nat), tl.length < q → es = List.replicate m e ++ tl → wY_findLevels_21 post (wY_findLevels_8 post (nI t) (nI base) n) (nI t) (nI base) (nI a) (nI cn) rs nn (za_F O) (za_F W) pA pB (za_F LO) (za_F UA) UB LA (za_F KI) wt EA yB (za_F DI) E (za_F CA) (za_F CB) (za_F CT) lo (za_F T) (za_F LN) re yr fo fl ele els eb yl se pg yo q (nI (a + 1 + m)) := by
        intro tl
        induction tl with
        | nil =>
          intro m q hq hes
          obtain ⟨q, rfl⟩ : ∃ k, q = k + 1 := ⟨q - 1, by omega⟩
          have hle : es.length = m := by rw [hes, List.append_nil, List.length_replicate]
          exact ⟨hvt, pk_le (LN t) (a + 1 + m) (fun _ => h54 m [] hes (Or.inl rfl)) (fun g => by omega) elen rfl⟩
        | cons x r ih2 =>
          intro m q hq hes
          rw [List.length_cons] at hq
          obtain ⟨q, rfl⟩ : ∃ k, q = k + 1 := ⟨q - 1, by omega⟩
          have hle : es.length = m + r.length + 1 := by rw [hes, List.length_append, List.length_replicate, List.length_cons]; omega
          have hx7 : x < 7 := g4 x (by rw [hes]; simp)
          have hex : eb (nI (a + 1 + m)).toNatClampNeg = nI x := by
            rw [nI_clamp (by omega)]
            have := g1.2
            rw [hes, za_h_app, List.length_replicate] at this
            exact this.2.1
          refine ⟨hvt, pk_le (LN t) (a + 1 + m) (fun g => by omega) (fun _ => ⟨vp_in_nI (by omega) (by decide), hva, ?_⟩) elen rfl⟩
          refine pk_eq x e (fun g => nm_r (nI_1 _) ?_) (fun g => h54 m (x :: r) hes (Or.inr ⟨x, r, rfl, g⟩)) hex hea
          subst g
          exact ih2 (m + 1) q (by omega) (by rw [hes, zl_rep3])
      refine ⟨hvt, pk_le (LN t) a (fun g => by omega) (fun _ => ⟨hva, hva, ?_⟩) elen rfl⟩
      refine br_t rfl (nm_r (nI_1 a) ?_)
      exact h21 es 0 (es.length + 1) (by omega) rfl
theorem zy_findLevels {post : SY → Prop} {t base : Nat} (ht : t < 2) (hbs : base < 2) (hl : LN t ≤ 16) (hT : ∀ j, j < 32 → T j < 48) (hD : ∀ x, x < 48 → DI x < 7)
    (H : ∀ eb' se' yl' yo', za_h yl' 0 (zl_A DI T t (LN t) base) → post ((nI cn), rs, nn, (za_F O), (za_F W), pA, pB, (za_F LO), (za_F UA), UB, LA, (za_F KI), wt, EA, yB, (za_F DI), E, (za_F CA), (za_F CB), (za_F CT), lo, (za_F T), (za_F LN), re, yr, fo, fl, ele, els, eb', yl', se', pg, yo')) : wpY_findLevels post ((nI cn), rs, nn, (za_F O), (za_F W), pA, pB, (za_F LO), (za_F UA), UB, LA, (za_F KI), wt, EA, yB, (za_F DI), E, (za_F CA), (za_F CB), (za_F CT), lo, (za_F T), (za_F LN), re, yr, fo, fl, ele, els, eb, yl, se, pg, yo) (nI t) (nI base) := by
  unfold wpY_findLevels
  dsimp only
  refine zy_embed ht hbs hl hT hD (fun em' hg' ou' k1 k2 => ⟨LN t + 1, ?_⟩)
  have e1 := zl_em_len (zb_k DI T t) (LN t) 0 base []
  have e2 := zl_hd_len (zb_k DI T t) (LN t) 0
  exact zy_fl8 ht hl hbs (fun hg2 lv2 q => H em' hg2 lv2 ou' q) (LN t) 0 base _ _ [] hg' yl (LN t + 1) (by omega) (by omega) (by omega) (by omega) k1 k2 zl_hd_lt (zl_em_lt (by omega) (fun x hx => by simp at hx)) (by omega) (Or.inl ⟨rfl, rfl⟩) trivial rfl rfl
end
theorem zl_A_len {DI T : Nat → Nat} {t n base : Nat} : (zl_A DI T t n base).length = n := by
  unfold zl_A
  rw [zl_L_len n base _ _ (by rw [zl_em_len]; omega) (by rw [zl_hd_len, zl_em_len]), zl_em_len]
theorem zl_A_lt {DI T : Nat → Nat} {t n base : Nat} (hb : base < 2) : ∀ x ∈ zl_A DI T t n base, x ≤ 8 :=
  zl_L_lt n base _ _ (zl_em_lt (by omega) (fun x hx => by simp at hx)) zl_hd_lt
section
variable {cn : Nat} {rg rs nn : Int32} {O W LO UA KI F1 F2 F3 DI CA CB CT T LN : Nat → Nat} {E UB LA EA dA dB eB fu fz pr wh ro sz em hg lv bh rl rr rv ou nx sl pA pB wt yB lo re yr fo fl ele els eb yl se pg yo : Nat → Int32}
variable {A B : Nat → Nat} {R : List Nat} {k : Nat}
theorem zv_level (hS : zr_St cn O W LO UA KI F1 F2 F3 DI CA CB CT T LN E UB LA EA dA dB eB fu fz pr wh pA pB wt yB A B) (hR : zr_R R ro sz re rs) (v1 v2 v3 : Int32) : wpX_level (fun r u' => wpY_level (fun r' v' => r' = r ∧ i_Rel (k + 5) u' v') ((nI cn), rs, nn, (za_F O), (za_F W), pA, pB, (za_F LO), (za_F UA), UB, LA, (za_F KI), wt, EA, yB, (za_F DI), E, (za_F CA), (za_F CB), (za_F CT), lo, (za_F T), (za_F LN), re, yr, fo, fl, ele, els, eb, yl, se, pg, yo) v1 v2 v3) ((nI cn), rg, (za_F O), (za_F W), dA, dB, E, (za_F LO), (za_F UA), UB, LA, (za_F KI), (za_F F1), (za_F F2), (za_F F3), (za_F DI), EA, eB, (za_F CA), (za_F CB), (za_F CT), fu, fz, pr, wh, (za_F T), (za_F LN), ro, sz, em, hg, lv, bh, rl, rr, rv, ou, nx, sl) v1 v2 v3 := by
  have hI : (-1 : Int32) = -1 ∧ i_Rel (k + 5) ((nI cn), rg, (za_F O), (za_F W), dA, dB, E, (za_F LO), (za_F UA), UB, LA, (za_F KI), (za_F F1), (za_F F2), (za_F F3), (za_F DI), EA, eB, (za_F CA), (za_F CB), (za_F CT), fu, fz, pr, wh, (za_F T), (za_F LN), ro, sz, em, hg, lv, bh, rl, rr, rv, ou, nx, sl) ((nI cn), rs, nn, (za_F O), (za_F W), pA, pB, (za_F LO), (za_F UA), UB, LA, (za_F KI), wt, EA, yB, (za_F DI), E, (za_F CA), (za_F CB), (za_F CT), lo, (za_F T), (za_F LN), re, yr, fo, fl, ele, els, eb, yl, se, pg, yo) := ⟨rfl, zr_in hS hR⟩
  unfold wpX_level wpY_level
  dsimp only
  rcases zr_text v1 with ⟨t, ht, rfl⟩ | hn
  · refine zx_isText_t ht (br_f (by decide) ?_)
    have hvt : vp_in (nI t) 2 := vp_in_nI ht (by decide)
    have elen : za_F LN (nI t).toNatClampNeg = nI (LN t) := by rw [nI_clamp (by omega)]; rfl
    have hl := zr_LN hS t ht
    rcases zr_rng v2 (n := 2) (by decide) with ⟨w, hw, rfl⟩ | hneg | ⟨hnn, w, hw, hw2, rfl⟩
    · refine br_f (nI_pos (by omega)) (pk_lt 1 w (fun h => by omega) (fun _ => ?_))
      by_cases h0 : v3 < 0
      · exact br_t h0 (zy_isText_t ht (br_f (by decide) (zy_isText_t hw (br_f (by decide) (br_t h0 hI)))))
      · obtain ⟨p, hp, rfl⟩ := nI_of h0
        refine br_f h0 ⟨hvt, pk_lt p (LN t) (fun g => ?_) (fun g => ?_) rfl elen⟩
        · have hln := zl_A_len (DI := DI) (T := T) (t := t) (n := LN t) (base := w)
          refine zx_levelsOf ht hw hl (zr_Tx hS) (zr_DI hS) (fun em' hg' lv' ou' q1 => ⟨vp_in_nI (by omega) (by decide), ?_⟩)
          refine zy_isText_t ht (br_f (by decide) (zy_isText_t hw (br_f (by decide) (br_f h0 ⟨hvt, pk_lt p (LN t) (fun _ => ?_) (fun q => by omega) rfl elen⟩))))
          refine zy_findLevels ht hw hl (zr_Tx hS) (zr_DI hS) (fun eb' se' yl' yo' q2 => ⟨vp_in_nI (by omega) (by decide), ?_, zr_in hS hR⟩)
          have a1 := za_h_get lv' _ 0 p q1 (by omega)
          have a2 := za_h_get yl' _ 0 p q2 (by omega)
          rw [Nat.zero_add] at a1 a2
          rw [nI_clamp (by omega)]
          exact a2.trans a1.symm
        · exact zy_isText_t ht (br_f (by decide) (zy_isText_t hw (br_f (by decide) (br_f h0 ⟨hvt, pk_lt p (LN t) (fun q => by omega) (fun _ => hI) rfl elen⟩))))
    · refine br_t hneg (zy_isText_t ht (br_f (by decide) (zy_isText_f ⟨fun e => ?_, fun e => ?_⟩ (br_t rfl hI))))
      · rw [e] at hneg; exact absurd hneg (by decide)
      · rw [e] at hneg; exact absurd hneg (by decide)
    · refine br_f hnn (pk_lt 1 w (fun _ => ?_) (fun h => by omega))
      refine zy_isText_t ht (br_f (by decide) (zy_isText_f ⟨fun e => ?_, fun e => ?_⟩ (br_t rfl hI)))
      · have := (nI_eq (a := w) (b := 0) hw2 (by omega)).mp e; omega
      · have := (nI_eq (a := w) (b := 1) hw2 (by omega)).mp e; omega
  · exact zx_isText_f hn (br_t rfl (zy_isText_f hn (br_t rfl hI)))
end
end
section
theorem zp_K_len {lev : Nat → Nat} {bh rl rr rv : Nat → Int32} : ∀ (r : List (List Nat × Nat)), zp_K lev bh rl rr rv r → r.length ≤ (zp_cat r).length
  | [], _ => Nat.le_refl _
  | (s, l) :: r, h => by
    have ih := zp_K_len r h.2
    have hs : 0 < s.length := List.length_pos_iff.mpr h.1.2.2.2.2.1
    rw [zp_cat, List.length_append, List.length_cons]; omega
theorem zp_nd {L M : List Nat} {lev : Nat → Nat} {l m : Nat} (h : (L ++ M).Nodup) : (zp_F lev l L ++ zp_F lev m M).Nodup :=
  (List.Perm.nodup_iff (List.Perm.append zp_F_perm zp_F_perm)).mpr h
theorem zp_nd2 {L M : List Nat} (h : (L ++ M).Nodup) : (M ++ L).Nodup := (List.Perm.nodup_iff List.perm_append_comm).mpr h
/-- two ranges become one -/
theorem zp_K_join {lev : Nat → Nat} {bh rl rr rv : Nat → Int32} {s1 s2 : List Nat} {l1 l2 : Nat} {r : List (List Nat × Nat)} (hK : zp_K lev bh rl rr rv ((s2, l2) :: (s1, l1) :: r)) (hA : zp_A lev ((s2, l2) :: (s1, l1) :: r)) (hn : (zp_cat ((s2, l2) :: (s1, l1) :: r)).Nodup) :
    (l1 % 2 = 0 → zp_K lev (upd bh (zp_e (zp_F lev l1 s1)) (nI (zp_b (zp_F lev l2 s2)))) rl (upd rr r.length (nI (zp_e (zp_F lev l2 s2)))) rv ((s1 ++ s2, l1) :: r)) ∧
    (¬ l1 % 2 = 0 → zp_K lev (upd bh (zp_e (zp_F lev l2 s2)) (nI (zp_b (zp_F lev l1 s1)))) (upd rl r.length (nI (zp_b (zp_F lev l2 s2)))) rr rv ((s1 ++ s2, l1) :: r)) := by
  obtain ⟨⟨a1, a2, a3, a4, a5, a6, a7⟩, ⟨b1, b2, b3, b4, b5, b6, b7⟩, hr⟩ := hK
  obtain ⟨⟨c1, c2⟩, _⟩ := hA
  have hn2 : (zp_cat r ++ (s1 ++ s2)).Nodup := by
    rw [← List.append_assoc]; exact hn
  have hn12 : (s1 ++ s2).Nodup := (List.nodup_append.mp hn2).2.1
  have hdis : ∀ q ∈ zp_cat r, q ∉ s1 ∧ q ∉ s2 := by
    intro q hq
    have := (List.nodup_append.mp hn2).2.2
    refine ⟨fun h => this q hq q (List.mem_append_left _ h) rfl, fun h => this q hq q (List.mem_append_right _ h) rfl⟩
  have n1 := zp_ne (lev := lev) (l := l1) b5
  have n2 := zp_ne (lev := lev) (l := l2) a5
  have m1 : zp_e (zp_F lev l1 s1) ∈ s1 := zp_F_mem.mp (zp_e_mem _ n1)
  have m2 : zp_e (zp_F lev l2 s2) ∈ s2 := zp_F_mem.mp (zp_e_mem _ n2)
  obtain ⟨t, ht⟩ := zp_last s1 b5
  have hj := zp_F_join (lev := lev) (m := l2) (l := l1) (q := zp_e s1) (s1 := t) (s2 := s2) (by omega) a7 c2 a6
  rw [← ht] at hj
  have hall : ∀ q ∈ s1 ++ s2, l1 ≤ lev q := by
    intro q hq
    rcases List.mem_append.mp hq with h | h
    · exact b6 q h
    · have := a6 q h; omega
  have hne : s1 ++ s2 ≠ [] := by
    intro e
    exact b5 (List.append_eq_nil_iff.mp e).1
  constructor
  · intro he
    rw [if_pos he] at hj
    refine ⟨⟨?_, ?_, b3, ?_, hne, hall, b7⟩, ?_⟩
    · rw [hj, zp_b_app _ _ n1]; exact b1
    · rw [hj, zp_e_app _ _ n2]; exact pk_us
    · rw [hj]
      exact zp_c_app _ _ n1 n2 (zp_nd hn12) b4 a4
    · refine zp_K_cg r (fun q hq => pk_un ?_) (fun i hi => ⟨rfl, pk_un (by omega), rfl⟩) hr
      intro e
      exact (hdis q hq).1 (by rw [e]; exact m1)
  · intro he
    rw [if_neg he] at hj
    refine ⟨⟨?_, ?_, b3, ?_, hne, hall, b7⟩, ?_⟩
    · rw [hj, zp_b_app _ _ n2]; exact pk_us
    · rw [hj, zp_e_app _ _ n1]; exact b2
    · rw [hj]
      exact zp_c_app _ _ n2 n1 (zp_nd2 (zp_nd hn12)) a4 b4
    · refine zp_K_cg r (fun q hq => pk_un ?_) (fun i hi => ⟨pk_un (by omega), rfl, rfl⟩) hr
      intro e
      exact (hdis q hq).2 (by rw [e]; exact m2)
/-- a place is put to the last range -/
theorem zp_K_put {lev : Nat → Nat} {bh rl rr rv : Nat → Int32} {s : List Nat} {m l p : Nat} {r : List (List Nat × Nat)} (hK : zp_K lev bh rl rr rv ((s, m) :: r)) (hl : l ≤ m) (hp : lev p = l) (hpn : p ∉ zp_cat ((s, m) :: r)) (hn : (zp_cat ((s, m) :: r)).Nodup) :
    (l % 2 = 0 → zp_K lev (upd bh (zp_e (zp_F lev m s)) (nI p)) rl (upd rr r.length (nI p)) (upd rv r.length (nI l)) ((s ++ [p], l) :: r)) ∧
    (¬ l % 2 = 0 → zp_K lev (upd bh p (nI (zp_b (zp_F lev m s)))) (upd rl r.length (nI p)) rr (upd rv r.length (nI l)) ((s ++ [p], l) :: r)) := by
  obtain ⟨⟨a1, a2, a3, a4, a5, a6, a7⟩, hr⟩ := hK
  have hns : s.Nodup := (List.nodup_append.mp hn).2.1
  have hps : p ∉ s := fun h => hpn (List.mem_append_right _ h)
  have hpr : p ∉ zp_cat r := fun h => hpn (List.mem_append_left _ h)
  have n2 := zp_ne (lev := lev) (l := m) a5
  have m2 : zp_e (zp_F lev m s) ∈ s := zp_F_mem.mp (zp_e_mem _ n2)
  have hj := zp_F_put (lev := lev) (m := m) (l := l) (p := p) (s := s) hl a7 a6 hp
  have hall : ∀ q ∈ s ++ [p], l ≤ lev q := by
    intro q hq
    rcases List.mem_append.mp hq with h | h
    · have := a6 q h; omega
    · simp at h; rw [h]; omega
  have hne : s ++ [p] ≠ [] := by simp
  have hnd : (zp_F lev m s ++ [p]).Nodup := by
    rw [List.nodup_append]
    refine ⟨(List.Perm.nodup_iff zp_F_perm).mpr hns, by simp, ?_⟩
    intro a ha b hb e
    simp at hb
    rw [e, hb] at ha
    exact hps (zp_F_mem.mp ha)
  constructor
  · intro he
    rw [if_pos he] at hj
    refine ⟨⟨?_, ?_, pk_us, ?_, hne, hall, by omega⟩, ?_⟩
    · rw [hj, zp_b_app _ _ n2]; exact a1
    · rw [hj, zp_e_app _ _ (by simp)]; exact pk_us
    · rw [hj]
      exact zp_c_app _ [p] n2 (by simp) hnd a4 trivial
    · refine zp_K_cg r (fun q hq => pk_un ?_) (fun i hi => ⟨rfl, pk_un (by omega), pk_un (by omega)⟩) hr
      intro e
      exact (List.nodup_append.mp hn).2.2 q hq q (by rw [e]; exact m2) rfl
  · intro he
    rw [if_neg he] at hj
    refine ⟨⟨?_, ?_, pk_us, ?_, hne, hall, by omega⟩, ?_⟩
    · rw [hj]; exact pk_us
    · rw [hj]
      have := zp_e_app [p] (zp_F lev m s) n2
      rw [show p :: zp_F lev m s = [p] ++ zp_F lev m s from rfl, this]
      exact a2
    · rw [hj]
      exact zp_c_app [p] _ (by simp) n2 (zp_nd2 hnd) trivial a4
    · refine zp_K_cg r (fun q hq => pk_un ?_) (fun i hi => ⟨pk_un (by omega), rfl, pk_un (by omega)⟩) hr
      intro e
      rw [e] at hq
      exact hpr hq
theorem zp_K_new {lev : Nat → Nat} {bh rl rr rv : Nat → Int32} {l p : Nat} {r : List (List Nat × Nat)} (hK : zp_K lev bh rl rr rv r) (hl : l ≤ 8) (hp : lev p = l) :
    zp_K lev bh (upd rl r.length (nI p)) (upd rr r.length (nI p)) (upd rv r.length (nI l)) (([p], l) :: r) := by
  refine ⟨⟨?_, ?_, pk_us, ?_, by simp, ?_, hl⟩, ?_⟩
  · rw [zp_F_one]; exact pk_us
  · rw [zp_F_one]; exact pk_us
  · rw [zp_F_one]; trivial
  · intro q hq; simp at hq; rw [hq]; omega
  · exact zp_K_cg r (fun _ _ => rfl) (fun i hi => ⟨pk_un (by omega), pk_un (by omega), pk_un (by omega)⟩) hK
section
variable {cn : Nat} {rg : Int32} {O W LO UA KI F1 F2 F3 DI CA CB CT T LN : Nat → Nat} {E UB LA EA dA dB eB fu fz pr wh ro sz em hg lv bh rl rr rv ou nx sl : Nat → Int32}
theorem zx_merge {post : SX → Prop} {lev : Nat → Nat} {s1 s2 : List Nat} {l1 l2 p : Nat} {r : List (List Nat × Nat)} (hp : p ≤ 16) (hcat : zp_cat ((s2, l2) :: (s1, l1) :: r) = List.range p)
    (hK : zp_K lev bh rl rr rv ((s2, l2) :: (s1, l1) :: r)) (hA : zp_A lev ((s2, l2) :: (s1, l1) :: r))
    (H : ∀ bh' rl' rr', zp_K lev bh' rl' rr' rv ((s1 ++ s2, l1) :: r) → post ((nI cn), (nI (r.length + 1)), (za_F O), (za_F W), dA, dB, E, (za_F LO), (za_F UA), UB, LA, (za_F KI), (za_F F1), (za_F F2), (za_F F3), (za_F DI), EA, eB, (za_F CA), (za_F CB), (za_F CT), fu, fz, pr, wh, (za_F T), (za_F LN), ro, sz, em, hg, lv, bh', rl', rr', rv, ou, nx, sl)) :
    wpX_merge post ((nI cn), (nI (r.length + 2)), (za_F O), (za_F W), dA, dB, E, (za_F LO), (za_F UA), UB, LA, (za_F KI), (za_F F1), (za_F F2), (za_F F3), (za_F DI), EA, eB, (za_F CA), (za_F CB), (za_F CT), fu, fz, pr, wh, (za_F T), (za_F LN), ro, sz, em, hg, lv, bh, rl, rr, rv, ou, nx, sl) := by
  have hlen := zp_K_len _ hK
  rw [hcat, List.length_range] at hlen
  simp only [List.length_cons] at hlen
  have hn : (zp_cat ((s2, l2) :: (s1, l1) :: r)).Nodup := by rw [hcat]; exact List.nodup_range
  obtain ⟨j1, j2⟩ := zp_K_join hK hA hn
  have hlt : ∀ q, q ∈ s1 ∨ q ∈ s2 → q < 16 := by
    intro q hq
    have : q ∈ zp_cat ((s2, l2) :: (s1, l1) :: r) := by
      simp only [zp_cat, List.mem_append]
      rcases hq with h | h
      · exact Or.inl (Or.inr h)
      · exact Or.inr h
    rw [hcat, List.mem_range] at this
    omega
  obtain ⟨⟨a1, a2, a3, a4, a5, a6, a7⟩, ⟨b1, b2, b3, b4, b5, b6, b7⟩, hr⟩ := hK
  rw [List.length_cons] at a1 a2 a3
  have n1 := zp_ne (lev := lev) (l := l1) b5
  have n2 := zp_ne (lev := lev) (l := l2) a5
  have m1 := hlt _ (Or.inl (zp_F_mem.mp (zp_e_mem _ n1)))
  have m2 := hlt _ (Or.inr (zp_F_mem.mp (zp_e_mem _ n2)))
  have m3 := hlt _ (Or.inl (zp_F_mem.mp (zp_b_mem _ n1)))
  have m4 := hlt _ (Or.inr (zp_F_mem.mp (zp_b_mem _ n2)))
  have e1 : nI (r.length + 2) - 1 = nI (r.length + 1) := nI_pred _
  have e2 : nI (r.length + 1) - 1 = nI r.length := nI_pred _
  have v1 : vp_in (nI r.length) 16 := vp_in_nI (by omega) (by decide)
  have v2 : vp_in (nI (r.length + 1)) 16 := vp_in_nI (by omega) (by decide)
  have c1 : (nI r.length).toNatClampNeg = r.length := nI_clamp (by omega)
  have c2 : (nI (r.length + 1)).toNatClampNeg = r.length + 1 := nI_clamp (by omega)
  have ee : rv (nI r.length).toNatClampNeg &&& 1 = nI (l1 % 2) := by rw [c1, b3]; exact pk_andN (by omega) 1 (by decide)
  refine nm_r e1 (nm_r e2 ⟨v1, pk_eq (l1 % 2) 0 (fun g => ⟨v1, v2, ?_⟩) (fun g => ⟨v2, v1, ?_⟩) ee rfl⟩)
  · refine ⟨by rw [c1, b2]; exact vp_in_nI m1 (by decide), nm_r (e' := upd bh (zp_e (zp_F lev l1 s1)) (nI (zp_b (zp_F lev l2 s2)))) (by rw [c1, c2, b2, a1, nI_clamp (by omega), za_nb (by omega)]) ⟨v2, v1, nm_r (e' := upd rr r.length (nI (zp_e (zp_F lev l2 s2)))) (by rw [c1, c2, a2, za_nb (by omega)]) ?_⟩⟩
    exact H _ _ _ (j1 g)
  · refine ⟨by rw [c2, a2]; exact vp_in_nI m2 (by decide), nm_r (e' := upd bh (zp_e (zp_F lev l2 s2)) (nI (zp_b (zp_F lev l1 s1)))) (by rw [c1, c2, b1, a2, nI_clamp (by omega), za_nb (by omega)]) ⟨v2, v1, nm_r (e' := upd rl r.length (nI (zp_b (zp_F lev l2 s2)))) (by rw [c1, c2, a1, za_nb (by omega)]) ?_⟩⟩
    exact H _ _ _ (j2 g)
/-- the state of the ranges at a place -/
def zp_I (lev : Nat → Nat) (bh rl rr rv : Nat → Int32) (stk : List (List Nat × Nat)) (p : Nat) : Prop := zp_K lev bh rl rr rv stk ∧ zp_A lev stk ∧ zp_cat stk = List.range p
theorem zp_A_join {lev : Nat → Nat} {s1 s2 : List Nat} {l1 l2 : Nat} {r : List (List Nat × Nat)} (h : zp_A lev ((s2, l2) :: (s1, l1) :: r)) : zp_A lev ((s1 ++ s2, l1) :: r) := by
  have := h.2
  cases r with
  | nil => trivial
  | cons x r => exact this
theorem zp_cat_join {s1 s2 : List Nat} {l1 l2 : Nat} {r : List (List Nat × Nat)} : zp_cat ((s1 ++ s2, l1) :: r) = zp_cat ((s2, l2) :: (s1, l1) :: r) := by
  simp only [zp_cat, List.append_assoc]
theorem zx_link64 {post : SX → Prop} {J : Int32 → Int32 → Int32 → (Nat → Int32) → (Nat → Int32) → (Nat → Int32) → (Nat → Int32) → (Nat → Int32) → (Nat → Int32) → (Nat → Int32) → (Nat → Int32) → (Nat → Int32) → (Nat → Int32) → (Nat → Int32) → (Nat → Int32) → (Nat → Int32) → (Nat → Int32) → (Nat → Int32) → (Nat → Int32) → (Nat → Int32) → (Nat → Int32) → (Nat → Int32) → (Nat → Int32) → (Nat → Int32) → (Nat → Int32) → (Nat → Int32) → (Nat → Int32) → (Nat → Int32) → (Nat → Int32) → (Nat → Int32) → (Nat → Int32) → (Nat → Int32) → (Nat → Int32) → (Nat → Int32) → (Nat → Int32) → (Nat → Int32) → (Nat → Int32) → (Nat → Int32) → (Nat → Int32) → (Nat → Int32) → Prop} {x1 : Int32} {lev : Nat → Nat} {p l : Nat} {stk : List (List Nat × Nat)} (hp : p < 16) (hl : l ≤ 8) (hlev : lev p = l) (hI : zp_I lev bh rl rr rv stk p)
    (htop : ∀ s m r, stk = (s, m) :: r → lev (zp_e s) = m ∨ l ≤ m)
    (hbel : ∀ s m s' m' r, stk = (s, m) :: (s', m') :: r → m ≤ l ∨ m' < l)
    (H : ∀ bh' rl' rr' rv' stk', zp_I lev bh' rl' rr' rv' stk' (p + 1) → (∀ s m r, stk' = (s, m) :: r → lev (zp_e s) = m) → J (nI (p + 1)) (nI cn) (nI stk'.length) (za_F O) (za_F W) dA dB E (za_F LO) (za_F UA) UB LA (za_F KI) (za_F F1) (za_F F2) (za_F F3) (za_F DI) EA eB (za_F CA) (za_F CB) (za_F CT) fu fz pr wh (za_F T) (za_F LN) ro sz em hg lv bh' rl' rr' rv' ou nx sl) :
    wX_link_64 post J x1 (nI p) (nI l) (nI cn) (nI stk.length) (za_F O) (za_F W) dA dB E (za_F LO) (za_F UA) UB LA (za_F KI) (za_F F1) (za_F F2) (za_F F3) (za_F DI) EA eB (za_F CA) (za_F CB) (za_F CT) fu fz pr wh (za_F T) (za_F LN) ro sz em hg lv bh rl rr rv ou nx sl := by
  obtain ⟨hK, hA, hcat⟩ := hI
  have hlen := zp_K_len _ hK
  rw [hcat, List.length_range] at hlen
  have hn : (zp_cat stk).Nodup := by rw [hcat]; exact List.nodup_range
  have hpn : p ∉ zp_cat stk := by rw [hcat, List.mem_range]; omega
  have h88 : (∀ s m r, stk = (s, m) :: r → m < l) → wX_link_88 post J x1 (nI p) (nI l) (nI cn) (nI stk.length) (za_F O) (za_F W) dA dB E (za_F LO) (za_F UA) UB LA (za_F KI) (za_F F1) (za_F F2) (za_F F3) (za_F DI) EA eB (za_F CA) (za_F CB) (za_F CT) fu fz pr wh (za_F T) (za_F LN) ro sz em hg lv bh rl rr rv ou nx sl := by
    intro hm
    have v : vp_in (nI stk.length) 16 := vp_in_nI (by omega) (by decide)
    have c : (nI stk.length).toNatClampNeg = stk.length := nI_clamp (by omega)
    refine ⟨v, nm_r (e' := upd rl stk.length (nI p)) (by rw [c, za_nb2 (by omega)]) ⟨v, nm_r (e' := upd rr stk.length (nI p)) (by rw [c, za_nb2 (by omega)]) (nm_r (nI_1 _) ⟨v, nm_r (e' := upd rv stk.length (nI l)) (by rw [c, za_nb2 (by omega)]) (nm_r (nI_1 p) ?_)⟩)⟩⟩
    refine H bh _ _ _ (([p], l) :: stk) ⟨zp_K_new hK hl hlev, ?_, ?_⟩ (fun s m r e => ?_)
    · cases stk with
      | nil => trivial
      | cons x r =>
        obtain ⟨s, m⟩ := x
        have h1 := hm s m r rfl
        refine ⟨⟨h1, ?_⟩, hA⟩
        rcases htop s m r rfl with h | h
        · exact h
        · omega
    · show zp_cat stk ++ [p] = _
      rw [hcat, List.range_succ]
    · injection e with e1 e2
      injection e1 with e3 e4
      rw [← e3, ← e4]; exact hlev
  cases stk with
  | nil =>
    refine nm_e (br_t (by decide) (h88 (fun s m r e => by cases e)))
  | cons x r =>
    obtain ⟨s, m⟩ := x
    simp only [List.length_cons] at hlen ⊢
    have e1 : nI (r.length + 1) - 1 = nI r.length := nI_pred _
    have v : vp_in (nI r.length) 16 := vp_in_nI (by omega) (by decide)
    have c : (nI r.length).toNatClampNeg = r.length := nI_clamp (by omega)
    have a3 := hK.1.2.2.1
    have a1 := hK.1.1
    have a2 := hK.1.2.1
    have a5 := hK.1.2.2.2.2.1
    have a7 := hK.1.2.2.2.2.2.2
    refine nm_r e1 (br_f (nI_pos (by omega)) ⟨v, ?_⟩)
    refine pk_le l m (fun g => ?_) (fun g => h88 (fun s' m' r' e => ?_)) rfl (by rw [c]; exact a3)
    · obtain ⟨j1, j2⟩ := zp_K_put hK g hlev hpn hn
      have hlt : ∀ q, q ∈ s → q < 16 := by
        intro q hq
        have : q ∈ zp_cat ((s, m) :: r) := List.mem_append_right _ hq
        rw [hcat, List.mem_range] at this
        omega
      have n2 := zp_ne (lev := lev) (l := m) a5
      have m2 := hlt _ (zp_F_mem.mp (zp_e_mem _ n2))
      have m4 := hlt _ (zp_F_mem.mp (zp_b_mem _ n2))
      have ee : nI l &&& 1 = nI (l % 2) := pk_andN (by omega) 1 (by decide)
      have hfin : ∀ bh' rl' rr', zp_K lev bh' rl' rr' (upd rv r.length (nI l)) ((s ++ [p], l) :: r) → wX_link_185 post J x1 (nI p) (nI l) (nI r.length) (nI cn) (nI (r.length + 1)) (za_F O) (za_F W) dA dB E (za_F LO) (za_F UA) UB LA (za_F KI) (za_F F1) (za_F F2) (za_F F3) (za_F DI) EA eB (za_F CA) (za_F CB) (za_F CT) fu fz pr wh (za_F T) (za_F LN) ro sz em hg lv bh' rl' rr' rv ou nx sl := by
        intro bh' rl' rr' hk
        refine ⟨v, nm_r (e' := upd rv r.length (nI l)) (by rw [c, za_nb2 (by omega)]) (nm_r (nI_1 p) ?_)⟩
        refine H bh' rl' rr' _ ((s ++ [p], l) :: r) ⟨hk, ?_, ?_⟩ (fun s' m' r' e => ?_)
        · cases r with
          | nil => trivial
          | cons y r' =>
            obtain ⟨s', m'⟩ := y
            have hA1 := hA.1
            refine ⟨⟨?_, hA1.2⟩, hA.2⟩
            rcases hbel s m s' m' r' rfl with h | h
            · omega
            · exact h
        · show zp_cat r ++ (s ++ [p]) = _
          rw [← List.append_assoc, List.range_succ]
          exact congrArg (· ++ [p]) hcat
        · injection e with e1 e2
          injection e1 with e3 e4
          rw [← e3, ← e4, zp_e_app _ _ (by simp)]; exact hlev
      refine pk_eq (l % 2) 0 (fun g2 => ⟨v, ?_⟩) (fun g2 => ⟨v, ?_⟩) ee rfl
      · refine ⟨by rw [c, a2]; exact vp_in_nI m2 (by decide), nm_r (e' := upd bh (zp_e (zp_F lev m s)) (nI p)) (by rw [c, a2, nI_clamp (by omega), za_nb2 (by omega)]) ⟨v, nm_r (e' := upd rr r.length (nI p)) (by rw [c, za_nb2 (by omega)]) ?_⟩⟩
        exact hfin _ _ _ (j1 g2)
      · refine ⟨vp_in_nI (by omega) (by decide), nm_r (e' := upd bh p (nI (zp_b (zp_F lev m s)))) (by rw [c, a1, nI_clamp (by omega), za_nb (by omega)]) ⟨v, nm_r (e' := upd rl r.length (nI p)) (by rw [c, za_nb2 (by omega)]) ?_⟩⟩
        exact hfin _ _ _ (j2 g2)
    · injection e with e1 e2
      injection e1 with e3 e4
      rw [← e4]; exact g
theorem zx_link19 {post : SX → Prop} {J : Int32 → Int32 → Int32 → (Nat → Int32) → (Nat → Int32) → (Nat → Int32) → (Nat → Int32) → (Nat → Int32) → (Nat → Int32) → (Nat → Int32) → (Nat → Int32) → (Nat → Int32) → (Nat → Int32) → (Nat → Int32) → (Nat → Int32) → (Nat → Int32) → (Nat → Int32) → (Nat → Int32) → (Nat → Int32) → (Nat → Int32) → (Nat → Int32) → (Nat → Int32) → (Nat → Int32) → (Nat → Int32) → (Nat → Int32) → (Nat → Int32) → (Nat → Int32) → (Nat → Int32) → (Nat → Int32) → (Nat → Int32) → (Nat → Int32) → (Nat → Int32) → (Nat → Int32) → (Nat → Int32) → (Nat → Int32) → (Nat → Int32) → (Nat → Int32) → (Nat → Int32) → (Nat → Int32) → (Nat → Int32) → Prop} {x1 : Int32} {lev : Nat → Nat} {p l : Nat} (hp : p < 16) (hl : l ≤ 8) (hlev : lev p = l)
    (H : ∀ bh' rl' rr' rv' stk', zp_I lev bh' rl' rr' rv' stk' (p + 1) → (∀ s m r, stk' = (s, m) :: r → lev (zp_e s) = m) → J (nI (p + 1)) (nI cn) (nI stk'.length) (za_F O) (za_F W) dA dB E (za_F LO) (za_F UA) UB LA (za_F KI) (za_F F1) (za_F F2) (za_F F3) (za_F DI) EA eB (za_F CA) (za_F CB) (za_F CT) fu fz pr wh (za_F T) (za_F LN) ro sz em hg lv bh' rl' rr' rv' ou nx sl) :
    ∀ (n : Nat) (stk : List (List Nat × Nat)) (bh rl rr : Nat → Int32), stk.length < n → zp_I lev bh rl rr rv stk p → (∀ s m r, stk = (s, m) :: r → lev (zp_e s) = m ∨ l ≤ m) →
    wX_link_19 post J x1 (nI p) (nI l) n (nI cn) (nI stk.length) (za_F O) (za_F W) dA dB E (za_F LO) (za_F UA) UB LA (za_F KI) (za_F F1) (za_F F2) (za_F F3) (za_F DI) EA eB (za_F CA) (za_F CB) (za_F CT) fu fz pr wh (za_F T) (za_F LN) ro sz em hg lv bh rl rr rv ou nx sl := by
  intro n
  induction n with
  | zero => intro stk bh rl rr h; omega
  | succ n ih =>
    intro stk bh rl rr hn hI htop
    have hK := hI.1
    have hA := hI.2.1
    have hcat := hI.2.2
    have hlen := zp_K_len _ hK
    rw [hcat, List.length_range] at hlen
    refine pk_le stk.length 1 (fun g => ?_) (fun g => ?_)
    · refine zx_link64 hp hl hlev hI htop (fun s m s' m' r e => ?_) H
      rw [e] at g; simp at g
    · match stk, hn, hI, htop, hK, hA, hcat, hlen, g with
      | (s, m) :: (s', m') :: r, hn, hI, htop, hK, hA, hcat, hlen, g =>
        simp only [List.length_cons] at hn hlen ⊢
        have e1 : nI (r.length + 1 + 1) - 1 = nI (r.length + 1) := nI_pred _
        have e2 : nI (r.length + 1 + 1) - 2 = nI r.length := pk_sub (a := r.length + 1 + 1) (b := 2) (by omega)
        have a3 := hK.1.2.2.1
        have b3 := hK.2.1.2.2.1
        have a7 := hK.1.2.2.2.2.2.2
        have b7 := hK.2.1.2.2.2.2.2.2
        rw [List.length_cons] at a3
        refine ⟨by rw [e1]; exact vp_in_nI (by omega) (by decide), ?_⟩
        refine pk_le m l (fun g2 => ?_) (fun g2 => ⟨by rw [e2]; exact vp_in_nI (by omega) (by decide), ?_⟩) (by rw [e1, nI_clamp (by omega)]; exact a3) rfl
        · refine zx_link64 (stk := (s, m) :: (s', m') :: r) hp hl hlev hI htop (fun s1 m1 s2 m2 r2 e => ?_) H
          injection e with q1 q2
          injection q1 with q3 q4
          left; omega
        · refine pk_lt m' l (fun g3 => ?_) (fun g3 => ?_) (by rw [e2, nI_clamp (by omega)]; exact b3) rfl
          · refine zx_link64 (stk := (s, m) :: (s', m') :: r) hp hl hlev hI htop (fun s1 m1 s2 m2 r2 e => ?_) H
            injection e with q1 q2
            injection q2 with q5 q6
            injection q5 with q7 q8
            right; omega
          · refine zx_merge (p := p) (by omega) hcat hK hA (fun bh' rl' rr' hk => ?_)
            refine ih ((s' ++ s, m') :: r) bh' rl' rr' (by rw [List.length_cons]; omega) ⟨hk, zp_A_join hA, by rw [zp_cat_join (l2 := m)]; exact hcat⟩ (fun s1 m1 r1 e => ?_)
            injection e with q1 q2
            injection q1 with q3 q4
            right; omega
theorem zx_link {post : SX → Prop} {lev : Nat → Nat} {N : Nat} {LV : List Nat} (hN : N ≤ 16) (hN0 : 0 < N) (hlv : za_h lv 0 LV) (hl : LV.length = N) (h8 : ∀ x ∈ LV, x ≤ 8) (hlev : ∀ p, p < N → lev p = LV.getD p 0)
    (H : ∀ rg' bh' rl' rr' rv', zp_c bh' (zp_V lev (List.range N) 9) → rl' 0 = nI (zp_b (zp_V lev (List.range N) 9)) → post ((nI cn), rg', (za_F O), (za_F W), dA, dB, E, (za_F LO), (za_F UA), UB, LA, (za_F KI), (za_F F1), (za_F F2), (za_F F3), (za_F DI), EA, eB, (za_F CA), (za_F CB), (za_F CT), fu, fz, pr, wh, (za_F T), (za_F LN), ro, sz, em, hg, lv, bh', rl', rr', rv', ou, nx, sl)) : wpX_link post ((nI cn), rg, (za_F O), (za_F W), dA, dB, E, (za_F LO), (za_F UA), UB, LA, (za_F KI), (za_F F1), (za_F F2), (za_F F3), (za_F DI), EA, eB, (za_F CA), (za_F CB), (za_F CT), fu, fz, pr, wh, (za_F T), (za_F LN), ro, sz, em, hg, lv, bh, rl, rr, rv, ou, nx, sl) (nI N) := by
  have l200 : ∀ (n : Nat) (stk : List (List Nat × Nat)) (bh rl rr rv : Nat → Int32), stk.length < n → zp_I lev bh rl rr rv stk N → wX_link_200 post n (nI cn) (nI stk.length) (za_F O) (za_F W) dA dB E (za_F LO) (za_F UA) UB LA (za_F KI) (za_F F1) (za_F F2) (za_F F3) (za_F DI) EA eB (za_F CA) (za_F CB) (za_F CT) fu fz pr wh (za_F T) (za_F LN) ro sz em hg lv bh rl rr rv ou nx sl := by
    intro n
    induction n with
    | zero => intro stk bh rl rr rv h; omega
    | succ n ih =>
      intro stk bh rl rr rv hn hI
      have hK := hI.1
      have hA := hI.2.1
      have hcat := hI.2.2
      have hlen := zp_K_len _ hK
      rw [hcat, List.length_range] at hlen
      match stk, hn, hI, hK, hA, hcat, hlen with
      | [], hn, hI, hK, hA, hcat, hlen =>
        have := congrArg List.length hcat
        rw [List.length_range] at this
        simp [zp_cat] at this
        omega
      | [(s, l)], hn, hI, hK, hA, hcat, hlen =>
        refine pk_le 1 1 (fun _ => ?_) (fun g => by omega)
        have hs : s = List.range N := hcat
        obtain ⟨⟨a1, a2, a3, a4, a5, a6, a7⟩, _⟩ := hK
        have hF : zp_F lev 0 s = zp_F lev l s := zp_F_to (Nat.zero_le _) (by omega) a6
        have hF0 : zp_F lev 0 s = zp_V lev s 9 := by unfold zp_F; rw [if_pos rfl]
        rw [← hF, hF0, hs] at a1 a4
        exact H _ bh rl rr rv a4 a1
      | (s2, l2) :: (s1, l1) :: r, hn, hI, hK, hA, hcat, hlen =>
        simp only [List.length_cons] at hn hlen ⊢
        refine pk_le (r.length + 1 + 1) 1 (fun g => by omega) (fun _ => ?_)
        refine zx_merge (p := N) hN hcat hK hA (fun bh' rl' rr' hk => ?_)
        exact ih ((s1 ++ s2, l1) :: r) bh' rl' rr' rv (by rw [List.length_cons]; omega) ⟨hk, zp_A_join hA, by rw [zp_cat_join (l2 := l2)]; exact hcat⟩
  have l7 : ∀ (d p : Nat) (stk : List (List Nat × Nat)) (bh rl rr rv : Nat → Int32), p + d = N → zp_I lev bh rl rr rv stk p → (∀ s m r, stk = (s, m) :: r → lev (zp_e s) = m) → wX_link_7 post (nI N) (d + 1) (nI p) (nI cn) (nI stk.length) (za_F O) (za_F W) dA dB E (za_F LO) (za_F UA) UB LA (za_F KI) (za_F F1) (za_F F2) (za_F F3) (za_F DI) EA eB (za_F CA) (za_F CB) (za_F CT) fu fz pr wh (za_F T) (za_F LN) ro sz em hg lv bh rl rr rv ou nx sl := by
    intro d
    induction d with
    | zero =>
      intro p stk bh rl rr rv hp hI ht
      have : p = N := by omega
      subst this
      exact pk_le p p (fun _ => ⟨stk.length + 1, l200 _ stk bh rl rr rv (by omega) hI⟩) (fun g => by omega)
    | succ d ih =>
      intro p stk bh rl rr rv hp hI ht
      have hv : lv (nI p).toNatClampNeg = nI (lev p) := by
        rw [nI_clamp (by omega), hlev p (by omega)]
        have := za_h_get lv LV 0 p hlv (by omega)
        rw [Nat.zero_add] at this; exact this
      have h8p : lev p ≤ 8 := by rw [hlev p (by omega)]; exact h8 _ (za_gm (by omega))
      refine pk_le N p (fun g => by omega) (fun _ => ⟨vp_in_nI (by omega) (by decide), nm_r hv ⟨stk.length + 1, ?_⟩⟩)
      exact zx_link19 (by omega) h8p rfl (fun bh' rl' rr' rv' stk' k1 k2 => ih (p + 1) stk' bh' rl' rr' rv' (by omega) k1 k2) (stk.length + 1) stk bh rl rr (by omega) hI (fun s m r e => Or.inl (ht s m r e))
  exact ⟨N + 1, l7 N 0 [] bh rl rr rv (by omega) ⟨trivial, trivial, rfl⟩ (fun s m r e => by cases e)⟩
end
end
section
theorem zp_t_run {lev : Nat → Nat} {l : Nat} : ∀ (M acc Q : List Nat), (∀ q ∈ M, l ≤ lev q) → zp_t lev l acc (M ++ Q) = zp_t lev l (M.reverse ++ acc) Q
  | [], acc, Q, _ => rfl
  | x :: xs, acc, Q, h => by
    show zp_t lev l acc (x :: (xs ++ Q)) = _
    rw [zp_t, if_pos (h x (by simp)), zp_t_run xs (x :: acc) Q (fun q hq => h q (by simp [hq])), List.reverse_cons, List.append_assoc]; rfl
theorem zp_snoc : ∀ (L : List Nat), 1 < L.length → ∃ x M y, L = x :: (M ++ [y])
  | [], h => by simp at h
  | [x], h => by simp at h
  | x :: y :: r, _ => by
    obtain ⟨t, e⟩ := zp_last (y :: r) (by simp)
    exact ⟨x, t, _, congrArg (List.cons x) e⟩
section
variable {cn : Nat} {rs nn : Int32} {O W LO UA KI F1 F2 F3 DI CA CB CT T LN : Nat → Nat} {E UB LA EA pA pB wt yB lo re yr fo fl ele els eb yl se pg yo : Nat → Int32}
theorem zy_rev7 {post : SY → Prop} : ∀ (n : Nat) (A1 mid A2 : List Nat) (pg : Nat → Int32), mid.length < n → A1.length + mid.length + A2.length ≤ 16 → za_h pg 0 (A1 ++ (mid ++ A2)) →
    (∀ pg', za_h pg' 0 (A1 ++ (mid.reverse ++ A2)) → post ((nI cn), rs, nn, (za_F O), (za_F W), pA, pB, (za_F LO), (za_F UA), UB, LA, (za_F KI), wt, EA, yB, (za_F DI), E, (za_F CA), (za_F CB), (za_F CT), lo, (za_F T), (za_F LN), re, yr, fo, fl, ele, els, eb, yl, se, pg', yo)) → wY_reverse_7 post (nI cn) rs nn n (nI A1.length) (nI (A1.length + mid.length) - 1) (za_F O) (za_F W) pA pB (za_F LO) (za_F UA) UB LA (za_F KI) wt EA yB (za_F DI) E (za_F CA) (za_F CB) (za_F CT) lo (za_F T) (za_F LN) re yr fo fl ele els eb yl se pg yo := by
  intro n
  induction n with
  | zero => intro A1 mid A2 pg h; omega
  | succ n ih =>
    intro A1 mid A2 pg hn hl hh H
    by_cases h1 : mid.length ≤ 1
    · have hrev : mid.reverse = mid := by
        match mid, h1 with
        | [], _ => rfl
        | [x], _ => rfl
        | x :: y :: r, h => simp at h
      rw [hrev] at H
      refine br_t ?_ (H pg hh)
      by_cases h0 : A1.length + mid.length = 0
      · rw [h0, show A1.length = 0 by omega]; decide
      · rw [za_p1 (by omega)]
        exact nI_le (by omega) (by omega)
    · obtain ⟨x, M, y, e⟩ := zp_snoc mid (by omega)
      have hml : mid.length = M.length + 2 := by rw [e]; simp
      have e1 : nI (A1.length + mid.length) - 1 = nI (A1.length + M.length + 1) := by rw [za_p1 (by omega)]; exact congrArg nI (by omega)
      have hh1 := hh
      rw [e, za_h_app] at hh1
      have h2 := hh1.2
      rw [Nat.zero_add] at h2
      have ex : pg A1.length = nI x := h2.1
      have h3 : za_h pg (A1.length + 1) (M ++ [y] ++ A2) := h2.2
      rw [show (M ++ [y] ++ A2) = M ++ (y :: A2) by simp, za_h_app] at h3
      have ey : pg (A1.length + M.length + 1) = nI y := by
        have := h3.2.1
        rw [show A1.length + 1 + M.length = A1.length + M.length + 1 by omega] at this; exact this
      have v1 : vp_in (nI A1.length) 16 := vp_in_nI (by omega) (by decide)
      have v2 : vp_in (nI (A1.length + M.length + 1)) 16 := vp_in_nI (by omega) (by decide)
      have c1 : (nI A1.length).toNatClampNeg = A1.length := nI_clamp (by omega)
      have c2 : (nI (A1.length + M.length + 1)).toNatClampNeg = A1.length + M.length + 1 := nI_clamp (by omega)
      rw [e1]
      refine pk_le (A1.length + M.length + 1) A1.length (fun g => by omega) (fun _ => ⟨v1, nm_r (e' := nI x) (by rw [c1]; exact ex) ⟨v2, v1, ?_⟩⟩)
      refine nm_r (e' := upd pg A1.length (nI y)) (by rw [c1, c2, ey]) ⟨v2, nm_r (e' := upd (upd pg A1.length (nI y)) (A1.length + M.length + 1) (nI x)) (by rw [c2]) ?_⟩
      refine nm_r (e' := nI ((A1 ++ [y]).length + M.length) - 1) ?_ (nm_r (e' := nI (A1 ++ [y]).length) (by rw [nI_1]; simp) ?_)
      · rw [za_q1 (by omega), za_p1 (by simp; omega)]
        exact congrArg nI (by rw [List.length_append, List.length_cons, List.length_nil]; omega)
      · refine ih (A1 ++ [y]) M (x :: A2) _ (by omega) (by simp; omega) ?_ (fun pg' k1 => H pg' ?_)
        · rw [List.append_assoc, za_h_app]
          refine ⟨za_h_up (za_h_up hh1.1 (by omega)) (by omega), ?_, ?_⟩
          · rw [Nat.zero_add, pk_un (by omega), pk_us]
          · show za_h _ (0 + A1.length + 1) (M ++ x :: A2)
            rw [Nat.zero_add, za_h_app]
            refine ⟨za_h_up (za_h_up h3.1 (by omega)) (by omega), ?_, ?_⟩
            · rw [show A1.length + 1 + M.length = A1.length + M.length + 1 by omega]; exact pk_us
            · exact za_h_up (za_h_up h3.2.2 (by omega)) (by omega)
        · rw [e]
          simpa using k1
theorem zy_reverse {post : SY → Prop} {a b : Nat} {P M Q : List Nat} (ha : P.length = a) (hb : a + M.length = b) (hl : P.length + M.length + Q.length ≤ 16) (hh : za_h pg 0 (P ++ (M ++ Q)))
    (H : ∀ pg', za_h pg' 0 (P ++ (M.reverse ++ Q)) → post ((nI cn), rs, nn, (za_F O), (za_F W), pA, pB, (za_F LO), (za_F UA), UB, LA, (za_F KI), wt, EA, yB, (za_F DI), E, (za_F CA), (za_F CB), (za_F CT), lo, (za_F T), (za_F LN), re, yr, fo, fl, ele, els, eb, yl, se, pg', yo)) : wpY_reverse post ((nI cn), rs, nn, (za_F O), (za_F W), pA, pB, (za_F LO), (za_F UA), UB, LA, (za_F KI), wt, EA, yB, (za_F DI), E, (za_F CA), (za_F CB), (za_F CT), lo, (za_F T), (za_F LN), re, yr, fo, fl, ele, els, eb, yl, se, pg, yo) (nI a) (nI b) := by
  subst ha
  subst hb
  exact nm_e ⟨M.length + 1, zy_rev7 (M.length + 1) P M Q pg (by omega) hl hh H⟩
theorem zy_turn {post : SY → Prop} {t l : Nat} {lev : Nat → Nat} {PG LV : List Nat} (ht : t < 2) (hN : LN t ≤ 16) (hl : l < 10) (hlv : za_h yl 0 LV) (hll : LV.length = LN t) (h8 : ∀ x ∈ LV, x ≤ 8) (hlev : ∀ p, p < LN t → lev p = LV.getD p 0)
    (hp : za_h pg 0 PG) (hpl : PG.length = LN t) (hpn : ∀ x ∈ PG, x < LN t)
    (H : ∀ pg', za_h pg' 0 (zp_t lev l [] PG) → post ((nI cn), rs, nn, (za_F O), (za_F W), pA, pB, (za_F LO), (za_F UA), UB, LA, (za_F KI), wt, EA, yB, (za_F DI), E, (za_F CA), (za_F CB), (za_F CT), lo, (za_F T), (za_F LN), re, yr, fo, fl, ele, els, eb, yl, se, pg', yo)) : wpY_turn post ((nI cn), rs, nn, (za_F O), (za_F W), pA, pB, (za_F LO), (za_F UA), UB, LA, (za_F KI), wt, EA, yB, (za_F DI), E, (za_F CA), (za_F CB), (za_F CT), lo, (za_F T), (za_F LN), re, yr, fo, fl, ele, els, eb, yl, se, pg, yo) (nI t) (nI l) := by
  have hvt : vp_in (nI t) 2 := vp_in_nI ht (by decide)
  have elen : za_F LN (nI t).toNatClampNeg = nI (LN t) := by rw [nI_clamp (by omega)]; rfl
  have key : ∀ (n : Nat) (Q D : List Nat) (pg : Nat → Int32), Q.length < n → D.length + Q.length = LN t → za_h pg 0 (D ++ Q) → (∀ x ∈ Q, x < LN t) → D ++ zp_t lev l [] Q = zp_t lev l [] PG → wY_turn_2 post (nI t) (nI l) n (nI D.length) (nI cn) rs nn (za_F O) (za_F W) pA pB (za_F LO) (za_F UA) UB LA (za_F KI) wt EA yB (za_F DI) E (za_F CA) (za_F CB) (za_F CT) lo (za_F T) (za_F LN) re yr fo fl ele els eb yl se pg yo := by
    intro n
    induction n with
    | zero => intro Q D pg h; omega
    | succ n ih =>
      intro Q D pg hn hdl hh hq hD
      refine ⟨hvt, pk_le (LN t) D.length (fun g => H pg ?_) (fun g => ⟨Q.length + 1, ?_⟩) elen rfl⟩
      · have : Q = [] := List.length_eq_zero_iff.mp (by omega)
        subst this
        rw [← hD]; exact hh
      · have h48 : ∀ (M Q' : List Nat), Q = M ++ Q' → (∀ q ∈ M, l ≤ lev q) → (Q' = [] ∨ ∃ q r, Q' = q :: r ∧ lev q < l) → wY_turn_48 post (wY_turn_2 post (nI t) (nI l) n) (nI t) (nI l) (nI D.length) (nI (D.length + M.length)) (nI cn) rs nn (za_F O) (za_F W) pA pB (za_F LO) (za_F UA) UB LA (za_F KI) wt EA yB (za_F DI) E (za_F CA) (za_F CB) (za_F CT) lo (za_F T) (za_F LN) re yr fo fl ele els eb yl se pg yo := by
          intro M Q' hM hge hs
          have hml : Q.length = M.length + Q'.length := by rw [hM, List.length_append]
          rw [hM, zp_t_run M [] Q' hge, List.append_nil] at hD
          refine zy_reverse (P := D) (M := M) (Q := Q') rfl rfl (by omega) (by rw [hM] at hh; exact hh) (fun pg' k1 => nm_r (nI_1 _) ?_)
          rcases hs with hs | ⟨q, r, hs, hlt⟩
          · subst hs
            rw [List.length_nil] at hml
            obtain ⟨n', rfl⟩ : ∃ k, n = k + 1 := ⟨n - 1, by omega⟩
            refine ⟨hvt, pk_le (LN t) (D.length + M.length + 1) (fun _ => H pg' ?_) (fun g => by omega) elen rfl⟩
            rw [← hD, zp_t]
            rw [List.append_nil] at k1; exact k1
          · subst hs
            rw [List.length_cons] at hml
            rw [zp_t, if_neg (by omega)] at hD
            have := ih r (D ++ (M.reverse ++ [q])) pg' (by omega) (by simp; omega) (by simpa using k1) (fun x hx => hq x (by rw [hM]; simp [hx])) (by rw [← hD]; simp)
            rw [show (D ++ (M.reverse ++ [q])).length = D.length + M.length + 1 by simp; omega] at this
            exact this
        have h15 : ∀ (Q' M : List Nat) (m : Nat), Q'.length < m → Q = M ++ Q' → (∀ q ∈ M, l ≤ lev q) → wY_turn_15 post (wY_turn_2 post (nI t) (nI l) n) (nI t) (nI l) (nI D.length) (nI cn) rs nn (za_F O) (za_F W) pA pB (za_F LO) (za_F UA) UB LA (za_F KI) wt EA yB (za_F DI) E (za_F CA) (za_F CB) (za_F CT) lo (za_F T) (za_F LN) re yr fo fl ele els eb yl se pg yo m (nI (D.length + M.length)) := by
          intro Q'
          induction Q' with
          | nil =>
            intro M m hm hM hge
            obtain ⟨m, rfl⟩ : ∃ k, m = k + 1 := ⟨m - 1, by omega⟩
            have hml : Q.length = M.length := by rw [hM, List.append_nil]
            exact ⟨hvt, pk_le (LN t) (D.length + M.length) (fun _ => h48 M [] hM hge (Or.inl rfl)) (fun g => by omega) elen rfl⟩
          | cons q r ih2 =>
            intro M m hm hM hge
            rw [List.length_cons] at hm
            obtain ⟨m, rfl⟩ : ∃ k, m = k + 1 := ⟨m - 1, by omega⟩
            have hml : Q.length = M.length + r.length + 1 := by rw [hM, List.length_append, List.length_cons]; omega
            have hqn : q < LN t := hq q (by rw [hM]; simp)
            have hpq : pg (nI (D.length + M.length)).toNatClampNeg = nI q := by
              rw [nI_clamp (by omega)]
              have h1 := hh
              rw [hM, ← List.append_assoc, za_h_app] at h1
              have := h1.2.1
              rw [List.length_append, Nat.zero_add] at this; exact this
            have hyq : yl (pg (nI (D.length + M.length)).toNatClampNeg).toNatClampNeg = nI (lev q) := by
              rw [hpq, nI_clamp (by omega), hlev q hqn]
              have := za_h_get yl LV 0 q hlv (by omega)
              rw [Nat.zero_add] at this; exact this
            have h8q : lev q ≤ 8 := by rw [hlev q hqn]; exact h8 _ (za_gm (by omega))
            refine ⟨hvt, pk_le (LN t) (D.length + M.length) (fun g => by omega) (fun _ => ⟨vp_in_nI (by omega) (by decide), by rw [hpq]; exact vp_in_nI (by omega) (by decide), ?_⟩) elen rfl⟩
            refine pk_lt (lev q) l (fun g2 => h48 M (q :: r) hM hge (Or.inr ⟨q, r, rfl, g2⟩)) (fun g2 => nm_r (nI_1 _) ?_) hyq rfl
            have := ih2 (M ++ [q]) m (by omega) (by rw [hM, List.append_assoc]; rfl) (fun z hz => by
              rcases List.mem_append.mp hz with h | h
              · exact hge z h
              · simp at h; rw [h]; exact g2)
            rw [show D.length + (M ++ [q]).length = D.length + M.length + 1 by simp; omega] at this
            exact this
        exact h15 Q [] (Q.length + 1) (by omega) rfl (fun q hq => by simp at hq)
  exact ⟨LN t + 1, key (LN t + 1) PG [] pg (by omega) (by simp; omega) hp hpn rfl⟩
theorem zy_page {post : Int32 → SY → Prop} {t k : Nat} {lev : Nat → Nat} {LV : List Nat} (ht : t < 2) (hN : LN t ≤ 16) (hk : k < LN t) (hlv : za_h yl 0 LV) (hll : LV.length = LN t) (h8 : ∀ x ∈ LV, x ≤ 8) (hlev : ∀ p, p < LN t → lev p = LV.getD p 0)
    (H : ∀ pg', post (nI ((zp_V lev (List.range (LN t)) 9).getD k 0)) ((nI cn), rs, nn, (za_F O), (za_F W), pA, pB, (za_F LO), (za_F UA), UB, LA, (za_F KI), wt, EA, yB, (za_F DI), E, (za_F CA), (za_F CB), (za_F CT), lo, (za_F T), (za_F LN), re, yr, fo, fl, ele, els, eb, yl, se, pg', yo)) : ∃ n, wY_onPage_39 post (nI t) (nI k) (nI cn) rs nn n 0 (za_F O) (za_F W) pA pB (za_F LO) (za_F UA) UB LA (za_F KI) wt EA yB (za_F DI) E (za_F CA) (za_F CB) (za_F CT) lo (za_F T) (za_F LN) re yr fo fl ele els eb yl se pg yo := by
  have hvt : vp_in (nI t) 2 := vp_in_nI ht (by decide)
  have elen : za_F LN (nI t).toNatClampNeg = nI (LN t) := by rw [nI_clamp (by omega)]; rfl
  have l69 : ∀ (d c : Nat) (pg : Nat → Int32), c + d = 9 → za_h pg 0 (zp_V lev (List.range (LN t)) c) → wY_onPage_69 post (nI t) (nI k) (d + 1) (nI d) (nI cn) rs nn (za_F O) (za_F W) pA pB (za_F LO) (za_F UA) UB LA (za_F KI) wt EA yB (za_F DI) E (za_F CA) (za_F CB) (za_F CT) lo (za_F T) (za_F LN) re yr fo fl ele els eb yl se pg yo := by
    intro d
    induction d with
    | zero =>
      intro c pg hc hp
      have : c = 9 := by omega
      subst this
      refine br_t (by decide) ⟨vp_in_nI (by omega) (by decide), ?_⟩
      have hlen : (zp_V lev (List.range (LN t)) 9).length = LN t := by rw [(zp_V_perm 9).length_eq, List.length_range]
      have := za_h_get pg _ 0 k hp (by omega)
      rw [Nat.zero_add] at this
      rw [nI_clamp (by omega), this]
      exact H pg
    | succ d ih =>
      intro c pg hc hp
      have hlen : (zp_V lev (List.range (LN t)) c).length = LN t := by rw [(zp_V_perm c).length_eq, List.length_range]
      refine br_f (nI_nle (by omega) (by omega)) ?_
      refine zy_turn (lev := lev) ht hN (by omega) hlv hll h8 hlev hp hlen (fun x hx => List.mem_range.mp ((zp_V_perm c).mem_iff.mp hx)) (fun pg' k1 => nm_r (pk_m1 d) ?_)
      refine ih (c + 1) pg' (by omega) ?_
      rw [zp_V, show 9 - c = d + 1 by omega]; exact k1
  have l39 : ∀ (d i : Nat) (pg : Nat → Int32), i + d = LN t → za_h pg 0 (List.range i) → wY_onPage_39 post (nI t) (nI k) (nI cn) rs nn (d + 1) (nI i) (za_F O) (za_F W) pA pB (za_F LO) (za_F UA) UB LA (za_F KI) wt EA yB (za_F DI) E (za_F CA) (za_F CB) (za_F CT) lo (za_F T) (za_F LN) re yr fo fl ele els eb yl se pg yo := by
    intro d
    induction d with
    | zero =>
      intro i pg hi hp
      have : i = LN t := by omega
      subst this
      exact ⟨hvt, pk_le (LN t) (LN t) (fun _ => ⟨10, l69 9 0 pg rfl hp⟩) (fun g => by omega) elen rfl⟩
    | succ d ih =>
      intro i pg hi hp
      refine ⟨hvt, pk_le (LN t) i (fun g => by omega) (fun _ => ⟨vp_in_nI (by omega) (by decide), ?_⟩) elen rfl⟩
      refine nm_r (e' := upd pg (0 + (List.range i).length) (nI i)) (by rw [nI_clamp (by omega), List.length_range, Nat.zero_add]) (nm_r (nI_1 i) (ih (i + 1) _ (by omega) ?_))
      rw [List.range_succ]
      exact za_h_snoc hp
  exact ⟨LN t + 1, l39 (LN t) 0 pg (by omega) trivial⟩
end
section
variable {cn : Nat} {rg : Int32} {O W LO UA KI F1 F2 F3 DI CA CB CT T LN : Nat → Nat} {E UB LA EA dA dB eB fu fz pr wh ro sz em hg lv bh rl rr rv ou nx sl : Nat → Int32}
theorem zx_walk {post : Int32 → SX → Prop} {k N : Nat} {C : List Nat} (hN : N ≤ 16) (hk : k < N) (hC : C.length = N) (hC2 : ∀ x ∈ C, x < N) (hc : zp_c bh C)
    (H : post (nI (C.getD k 0)) ((nI cn), rg, (za_F O), (za_F W), dA, dB, E, (za_F LO), (za_F UA), UB, LA, (za_F KI), (za_F F1), (za_F F2), (za_F F3), (za_F DI), EA, eB, (za_F CA), (za_F CB), (za_F CT), fu, fz, pr, wh, (za_F T), (za_F LN), ro, sz, em, hg, lv, bh, rl, rr, rv, ou, nx, sl)) : ∃ n, wX_onPage_59 post (nI k) (nI cn) rg (za_F O) (za_F W) dA dB E (za_F LO) (za_F UA) UB LA (za_F KI) (za_F F1) (za_F F2) (za_F F3) (za_F DI) EA eB (za_F CA) (za_F CB) (za_F CT) fu fz pr wh (za_F T) (za_F LN) ro sz em hg lv bh rl rr rv ou nx sl n (nI (zp_b C)) 0 := by
  have key : ∀ d j, j + d = k → wX_onPage_59 post (nI k) (nI cn) rg (za_F O) (za_F W) dA dB E (za_F LO) (za_F UA) UB LA (za_F KI) (za_F F1) (za_F F2) (za_F F3) (za_F DI) EA eB (za_F CA) (za_F CB) (za_F CT) fu fz pr wh (za_F T) (za_F LN) ro sz em hg lv bh rl rr rv ou nx sl (d + 1) (nI (C.getD j 0)) (nI j) := by
    intro d
    induction d with
    | zero =>
      intro j hj
      have : j = k := by omega
      subst this
      exact pk_le j j (fun _ => H) (fun g => by omega)
    | succ d ih =>
      intro j hj
      have hx := hC2 _ (za_gm (L := C) (i := j) (by omega))
      refine pk_le k j (fun g => by omega) (fun _ => ⟨vp_in_nI (by omega) (by decide), ?_⟩)
      refine nm_r (e' := nI (C.getD (j + 1) 0)) (by rw [nI_clamp (by omega)]; exact zp_c_get C j hc (by omega)) (nm_r (nI_1 j) (ih (j + 1) (by omega)))
  have := key k 0 (by omega)
  have e : C.getD 0 0 = zp_b C := by
    cases C with
    | nil => rfl
    | cons x r => rfl
  rw [e] at this
  exact ⟨_, this⟩
end
section
variable {cn : Nat} {rg rs nn : Int32} {O W LO UA KI F1 F2 F3 DI CA CB CT T LN : Nat → Nat} {E UB LA EA dA dB eB fu fz pr wh ro sz em hg lv bh rl rr rv ou nx sl pA pB wt yB lo re yr fo fl ele els eb yl se pg yo : Nat → Int32}
variable {A B : Nat → Nat} {R : List Nat} {k : Nat}
theorem zv_onPage (hS : zr_St cn O W LO UA KI F1 F2 F3 DI CA CB CT T LN E UB LA EA dA dB eB fu fz pr wh pA pB wt yB A B) (hR : zr_R R ro sz re rs) (v1 v2 v3 : Int32) : wpX_onPage (fun r u' => wpY_onPage (fun r' v' => r' = r ∧ i_Rel (k + 5) u' v') ((nI cn), rs, nn, (za_F O), (za_F W), pA, pB, (za_F LO), (za_F UA), UB, LA, (za_F KI), wt, EA, yB, (za_F DI), E, (za_F CA), (za_F CB), (za_F CT), lo, (za_F T), (za_F LN), re, yr, fo, fl, ele, els, eb, yl, se, pg, yo) v1 v2 v3) ((nI cn), rg, (za_F O), (za_F W), dA, dB, E, (za_F LO), (za_F UA), UB, LA, (za_F KI), (za_F F1), (za_F F2), (za_F F3), (za_F DI), EA, eB, (za_F CA), (za_F CB), (za_F CT), fu, fz, pr, wh, (za_F T), (za_F LN), ro, sz, em, hg, lv, bh, rl, rr, rv, ou, nx, sl) v1 v2 v3 := by
  have hI : (-1 : Int32) = -1 ∧ i_Rel (k + 5) ((nI cn), rg, (za_F O), (za_F W), dA, dB, E, (za_F LO), (za_F UA), UB, LA, (za_F KI), (za_F F1), (za_F F2), (za_F F3), (za_F DI), EA, eB, (za_F CA), (za_F CB), (za_F CT), fu, fz, pr, wh, (za_F T), (za_F LN), ro, sz, em, hg, lv, bh, rl, rr, rv, ou, nx, sl) ((nI cn), rs, nn, (za_F O), (za_F W), pA, pB, (za_F LO), (za_F UA), UB, LA, (za_F KI), wt, EA, yB, (za_F DI), E, (za_F CA), (za_F CB), (za_F CT), lo, (za_F T), (za_F LN), re, yr, fo, fl, ele, els, eb, yl, se, pg, yo) := ⟨rfl, zr_in hS hR⟩
  unfold wpX_onPage wpY_onPage
  dsimp only
  rcases zr_text v1 with ⟨t, ht, rfl⟩ | hn
  · refine zx_isText_t ht (br_f (by decide) ?_)
    have hvt : vp_in (nI t) 2 := vp_in_nI ht (by decide)
    have elen : za_F LN (nI t).toNatClampNeg = nI (LN t) := by rw [nI_clamp (by omega)]; rfl
    have hl := zr_LN hS t ht
    rcases zr_rng v2 (n := 2) (by decide) with ⟨w, hw, rfl⟩ | hneg | ⟨hnn, w, hw, hw2, rfl⟩
    · refine br_f (nI_pos (by omega)) (pk_lt 1 w (fun h => by omega) (fun _ => ?_))
      by_cases h0 : v3 < 0
      · exact br_t h0 (zy_isText_t ht (br_f (by decide) (zy_isText_t hw (br_f (by decide) (br_t h0 hI)))))
      · obtain ⟨p, hp, rfl⟩ := nI_of h0
        refine br_f h0 ⟨hvt, pk_lt p (LN t) (fun g => ?_) (fun g => ?_) rfl elen⟩
        · have hln := zl_A_len (DI := DI) (T := T) (t := t) (n := LN t) (base := w)
          have hle8 := zl_A_lt (DI := DI) (T := T) (t := t) (n := LN t) (base := w) hw
          generalize hLV : zl_A DI T t (LN t) w = LV at hln hle8
          obtain ⟨lev, hlev⟩ : ∃ lev : Nat → Nat, ∀ q, q < LN t → lev q = LV.getD q 0 := ⟨fun q => LV.getD q 0, fun _ _ => rfl⟩
          refine zx_levelsOf ht hw hl (zr_Tx hS) (zr_DI hS) (fun em' hg' lv' ou' q1 => ⟨hvt, ?_⟩)
          rw [hLV] at q1
          dsimp only
          rw [elen]
          refine zx_link (lev := lev) hl (by omega) q1 hln hle8 hlev (fun rg' bh' rl' rr' rv' c1 c2 => ?_)
          dsimp only
          have hVl : (zp_V lev (List.range (LN t)) 9).length = LN t := by rw [(zp_V_perm 9).length_eq, List.length_range]
          refine nm_r c2 (zx_walk hl g hVl (fun x hx => List.mem_range.mp ((zp_V_perm 9).mem_iff.mp hx)) c1 ?_)
          refine zy_isText_t ht (br_f (by decide) (zy_isText_t hw (br_f (by decide) (br_f h0 ⟨hvt, pk_lt p (LN t) (fun _ => ?_) (fun q => by omega) rfl rfl⟩))))
          refine zy_findLevels ht hw hl (zr_Tx hS) (zr_DI hS) (fun eb' se' yl' yo' q2 => ?_)
          rw [hLV] at q2
          dsimp only
          exact zy_page (lev := lev) ht hl g q2 hln hle8 hlev (fun pg' => ⟨rfl, zr_in hS hR⟩)
        · exact zy_isText_t ht (br_f (by decide) (zy_isText_t hw (br_f (by decide) (br_f h0 ⟨hvt, pk_lt p (LN t) (fun q => by omega) (fun _ => hI) rfl elen⟩))))
    · refine br_t hneg (zy_isText_t ht (br_f (by decide) (zy_isText_f ⟨fun e => ?_, fun e => ?_⟩ (br_t rfl hI))))
      · rw [e] at hneg; exact absurd hneg (by decide)
      · rw [e] at hneg; exact absurd hneg (by decide)
    · refine br_f hnn (pk_lt 1 w (fun _ => ?_) (fun h => by omega))
      refine zy_isText_t ht (br_f (by decide) (zy_isText_f ⟨fun e => ?_, fun e => ?_⟩ (br_t rfl hI)))
      · have := (nI_eq (a := w) (b := 0) hw2 (by omega)).mp e; omega
      · have := (nI_eq (a := w) (b := 1) hw2 (by omega)).mp e; omega
  · exact zx_isText_f hn (br_t rfl (zy_isText_f hn (br_t rfl hI)))
end
end
section
theorem i_vc0 : wpX_init (fun u => wpY_init (fun v => i_Rel 0 u v)) := zv_init
theorem i_vc_describe {k : Nat} {u : SX} {v : SY} (I : i_Rel k u v) (hk : k + 5 ≤ 2560) (v1 : Int32) (v2 : Int32) (v3 : Int32) (v4 : Int32) : wpX_describe (fun r u' => wpY_describe (fun r' v' => r' = r ∧ i_Rel (k + 5) u' v') v v1 v2 v3 v4) u v1 v2 v3 v4 :=
  zr_el (P := fun u v => wpX_describe (fun r u' => wpY_describe (fun r' v' => r' = r ∧ i_Rel (k + 5) u' v') v v1 v2 v3 v4) u v1 v2 v3 v4) (fun h g => zv_describe h g v1 v2 v3 v4) I
theorem i_vc_insert {k : Nat} {u : SX} {v : SY} (I : i_Rel k u v) (hk : k + 5 ≤ 2560) (v1 : Int32) (v2 : Int32) (v3 : Int32) : wpX_insert (fun r u' => wpY_insert (fun r' v' => r' = r ∧ i_Rel (k + 5) u' v') v v1 v2 v3) u v1 v2 v3 :=
  zr_el (P := fun u v => wpX_insert (fun r u' => wpY_insert (fun r' v' => r' = r ∧ i_Rel (k + 5) u' v') v v1 v2 v3) u v1 v2 v3) (fun h g => zv_insert h g v1 v2 v3) I
theorem i_vc_erase {k : Nat} {u : SX} {v : SY} (I : i_Rel k u v) (hk : k + 5 ≤ 2560) (v1 : Int32) (v2 : Int32) : wpX_erase (fun r u' => wpY_erase (fun r' v' => r' = r ∧ i_Rel (k + 5) u' v') v v1 v2) u v1 v2 :=
  zr_el (P := fun u v => wpX_erase (fun r u' => wpY_erase (fun r' v' => r' = r ∧ i_Rel (k + 5) u' v') v v1 v2) u v1 v2) (fun h g => zv_erase h g v1 v2) I
theorem i_vc_normal {k : Nat} {u : SX} {v : SY} (I : i_Rel k u v) (hk : k + 5 ≤ 2560) (v1 : Int32) (v2 : Int32) : wpX_normal (fun r u' => wpY_normal (fun r' v' => r' = r ∧ i_Rel (k + 5) u' v') v v1 v2) u v1 v2 :=
  zr_el (P := fun u v => wpX_normal (fun r u' => wpY_normal (fun r' v' => r' = r ∧ i_Rel (k + 5) u' v') v v1 v2) u v1 v2) (fun h g => zv_normal h g v1 v2) I
theorem i_vc_isNormal {k : Nat} {u : SX} {v : SY} (I : i_Rel k u v) (hk : k + 5 ≤ 2560) (v1 : Int32) (v2 : Int32) : wpX_isNormal (fun r u' => wpY_isNormal (fun r' v' => r' = r ∧ i_Rel (k + 5) u' v') v v1 v2) u v1 v2 :=
  zr_el (P := fun u v => wpX_isNormal (fun r u' => wpY_isNormal (fun r' v' => r' = r ∧ i_Rel (k + 5) u' v') v v1 v2) u v1 v2) (fun h g => zv_isNormal h g v1 v2) I
theorem i_vc_cased {k : Nat} {u : SX} {v : SY} (I : i_Rel k u v) (hk : k + 5 ≤ 2560) (v1 : Int32) (v2 : Int32) : wpX_cased (fun r u' => wpY_cased (fun r' v' => r' = r ∧ i_Rel (k + 5) u' v') v v1 v2) u v1 v2 :=
  zr_el (P := fun u v => wpX_cased (fun r u' => wpY_cased (fun r' v' => r' = r ∧ i_Rel (k + 5) u' v') v v1 v2) u v1 v2) (fun h g => zv_cased h g v1 v2) I
theorem i_vc_result {k : Nat} {u : SX} {v : SY} (I : i_Rel k u v) (hk : k + 5 ≤ 2560) (v1 : Int32) : wpX_result (fun r => wpY_result (fun r' => r' = r ∧ i_Rel (k + 5) u v) v v1) u v1 :=
  zr_el (P := fun u v => wpX_result (fun r => wpY_result (fun r' => r' = r ∧ i_Rel (k + 5) u v) v v1) u v1) (fun h g => zv_result h g v1) I
theorem i_vc_take {k : Nat} {u : SX} {v : SY} (I : i_Rel k u v) (hk : k + 5 ≤ 2560) (v1 : Int32) : wpX_take (fun r u' => wpY_take (fun r' v' => r' = r ∧ i_Rel (k + 5) u' v') v v1) u v1 :=
  zr_el (P := fun u v => wpX_take (fun r u' => wpY_take (fun r' v' => r' = r ∧ i_Rel (k + 5) u' v') v v1) u v1) (fun h g => zv_take h g v1) I
theorem i_vc_breaks {k : Nat} {u : SX} {v : SY} (I : i_Rel k u v) (hk : k + 5 ≤ 2560) (v1 : Int32) (v2 : Int32) : wpX_breaks (fun r u' => wpY_breaks (fun r' => r' = r ∧ i_Rel (k + 5) u' v) v v1 v2) u v1 v2 :=
  zr_el (P := fun u v => wpX_breaks (fun r u' => wpY_breaks (fun r' => r' = r ∧ i_Rel (k + 5) u' v) v v1 v2) u v1 v2) (fun h g => zv_breaks h g v1 v2) I
theorem i_vc_level {k : Nat} {u : SX} {v : SY} (I : i_Rel k u v) (hk : k + 5 ≤ 2560) (v1 : Int32) (v2 : Int32) (v3 : Int32) : wpX_level (fun r u' => wpY_level (fun r' v' => r' = r ∧ i_Rel (k + 5) u' v') v v1 v2 v3) u v1 v2 v3 :=
  zr_el (P := fun u v => wpX_level (fun r u' => wpY_level (fun r' v' => r' = r ∧ i_Rel (k + 5) u' v') v v1 v2 v3) u v1 v2 v3) (fun h g => zv_level h g v1 v2 v3) I
theorem i_vc_onPage {k : Nat} {u : SX} {v : SY} (I : i_Rel k u v) (hk : k + 5 ≤ 2560) (v1 : Int32) (v2 : Int32) (v3 : Int32) : wpX_onPage (fun r u' => wpY_onPage (fun r' v' => r' = r ∧ i_Rel (k + 5) u' v') v v1 v2 v3) u v1 v2 v3 :=
  zr_el (P := fun u v => wpX_onPage (fun r u' => wpY_onPage (fun r' v' => r' = r ∧ i_Rel (k + 5) u' v') v v1 v2 v3) u v1 v2 v3) (fun h g => zv_onPage h g v1 v2 v3) I
theorem i_vc_key {k : Nat} {u : SX} {v : SY} (I : i_Rel k u v) (hk : k + 5 ≤ 2560) (v1 : Int32) (v2 : Int32) (v3 : Int32) : wpX_key (fun r u' => wpY_key (fun r' v' => r' = r ∧ i_Rel (k + 5) u' v') v v1 v2 v3) u v1 v2 v3 :=
  zr_el (P := fun u v => wpX_key (fun r u' => wpY_key (fun r' v' => r' = r ∧ i_Rel (k + 5) u' v') v v1 v2 v3) u v1 v2 v3) (fun h g => zv_key h g v1 v2 v3) I
theorem i_vc_compare {k : Nat} {u : SX} {v : SY} (I : i_Rel k u v) (hk : k + 5 ≤ 2560) (v1 : Int32) : wpX_compare (fun r u' => wpY_compare (fun r' v' => r' = r ∧ i_Rel (k + 5) u' v') v v1) u v1 :=
  zr_el (P := fun u v => wpX_compare (fun r u' => wpY_compare (fun r' v' => r' = r ∧ i_Rel (k + 5) u' v') v v1) u v1) (fun h g => zv_compare h g v1) I
theorem i_vc_search {k : Nat} {u : SX} {v : SY} (I : i_Rel k u v) (hk : k + 5 ≤ 2560) (v1 : Int32) : wpX_search (fun r u' => wpY_search (fun r' v' => r' = r ∧ i_Rel (k + 5) u' v') v v1) u v1 :=
  zr_el (P := fun u v => wpX_search (fun r u' => wpY_search (fun r' v' => r' = r ∧ i_Rel (k + 5) u' v') v v1) u v1) (fun h g => zv_search h g v1) I
end
