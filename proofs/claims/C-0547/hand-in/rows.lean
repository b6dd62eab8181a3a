section
/-! pure rows to paste: stores, nI and lN arithmetic, masks, shifts, narrowing, branches by naturals (pk_le, pk_lt, pk_eq), loops (lp1 .. lp16: the measure of the state; rp1 ..: recursion), negatives. Take what you need -/
theorem pk_us {f : Nat → Int32} {k : Nat} {x : Int32} : upd f k x k = x := if_pos rfl
theorem pk_un {f : Nat → Int32} {k j : Nat} {x : Int32} (h : j ≠ k) : upd f k x j = f j := if_neg h
theorem pk_uLs {f : Nat → Int64} {k : Nat} {x : Int64} : vp_updL f k x k = x := if_pos rfl
theorem pk_uLn {f : Nat → Int64} {k j : Nat} {x : Int64} (h : j ≠ k) : vp_updL f k x j = f j := if_neg h
theorem pk_sub {a b : Nat} (h : b ≤ a) : nI a - nI b = nI (a - b) := by
  obtain ⟨c, rfl⟩ : ∃ c, a = c + b := ⟨a - b, by omega⟩
  rw [← nI_add, Int32.add_sub_cancel, Nat.add_sub_cancel]
theorem pk_m1 (n : Nat) : nI (n + 1) + (-1) = nI n := by
  rw [← nI_1, Int32.add_assoc, show (1 : Int32) + (-1) = 0 from rfl, Int32.add_zero]
theorem pk_mul (a b : Nat) : nI a * nI b = nI (a * b) := (Int32.ofNat_mul a b).symm
theorem pk_div {a d : Nat} (ha : a < 2 ^ 31) (h0 : 0 < d) (hd : d < 2 ^ 31) : nI a / nI d = nI (a / d) := by
  apply Int32.toInt_inj.mp
  rw [lg_idiv_nonneg (by rw [nI_toInt ha]; omega) (by rw [nI_toInt hd]; omega), nI_toInt ha, nI_toInt hd, nI_toInt (Nat.lt_of_le_of_lt (Nat.div_le_self a d) ha)]
  first | rfl | exact (Int.natCast_ediv _ _).symm
theorem pk_rem {a d : Nat} (ha : a < 2 ^ 31) (h0 : 0 < d) (hd : d < 2 ^ 31) : nI a - nI a / nI d * nI d = nI (a % d) := by
  rw [pk_div ha h0 hd, pk_mul, pk_sub (Nat.div_mul_le_self a d)]
  exact congrArg nI (by have := Nat.div_add_mod' a d; omega)
theorem pk_sub_toInt {a b : Nat} (ha : a < 2 ^ 30) (hb : b < 2 ^ 30) : (nI a - nI b).toInt = (a : Int) - b := by
  rw [Int32.toInt_sub, nI_toInt (by omega), nI_toInt (by omega)]
  exact Int.bmod_eq_of_le (by omega) (by omega)
theorem pk_sneg {a b : Nat} (hb : b < 2 ^ 30) (h : a < b) : nI a - nI b < 0 := by
  rw [Int32.lt_iff_toInt_lt, pk_sub_toInt (by omega) hb, show (0 : Int32).toInt = 0 from by decide]
  omega
theorem pk_ix (x : Int32) {n : Nat} (hn : n < 2 ^ 31) : x < 0 ∨ nI n ≤ x ∨ ∃ j : Nat, j < n ∧ x = nI j := by
  by_cases h : x < 0
  · exact Or.inl h
  · obtain ⟨j, hj, rfl⟩ := nI_of h
    by_cases h2 : j < n
    · exact Or.inr (Or.inr ⟨j, h2, rfl⟩)
    · exact Or.inr (Or.inl (nI_le (by omega) hj))
theorem pk_le {x y : Int32} {A B : Prop} (a b : Nat) (f : a ≤ b → A) (g : b < a → B) (hx : x = nI a := by rfl) (hy : y = nI b := by rfl) (ha : a < 2 ^ 31 := by omega) (hb : b < 2 ^ 31 := by omega) : (x ≤ y → A) ∧ (¬ x ≤ y → B) := by
  subst hx hy
  rw [nI_leI ha hb]
  exact ⟨f, fun z => g (by omega)⟩
theorem pk_lt {x y : Int32} {A B : Prop} (a b : Nat) (f : a < b → A) (g : b ≤ a → B) (hx : x = nI a := by rfl) (hy : y = nI b := by rfl) (ha : a < 2 ^ 31 := by omega) (hb : b < 2 ^ 31 := by omega) : (x < y → A) ∧ (¬ x < y → B) := by
  subst hx hy
  rw [nI_ltI ha hb]
  exact ⟨f, fun z => g (by omega)⟩
theorem pk_eq {x y : Int32} {A B : Prop} (a b : Nat) (f : a = b → A) (g : a ≠ b → B) (hx : x = nI a := by rfl) (hy : y = nI b := by rfl) (ha : a < 2 ^ 31 := by omega) (hb : b < 2 ^ 31 := by omega) : (x = y → A) ∧ (¬ x = y → B) := by
  subst hx hy
  rw [nI_eq ha hb]
  exact ⟨f, g⟩
theorem pk_in {x : Int32} (n N : Nat) (h : n < N) (hx : x = nI n := by rfl) (hN : N < 2 ^ 31 := by omega) : vp_in x N := by
  subst hx
  exact vp_in_nI h hN
theorem pk_cl {x : Int32} (n : Nat) (hx : x = nI n := by rfl) (h : n < 2 ^ 31 := by omega) : x.toNatClampNeg = n := by
  subst hx
  exact nI_clamp h
theorem pk_tn {n : Nat} (h : n < 2 ^ 32) : (nI n).toBitVec.toNat = n := Nat.mod_eq_of_lt h
theorem pk_and (x : Int32) {m : Int32} (k : Nat) (hm : m.toBitVec.toNat = 2 ^ k - 1) : x &&& m = nI (x.toBitVec.toNat % 2 ^ k) := by
  apply Int32.toBitVec_inj.mp
  apply BitVec.eq_of_toNat_eq
  rw [Int32.toBitVec_and, BitVec.toNat_and, hm, Nat.and_two_pow_sub_one_eq_mod]
  show _ = (BitVec.ofNat 32 _).toNat
  rw [BitVec.toNat_ofNat]
  exact (Nat.mod_eq_of_lt (Nat.lt_of_le_of_lt (Nat.mod_le _ _) x.toBitVec.isLt)).symm
theorem pk_andN {n : Nat} (h : n < 2 ^ 32) {m : Int32} (k : Nat) (hm : m.toBitVec.toNat = 2 ^ k - 1) : nI n &&& m = nI (n % 2 ^ k) := by
  rw [pk_and _ k hm, pk_tn h]
theorem pk_andE (x : Int32) {m : Int32} (k : Nat) (hm : m.toBitVec.toNat = 2 ^ k - 1) : ∃ j : Nat, j < 2 ^ k ∧ x &&& m = nI j := ⟨_, Nat.mod_lt _ (Nat.two_pow_pos k), pk_and x k hm⟩
theorem pk_andIn (x : Int32) {m : Int32} (k : Nat) (hm : m.toBitVec.toNat = 2 ^ k - 1) (hk : k ≤ 30) : vp_in (x &&& m) (2 ^ k) := by
  obtain ⟨j, hj, e⟩ := pk_andE x k hm
  rw [e]
  exact vp_in_nI hj (Nat.lt_of_le_of_lt (Nat.pow_le_pow_right (by decide) hk) (by decide))
theorem pk_shl (a s : Int32) (k : Nat) (hs : (s.toBitVec.smod 32).toNat = k) : (a <<< s).toBitVec.toNat = a.toBitVec.toNat * 2 ^ k % 2 ^ 32 := by
  show (a.toBitVec <<< (s.toBitVec.smod 32).toNat).toNat = _
  rw [hs, BitVec.toNat_shiftLeft, Nat.shiftLeft_eq]
theorem pk_shlN {n : Nat} (s : Int32) (k : Nat) (hs : (s.toBitVec.smod 32).toNat = k) (h : n * 2 ^ k < 2 ^ 32) : nI n <<< s = nI (n * 2 ^ k) := by
  apply Int32.toBitVec_inj.mp
  apply BitVec.eq_of_toNat_eq
  have hn : n < 2 ^ 32 := Nat.lt_of_le_of_lt (Nat.le_mul_of_pos_right n (Nat.two_pow_pos k)) h
  rw [pk_shl _ _ k hs, pk_tn hn, pk_tn h, Nat.mod_eq_of_lt h]
theorem pk_shr (a s : Int32) (k : Nat) (hs : (s.toBitVec.smod 32).toNat = k) : (a >>> s).toInt = a.toInt >>> k := by
  show (a.toBitVec.sshiftRight (s.toBitVec.smod 32).toNat).toInt = _
  rw [hs, BitVec.toInt_sshiftRight]
  rfl
theorem pk_shrN {n : Nat} (h : n < 2 ^ 31) (s : Int32) (k : Nat) (hs : (s.toBitVec.smod 32).toNat = k) : nI n >>> s = nI (n / 2 ^ k) := by
  apply Int32.toInt_inj.mp
  have h2 : n / 2 ^ k ≤ n := Nat.div_le_self _ _
  rw [pk_shr _ _ k hs, nI_toInt h, nI_toInt (by omega), Int.shiftRight_eq_div_pow]
  rfl
theorem pk_ushr (x s : Int32) (k : Nat) (hs : ((s.toUInt32 &&& Int32.toUInt32 31).toBitVec % 32).toNat = k) : (x.toUInt32 >>> (s.toUInt32 &&& Int32.toUInt32 31)).toInt32.toBitVec.toNat = x.toBitVec.toNat / 2 ^ k := by
  have e : (x.toUInt32 >>> (s.toUInt32 &&& Int32.toUInt32 31)).toInt32.toBitVec = x.toBitVec >>> k := by
    rw [← hs]
    exact UInt32.toBitVec_shiftRight _ _
  rw [e, BitVec.toNat_ushiftRight, Nat.shiftRight_eq_div_pow]
theorem pk_ushrN {n : Nat} (hn : n < 2 ^ 32) (s : Int32) (k : Nat) (hs : ((s.toUInt32 &&& Int32.toUInt32 31).toBitVec % 32).toNat = k) : ((nI n).toUInt32 >>> (s.toUInt32 &&& Int32.toUInt32 31)).toInt32 = nI (n / 2 ^ k) := by
  apply Int32.toBitVec_inj.mp
  apply BitVec.eq_of_toNat_eq
  rw [pk_ushr _ s k hs, pk_tn hn, pk_tn (Nat.lt_of_le_of_lt (Nat.div_le_self _ _) hn)]
theorem pk_nb (z : Int32) : narrow .byte (.int z.toInt8.toInt32) = .int z.toInt8.toInt32 := congrArg Value.int (by simp)
theorem pk_ns (z : Int32) : narrow .short (.int z.toInt16.toInt32) = .int z.toInt16.toInt32 := congrArg Value.int (by simp)
theorem pk_fb (r : Int32) : fits .byte (.int r.toInt8.toInt32) = true := by
  have ⟨a, b⟩ := lg_i2b_range r
  have h1 : (-128 : Int32).toInt = -128 := by decide
  have h2 : (127 : Int32).toInt = 127 := by decide
  simp only [fits, Bool.and_eq_true, decide_eq_true_eq, Int32.le_iff_toInt_le, h1, h2]
  omega
theorem pk_fs (r : Int32) : fits .short (.int r.toInt16.toInt32) = true := by
  have ⟨a, b⟩ := lg_i2s_range r
  have h1 : (-32768 : Int32).toInt = -32768 := by decide
  have h2 : (32767 : Int32).toInt = 32767 := by decide
  simp only [fits, Bool.and_eq_true, decide_eq_true_eq, Int32.le_iff_toInt_le, h1, h2]
  omega
theorem pk_charN {q : Nat} (hq : q < 65536) : narrow .char (.int (nI q)) = .int (nI q) ∧ fits .char (.int (nI q)) = true := by
  constructor
  · have e : (nI q).toUInt32.toUInt16.toUInt32.toInt32 = nI q := by
      apply Int32.toBitVec_inj.mp
      apply BitVec.eq_of_toNat_eq
      show (nI q).toUInt32.toUInt16.toUInt32.toNat = q % 2 ^ 32
      rw [UInt16.toNat_toUInt32, UInt32.toNat_toUInt16, show (nI q).toUInt32.toNat = q % 2 ^ 32 from rfl]
      omega
    exact congrArg Value.int e
  · have a : (0 : Int32) ≤ nI q := nI_pos' (by omega)
    have b : nI q ≤ 65535 := nI_le (b := 65535) (by omega) (by decide)
    show (decide ((0 : Int32) ≤ nI q) && decide (nI q ≤ 65535)) = true
    rw [decide_eq_true a, decide_eq_true b]
    rfl
theorem pk_char (x : Int32) : (x.toUInt32 % 65536).toInt32 = nI (x.toBitVec.toNat % 65536) := by
  apply Int32.toBitVec_inj.mp
  apply BitVec.eq_of_toNat_eq
  rw [pk_tn (by omega)]
  show (x.toUInt32 % 65536).toNat = _
  rw [UInt32.toNat_mod]
  rfl
theorem pk_nc (x : Int32) : narrow .char (.int (x.toUInt32 % 65536).toInt32) = .int (x.toUInt32 % 65536).toInt32 := by
  rw [pk_char]
  exact (pk_charN (Nat.mod_lt _ (by decide))).1
theorem pk_fc (x : Int32) : fits .char (.int (x.toUInt32 % 65536).toInt32) = true := by
  rw [pk_char]
  exact (pk_charN (Nat.mod_lt _ (by decide))).2
theorem pk_vb (z : Int32) : vp_nar .byte z.toInt8.toInt32 = z.toInt8.toInt32 := by rw [vp_nar_byte]; simp
theorem pk_vs (z : Int32) : vp_nar .short z.toInt16.toInt32 = z.toInt16.toInt32 := by rw [vp_nar_short]; simp
theorem pk_vc (z : Int32) : vp_nar .char (z.toUInt32 % 65536).toInt32 = (z.toUInt32 % 65536).toInt32 := Value.int.inj (pk_nc z)
theorem pk_lT {n : Nat} (h : n < 2 ^ 63) : (lN n).toInt = (n : Int) := lg_ofNat_toInt h
theorem pk_lLT {a b : Nat} (ha : a < 2 ^ 63) (hb : b < 2 ^ 63) : lN a < lN b ↔ a < b := by
  rw [Int64.lt_iff_toInt_lt, pk_lT ha, pk_lT hb]; omega
theorem pk_lLE {a b : Nat} (ha : a < 2 ^ 63) (hb : b < 2 ^ 63) : lN a ≤ lN b ↔ a ≤ b := by
  rw [Int64.le_iff_toInt_le, pk_lT ha, pk_lT hb]; omega
theorem pk_lEQ {a b : Nat} (ha : a < 2 ^ 63) (hb : b < 2 ^ 63) : lN a = lN b ↔ a = b := by
  rw [← Int64.toInt_inj, pk_lT ha, pk_lT hb]; omega
theorem pk_lOf {x : Int64} (h : ¬ x < 0) : ∃ k : Nat, k < 2 ^ 63 ∧ x = lN k := by
  rw [Int64.lt_iff_toInt_lt] at h
  have h0 : (0 : Int64).toInt = 0 := by decide
  have hx := Int64.toInt_lt x
  refine ⟨x.toInt.toNat, by omega, Int64.toInt_inj.mp ?_⟩
  rw [pk_lT (by omega)]
  omega
theorem pk_lDiv {a b : Nat} (ha : a < 2 ^ 63) (h0 : 0 < b) (hb : b < 2 ^ 63) : lN a / lN b = lN (a / b) := by
  apply Int64.toInt_inj.mp
  rw [lg_ldiv_nonneg (by rw [pk_lT ha]; omega) (by rw [pk_lT hb]; omega), pk_lT ha, pk_lT hb, pk_lT (Nat.lt_of_le_of_lt (Nat.div_le_self a b) ha)]
  rfl
theorem pk_lRem {a b : Nat} (ha : a < 2 ^ 63) (h0 : 0 < b) (hb : b < 2 ^ 63) : lN a - lN a / lN b * lN b = lN (a % b) := by
  rw [pk_lDiv ha h0 hb, lN_mul, lN_sub (Nat.div_mul_le_self a b)]
  exact congrArg lN (by have := Nat.div_add_mod' a b; omega)
theorem pk_loop {σ : Type} (W : Nat → Nat → σ → Prop) (I : Nat → σ → Prop) (e i0 : Nat) (s : σ) (hi : i0 ≤ e) (h0 : I i0 s) (hx : ∀ n s, I e s → W (n + 1) e s)
    (hs : ∀ n i s, i < e → I i s → (∀ s', I (i + 1) s' → W n (i + 1) s') → W (n + 1) i s) : ∃ n, W n i0 s :=
  ⟨e + 1, loop_i W I e hx hs (e + 1) i0 s hi (by omega) h0⟩
theorem pk_loopD {σ : Type} (W : Nat → Nat → σ → Prop) (I : Nat → σ → Prop) (hx : ∀ n s, I 0 s → W (n + 1) 0 s)
    (hs : ∀ n i s, I (i + 1) s → (∀ s', I i s' → W n i s') → W (n + 1) (i + 1) s) : ∀ (e : Nat) (s : σ), I e s → W (e + 1) e s := by
  intro e
  induction e with
  | zero => exact fun s h => hx 0 s h
  | succ e ih => exact fun s h => hs (e + 1) e s h (fun s' h' => ih s' h')
theorem lp1 {A1 : Type} (W : Nat → A1 → Prop) (I : A1 → Prop) (μ : A1 → Nat) (hs : ∀ (n : Nat) (a1 : A1), I a1 → (∀ (b1 : A1), I b1 → μ b1 < μ a1 → W n b1) → W (n + 1) a1) (a1 : A1) (h : I a1) : ∃ n, W n a1 :=
  loop_m (σ := A1) (fun n s => W n s) (fun s => I s) (fun s => μ s) (fun n s hI hk => hs n s hI (fun b1 h9 hm => hk b1 h9 hm)) a1 h
theorem lp2 {A1 A2 : Type} (W : Nat → A1 → A2 → Prop) (I : A1 → A2 → Prop) (μ : A1 → A2 → Nat) (hs : ∀ (n : Nat) (a1 : A1) (a2 : A2), I a1 a2 → (∀ (b1 : A1) (b2 : A2), I b1 b2 → μ b1 b2 < μ a1 a2 → W n b1 b2) → W (n + 1) a1 a2) (a1 : A1) (a2 : A2) (h : I a1 a2) : ∃ n, W n a1 a2 :=
  loop_m (σ := A1 × A2) (fun n s => W n s.1 s.2) (fun s => I s.1 s.2) (fun s => μ s.1 s.2) (fun n s hI hk => hs n s.1 s.2 hI (fun b1 b2 h9 hm => hk (b1, b2) h9 hm)) (a1, a2) h
theorem lp3 {A1 A2 A3 : Type} (W : Nat → A1 → A2 → A3 → Prop) (I : A1 → A2 → A3 → Prop) (μ : A1 → A2 → A3 → Nat) (hs : ∀ (n : Nat) (a1 : A1) (a2 : A2) (a3 : A3), I a1 a2 a3 → (∀ (b1 : A1) (b2 : A2) (b3 : A3), I b1 b2 b3 → μ b1 b2 b3 < μ a1 a2 a3 → W n b1 b2 b3) → W (n + 1) a1 a2 a3) (a1 : A1) (a2 : A2) (a3 : A3) (h : I a1 a2 a3) : ∃ n, W n a1 a2 a3 :=
  loop_m (σ := A1 × A2 × A3) (fun n s => W n s.1 s.2.1 s.2.2) (fun s => I s.1 s.2.1 s.2.2) (fun s => μ s.1 s.2.1 s.2.2) (fun n s hI hk => hs n s.1 s.2.1 s.2.2 hI (fun b1 b2 b3 h9 hm => hk (b1, b2, b3) h9 hm)) (a1, a2, a3) h
theorem lp4 {A1 A2 A3 A4 : Type} (W : Nat → A1 → A2 → A3 → A4 → Prop) (I : A1 → A2 → A3 → A4 → Prop) (μ : A1 → A2 → A3 → A4 → Nat) (hs : ∀ (n : Nat) (a1 : A1) (a2 : A2) (a3 : A3) (a4 : A4), I a1 a2 a3 a4 → (∀ (b1 : A1) (b2 : A2) (b3 : A3) (b4 : A4), I b1 b2 b3 b4 → μ b1 b2 b3 b4 < μ a1 a2 a3 a4 → W n b1 b2 b3 b4) → W (n + 1) a1 a2 a3 a4) (a1 : A1) (a2 : A2) (a3 : A3) (a4 : A4) (h : I a1 a2 a3 a4) : ∃ n, W n a1 a2 a3 a4 :=
  loop_m (σ := A1 × A2 × A3 × A4) (fun n s => W n s.1 s.2.1 s.2.2.1 s.2.2.2) (fun s => I s.1 s.2.1 s.2.2.1 s.2.2.2) (fun s => μ s.1 s.2.1 s.2.2.1 s.2.2.2) (fun n s hI hk => hs n s.1 s.2.1 s.2.2.1 s.2.2.2 hI (fun b1 b2 b3 b4 h9 hm => hk (b1, b2, b3, b4) h9 hm)) (a1, a2, a3, a4) h
theorem lp5 {A1 A2 A3 A4 A5 : Type} (W : Nat → A1 → A2 → A3 → A4 → A5 → Prop) (I : A1 → A2 → A3 → A4 → A5 → Prop) (μ : A1 → A2 → A3 → A4 → A5 → Nat) (hs : ∀ (n : Nat) (a1 : A1) (a2 : A2) (a3 : A3) (a4 : A4) (a5 : A5), I a1 a2 a3 a4 a5 → (∀ (b1 : A1) (b2 : A2) (b3 : A3) (b4 : A4) (b5 : A5), I b1 b2 b3 b4 b5 → μ b1 b2 b3 b4 b5 < μ a1 a2 a3 a4 a5 → W n b1 b2 b3 b4 b5) → W (n + 1) a1 a2 a3 a4 a5) (a1 : A1) (a2 : A2) (a3 : A3) (a4 : A4) (a5 : A5) (h : I a1 a2 a3 a4 a5) : ∃ n, W n a1 a2 a3 a4 a5 :=
  loop_m (σ := A1 × A2 × A3 × A4 × A5) (fun n s => W n s.1 s.2.1 s.2.2.1 s.2.2.2.1 s.2.2.2.2) (fun s => I s.1 s.2.1 s.2.2.1 s.2.2.2.1 s.2.2.2.2) (fun s => μ s.1 s.2.1 s.2.2.1 s.2.2.2.1 s.2.2.2.2) (fun n s hI hk => hs n s.1 s.2.1 s.2.2.1 s.2.2.2.1 s.2.2.2.2 hI (fun b1 b2 b3 b4 b5 h9 hm => hk (b1, b2, b3, b4, b5) h9 hm)) (a1, a2, a3, a4, a5) h
theorem lp6 {A1 A2 A3 A4 A5 A6 : Type} (W : Nat → A1 → A2 → A3 → A4 → A5 → A6 → Prop) (I : A1 → A2 → A3 → A4 → A5 → A6 → Prop) (μ : A1 → A2 → A3 → A4 → A5 → A6 → Nat) (hs : ∀ (n : Nat) (a1 : A1) (a2 : A2) (a3 : A3) (a4 : A4) (a5 : A5) (a6 : A6), I a1 a2 a3 a4 a5 a6 → (∀ (b1 : A1) (b2 : A2) (b3 : A3) (b4 : A4) (b5 : A5) (b6 : A6), I b1 b2 b3 b4 b5 b6 → μ b1 b2 b3 b4 b5 b6 < μ a1 a2 a3 a4 a5 a6 → W n b1 b2 b3 b4 b5 b6) → W (n + 1) a1 a2 a3 a4 a5 a6) (a1 : A1) (a2 : A2) (a3 : A3) (a4 : A4) (a5 : A5) (a6 : A6) (h : I a1 a2 a3 a4 a5 a6) : ∃ n, W n a1 a2 a3 a4 a5 a6 :=
  loop_m (σ := A1 × A2 × A3 × A4 × A5 × A6) (fun n s => W n s.1 s.2.1 s.2.2.1 s.2.2.2.1 s.2.2.2.2.1 s.2.2.2.2.2) (fun s => I s.1 s.2.1 s.2.2.1 s.2.2.2.1 s.2.2.2.2.1 s.2.2.2.2.2) (fun s => μ s.1 s.2.1 s.2.2.1 s.2.2.2.1 s.2.2.2.2.1 s.2.2.2.2.2) (fun n s hI hk => hs n s.1 s.2.1 s.2.2.1 s.2.2.2.1 s.2.2.2.2.1 s.2.2.2.2.2 hI (fun b1 b2 b3 b4 b5 b6 h9 hm => hk (b1, b2, b3, b4, b5, b6) h9 hm)) (a1, a2, a3, a4, a5, a6) h
theorem lp7 {A1 A2 A3 A4 A5 A6 A7 : Type} (W : Nat → A1 → A2 → A3 → A4 → A5 → A6 → A7 → Prop) (I : A1 → A2 → A3 → A4 → A5 → A6 → A7 → Prop) (μ : A1 → A2 → A3 → A4 → A5 → A6 → A7 → Nat) (hs : ∀ (n : Nat) (a1 : A1) (a2 : A2) (a3 : A3) (a4 : A4) (a5 : A5) (a6 : A6) (a7 : A7), I a1 a2 a3 a4 a5 a6 a7 → (∀ (b1 : A1) (b2 : A2) (b3 : A3) (b4 : A4) (b5 : A5) (b6 : A6) (b7 : A7), I b1 b2 b3 b4 b5 b6 b7 → μ b1 b2 b3 b4 b5 b6 b7 < μ a1 a2 a3 a4 a5 a6 a7 → W n b1 b2 b3 b4 b5 b6 b7) → W (n + 1) a1 a2 a3 a4 a5 a6 a7) (a1 : A1) (a2 : A2) (a3 : A3) (a4 : A4) (a5 : A5) (a6 : A6) (a7 : A7) (h : I a1 a2 a3 a4 a5 a6 a7) : ∃ n, W n a1 a2 a3 a4 a5 a6 a7 :=
  loop_m (σ := A1 × A2 × A3 × A4 × A5 × A6 × A7) (fun n s => W n s.1 s.2.1 s.2.2.1 s.2.2.2.1 s.2.2.2.2.1 s.2.2.2.2.2.1 s.2.2.2.2.2.2) (fun s => I s.1 s.2.1 s.2.2.1 s.2.2.2.1 s.2.2.2.2.1 s.2.2.2.2.2.1 s.2.2.2.2.2.2) (fun s => μ s.1 s.2.1 s.2.2.1 s.2.2.2.1 s.2.2.2.2.1 s.2.2.2.2.2.1 s.2.2.2.2.2.2) (fun n s hI hk => hs n s.1 s.2.1 s.2.2.1 s.2.2.2.1 s.2.2.2.2.1 s.2.2.2.2.2.1 s.2.2.2.2.2.2 hI (fun b1 b2 b3 b4 b5 b6 b7 h9 hm => hk (b1, b2, b3, b4, b5, b6, b7) h9 hm)) (a1, a2, a3, a4, a5, a6, a7) h
theorem lp8 {A1 A2 A3 A4 A5 A6 A7 A8 : Type} (W : Nat → A1 → A2 → A3 → A4 → A5 → A6 → A7 → A8 → Prop) (I : A1 → A2 → A3 → A4 → A5 → A6 → A7 → A8 → Prop) (μ : A1 → A2 → A3 → A4 → A5 → A6 → A7 → A8 → Nat) (hs : ∀ (n : Nat) (a1 : A1) (a2 : A2) (a3 : A3) (a4 : A4) (a5 : A5) (a6 : A6) (a7 : A7) (a8 : A8), I a1 a2 a3 a4 a5 a6 a7 a8 → (∀ (b1 : A1) (b2 : A2) (b3 : A3) (b4 : A4) (b5 : A5) (b6 : A6) (b7 : A7) (b8 : A8), I b1 b2 b3 b4 b5 b6 b7 b8 → μ b1 b2 b3 b4 b5 b6 b7 b8 < μ a1 a2 a3 a4 a5 a6 a7 a8 → W n b1 b2 b3 b4 b5 b6 b7 b8) → W (n + 1) a1 a2 a3 a4 a5 a6 a7 a8) (a1 : A1) (a2 : A2) (a3 : A3) (a4 : A4) (a5 : A5) (a6 : A6) (a7 : A7) (a8 : A8) (h : I a1 a2 a3 a4 a5 a6 a7 a8) : ∃ n, W n a1 a2 a3 a4 a5 a6 a7 a8 :=
  loop_m (σ := A1 × A2 × A3 × A4 × A5 × A6 × A7 × A8) (fun n s => W n s.1 s.2.1 s.2.2.1 s.2.2.2.1 s.2.2.2.2.1 s.2.2.2.2.2.1 s.2.2.2.2.2.2.1 s.2.2.2.2.2.2.2) (fun s => I s.1 s.2.1 s.2.2.1 s.2.2.2.1 s.2.2.2.2.1 s.2.2.2.2.2.1 s.2.2.2.2.2.2.1 s.2.2.2.2.2.2.2) (fun s => μ s.1 s.2.1 s.2.2.1 s.2.2.2.1 s.2.2.2.2.1 s.2.2.2.2.2.1 s.2.2.2.2.2.2.1 s.2.2.2.2.2.2.2) (fun n s hI hk => hs n s.1 s.2.1 s.2.2.1 s.2.2.2.1 s.2.2.2.2.1 s.2.2.2.2.2.1 s.2.2.2.2.2.2.1 s.2.2.2.2.2.2.2 hI (fun b1 b2 b3 b4 b5 b6 b7 b8 h9 hm => hk (b1, b2, b3, b4, b5, b6, b7, b8) h9 hm)) (a1, a2, a3, a4, a5, a6, a7, a8) h
theorem lp9 {A1 A2 A3 A4 A5 A6 A7 A8 A9 : Type} (W : Nat → A1 → A2 → A3 → A4 → A5 → A6 → A7 → A8 → A9 → Prop) (I : A1 → A2 → A3 → A4 → A5 → A6 → A7 → A8 → A9 → Prop) (μ : A1 → A2 → A3 → A4 → A5 → A6 → A7 → A8 → A9 → Nat) (hs : ∀ (n : Nat) (a1 : A1) (a2 : A2) (a3 : A3) (a4 : A4) (a5 : A5) (a6 : A6) (a7 : A7) (a8 : A8) (a9 : A9), I a1 a2 a3 a4 a5 a6 a7 a8 a9 → (∀ (b1 : A1) (b2 : A2) (b3 : A3) (b4 : A4) (b5 : A5) (b6 : A6) (b7 : A7) (b8 : A8) (b9 : A9), I b1 b2 b3 b4 b5 b6 b7 b8 b9 → μ b1 b2 b3 b4 b5 b6 b7 b8 b9 < μ a1 a2 a3 a4 a5 a6 a7 a8 a9 → W n b1 b2 b3 b4 b5 b6 b7 b8 b9) → W (n + 1) a1 a2 a3 a4 a5 a6 a7 a8 a9) (a1 : A1) (a2 : A2) (a3 : A3) (a4 : A4) (a5 : A5) (a6 : A6) (a7 : A7) (a8 : A8) (a9 : A9) (h : I a1 a2 a3 a4 a5 a6 a7 a8 a9) : ∃ n, W n a1 a2 a3 a4 a5 a6 a7 a8 a9 :=
  loop_m (σ := A1 × A2 × A3 × A4 × A5 × A6 × A7 × A8 × A9) (fun n s => W n s.1 s.2.1 s.2.2.1 s.2.2.2.1 s.2.2.2.2.1 s.2.2.2.2.2.1 s.2.2.2.2.2.2.1 s.2.2.2.2.2.2.2.1 s.2.2.2.2.2.2.2.2) (fun s => I s.1 s.2.1 s.2.2.1 s.2.2.2.1 s.2.2.2.2.1 s.2.2.2.2.2.1 s.2.2.2.2.2.2.1 s.2.2.2.2.2.2.2.1 s.2.2.2.2.2.2.2.2) (fun s => μ s.1 s.2.1 s.2.2.1 s.2.2.2.1 s.2.2.2.2.1 s.2.2.2.2.2.1 s.2.2.2.2.2.2.1 s.2.2.2.2.2.2.2.1 s.2.2.2.2.2.2.2.2) (fun n s hI hk => hs n s.1 s.2.1 s.2.2.1 s.2.2.2.1 s.2.2.2.2.1 s.2.2.2.2.2.1 s.2.2.2.2.2.2.1 s.2.2.2.2.2.2.2.1 s.2.2.2.2.2.2.2.2 hI (fun b1 b2 b3 b4 b5 b6 b7 b8 b9 h9 hm => hk (b1, b2, b3, b4, b5, b6, b7, b8, b9) h9 hm)) (a1, a2, a3, a4, a5, a6, a7, a8, a9) h
theorem lp10 {A1 A2 A3 A4 A5 A6 A7 A8 A9 A10 : Type} (W : Nat → A1 → A2 → A3 → A4 → A5 → A6 → A7 → A8 → A9 → A10 → Prop) (I : A1 → A2 → A3 → A4 → A5 → A6 → A7 → A8 → A9 → A10 → Prop) (μ : A1 → A2 → A3 → A4 → A5 → A6 → A7 → A8 → A9 → A10 → Nat) (hs : ∀ (n : Nat) (a1 : A1) (a2 : A2) (a3 : A3) (a4 : A4) (a5 : A5) (a6 : A6) (a7 : A7) (a8 : A8) (a9 : A9) (a10 : A10), I a1 a2 a3 a4 a5 a6 a7 a8 a9 a10 → (∀ (b1 : A1) (b2 : A2) (b3 : A3) (b4 : A4) (b5 : A5) (b6 : A6) (b7 : A7) (b8 : A8) (b9 : A9) (b10 : A10), I b1 b2 b3 b4 b5 b6 b7 b8 b9 b10 → μ b1 b2 b3 b4 b5 b6 b7 b8 b9 b10 < μ a1 a2 a3 a4 a5 a6 a7 a8 a9 a10 → W n b1 b2 b3 b4 b5 b6 b7 b8 b9 b10) → W (n + 1) a1 a2 a3 a4 a5 a6 a7 a8 a9 a10) (a1 : A1) (a2 : A2) (a3 : A3) (a4 : A4) (a5 : A5) (a6 : A6) (a7 : A7) (a8 : A8) (a9 : A9) (a10 : A10) (h : I a1 a2 a3 a4 a5 a6 a7 a8 a9 a10) : ∃ n, W n a1 a2 a3 a4 a5 a6 a7 a8 a9 a10 :=
  loop_m (σ := A1 × A2 × A3 × A4 × A5 × A6 × A7 × A8 × A9 × A10) (fun n s => W n s.1 s.2.1 s.2.2.1 s.2.2.2.1 s.2.2.2.2.1 s.2.2.2.2.2.1 s.2.2.2.2.2.2.1 s.2.2.2.2.2.2.2.1 s.2.2.2.2.2.2.2.2.1 s.2.2.2.2.2.2.2.2.2) (fun s => I s.1 s.2.1 s.2.2.1 s.2.2.2.1 s.2.2.2.2.1 s.2.2.2.2.2.1 s.2.2.2.2.2.2.1 s.2.2.2.2.2.2.2.1 s.2.2.2.2.2.2.2.2.1 s.2.2.2.2.2.2.2.2.2) (fun s => μ s.1 s.2.1 s.2.2.1 s.2.2.2.1 s.2.2.2.2.1 s.2.2.2.2.2.1 s.2.2.2.2.2.2.1 s.2.2.2.2.2.2.2.1 s.2.2.2.2.2.2.2.2.1 s.2.2.2.2.2.2.2.2.2) (fun n s hI hk => hs n s.1 s.2.1 s.2.2.1 s.2.2.2.1 s.2.2.2.2.1 s.2.2.2.2.2.1 s.2.2.2.2.2.2.1 s.2.2.2.2.2.2.2.1 s.2.2.2.2.2.2.2.2.1 s.2.2.2.2.2.2.2.2.2 hI (fun b1 b2 b3 b4 b5 b6 b7 b8 b9 b10 h9 hm => hk (b1, b2, b3, b4, b5, b6, b7, b8, b9, b10) h9 hm)) (a1, a2, a3, a4, a5, a6, a7, a8, a9, a10) h
theorem lp11 {A1 A2 A3 A4 A5 A6 A7 A8 A9 A10 A11 : Type} (W : Nat → A1 → A2 → A3 → A4 → A5 → A6 → A7 → A8 → A9 → A10 → A11 → Prop) (I : A1 → A2 → A3 → A4 → A5 → A6 → A7 → A8 → A9 → A10 → A11 → Prop) (μ : A1 → A2 → A3 → A4 → A5 → A6 → A7 → A8 → A9 → A10 → A11 → Nat) (hs : ∀ (n : Nat) (a1 : A1) (a2 : A2) (a3 : A3) (a4 : A4) (a5 : A5) (a6 : A6) (a7 : A7) (a8 : A8) (a9 : A9) (a10 : A10) (a11 : A11), I a1 a2 a3 a4 a5 a6 a7 a8 a9 a10 a11 → (∀ (b1 : A1) (b2 : A2) (b3 : A3) (b4 : A4) (b5 : A5) (b6 : A6) (b7 : A7) (b8 : A8) (b9 : A9) (b10 : A10) (b11 : A11), I b1 b2 b3 b4 b5 b6 b7 b8 b9 b10 b11 → μ b1 b2 b3 b4 b5 b6 b7 b8 b9 b10 b11 < μ a1 a2 a3 a4 a5 a6 a7 a8 a9 a10 a11 → W n b1 b2 b3 b4 b5 b6 b7 b8 b9 b10 b11) → W (n + 1) a1 a2 a3 a4 a5 a6 a7 a8 a9 a10 a11) (a1 : A1) (a2 : A2) (a3 : A3) (a4 : A4) (a5 : A5) (a6 : A6) (a7 : A7) (a8 : A8) (a9 : A9) (a10 : A10) (a11 : A11) (h : I a1 a2 a3 a4 a5 a6 a7 a8 a9 a10 a11) : ∃ n, W n a1 a2 a3 a4 a5 a6 a7 a8 a9 a10 a11 :=
  loop_m (σ := A1 × A2 × A3 × A4 × A5 × A6 × A7 × A8 × A9 × A10 × A11) (fun n s => W n s.1 s.2.1 s.2.2.1 s.2.2.2.1 s.2.2.2.2.1 s.2.2.2.2.2.1 s.2.2.2.2.2.2.1 s.2.2.2.2.2.2.2.1 s.2.2.2.2.2.2.2.2.1 s.2.2.2.2.2.2.2.2.2.1 s.2.2.2.2.2.2.2.2.2.2) (fun s => I s.1 s.2.1 s.2.2.1 s.2.2.2.1 s.2.2.2.2.1 s.2.2.2.2.2.1 s.2.2.2.2.2.2.1 s.2.2.2.2.2.2.2.1 s.2.2.2.2.2.2.2.2.1 s.2.2.2.2.2.2.2.2.2.1 s.2.2.2.2.2.2.2.2.2.2) (fun s => μ s.1 s.2.1 s.2.2.1 s.2.2.2.1 s.2.2.2.2.1 s.2.2.2.2.2.1 s.2.2.2.2.2.2.1 s.2.2.2.2.2.2.2.1 s.2.2.2.2.2.2.2.2.1 s.2.2.2.2.2.2.2.2.2.1 s.2.2.2.2.2.2.2.2.2.2) (fun n s hI hk => hs n s.1 s.2.1 s.2.2.1 s.2.2.2.1 s.2.2.2.2.1 s.2.2.2.2.2.1 s.2.2.2.2.2.2.1 s.2.2.2.2.2.2.2.1 s.2.2.2.2.2.2.2.2.1 s.2.2.2.2.2.2.2.2.2.1 s.2.2.2.2.2.2.2.2.2.2 hI (fun b1 b2 b3 b4 b5 b6 b7 b8 b9 b10 b11 h9 hm => hk (b1, b2, b3, b4, b5, b6, b7, b8, b9, b10, b11) h9 hm)) (a1, a2, a3, a4, a5, a6, a7, a8, a9, a10, a11) h
theorem lp12 {A1 A2 A3 A4 A5 A6 A7 A8 A9 A10 A11 A12 : Type} (W : Nat → A1 → A2 → A3 → A4 → A5 → A6 → A7 → A8 → A9 → A10 → A11 → A12 → Prop) (I : A1 → A2 → A3 → A4 → A5 → A6 → A7 → A8 → A9 → A10 → A11 → A12 → Prop) (μ : A1 → A2 → A3 → A4 → A5 → A6 → A7 → A8 → A9 → A10 → A11 → A12 → Nat) (hs : ∀ (n : Nat) (a1 : A1) (a2 : A2) (a3 : A3) (a4 : A4) (a5 : A5) (a6 : A6) (a7 : A7) (a8 : A8) (a9 : A9) (a10 : A10) (a11 : A11) (a12 : A12), I a1 a2 a3 a4 a5 a6 a7 a8 a9 a10 a11 a12 → (∀ (b1 : A1) (b2 : A2) (b3 : A3) (b4 : A4) (b5 : A5) (b6 : A6) (b7 : A7) (b8 : A8) (b9 : A9) (b10 : A10) (b11 : A11) (b12 : A12), I b1 b2 b3 b4 b5 b6 b7 b8 b9 b10 b11 b12 → μ b1 b2 b3 b4 b5 b6 b7 b8 b9 b10 b11 b12 < μ a1 a2 a3 a4 a5 a6 a7 a8 a9 a10 a11 a12 → W n b1 b2 b3 b4 b5 b6 b7 b8 b9 b10 b11 b12) → W (n + 1) a1 a2 a3 a4 a5 a6 a7 a8 a9 a10 a11 a12) (a1 : A1) (a2 : A2) (a3 : A3) (a4 : A4) (a5 : A5) (a6 : A6) (a7 : A7) (a8 : A8) (a9 : A9) (a10 : A10) (a11 : A11) (a12 : A12) (h : I a1 a2 a3 a4 a5 a6 a7 a8 a9 a10 a11 a12) : ∃ n, W n a1 a2 a3 a4 a5 a6 a7 a8 a9 a10 a11 a12 :=
  loop_m (σ := A1 × A2 × A3 × A4 × A5 × A6 × A7 × A8 × A9 × A10 × A11 × A12) (fun n s => W n s.1 s.2.1 s.2.2.1 s.2.2.2.1 s.2.2.2.2.1 s.2.2.2.2.2.1 s.2.2.2.2.2.2.1 s.2.2.2.2.2.2.2.1 s.2.2.2.2.2.2.2.2.1 s.2.2.2.2.2.2.2.2.2.1 s.2.2.2.2.2.2.2.2.2.2.1 s.2.2.2.2.2.2.2.2.2.2.2) (fun s => I s.1 s.2.1 s.2.2.1 s.2.2.2.1 s.2.2.2.2.1 s.2.2.2.2.2.1 s.2.2.2.2.2.2.1 s.2.2.2.2.2.2.2.1 s.2.2.2.2.2.2.2.2.1 s.2.2.2.2.2.2.2.2.2.1 s.2.2.2.2.2.2.2.2.2.2.1 s.2.2.2.2.2.2.2.2.2.2.2) (fun s => μ s.1 s.2.1 s.2.2.1 s.2.2.2.1 s.2.2.2.2.1 s.2.2.2.2.2.1 s.2.2.2.2.2.2.1 s.2.2.2.2.2.2.2.1 s.2.2.2.2.2.2.2.2.1 s.2.2.2.2.2.2.2.2.2.1 s.2.2.2.2.2.2.2.2.2.2.1 s.2.2.2.2.2.2.2.2.2.2.2) (fun n s hI hk => hs n s.1 s.2.1 s.2.2.1 s.2.2.2.1 s.2.2.2.2.1 s.2.2.2.2.2.1 s.2.2.2.2.2.2.1 s.2.2.2.2.2.2.2.1 s.2.2.2.2.2.2.2.2.1 s.2.2.2.2.2.2.2.2.2.1 s.2.2.2.2.2.2.2.2.2.2.1 s.2.2.2.2.2.2.2.2.2.2.2 hI (fun b1 b2 b3 b4 b5 b6 b7 b8 b9 b10 b11 b12 h9 hm => hk (b1, b2, b3, b4, b5, b6, b7, b8, b9, b10, b11, b12) h9 hm)) (a1, a2, a3, a4, a5, a6, a7, a8, a9, a10, a11, a12) h
theorem lp13 {A1 A2 A3 A4 A5 A6 A7 A8 A9 A10 A11 A12 A13 : Type} (W : Nat → A1 → A2 → A3 → A4 → A5 → A6 → A7 → A8 → A9 → A10 → A11 → A12 → A13 → Prop) (I : A1 → A2 → A3 → A4 → A5 → A6 → A7 → A8 → A9 → A10 → A11 → A12 → A13 → Prop) (μ : A1 → A2 → A3 → A4 → A5 → A6 → A7 → A8 → A9 → A10 → A11 → A12 → A13 → Nat) (hs : ∀ (n : Nat) (a1 : A1) (a2 : A2) (a3 : A3) (a4 : A4) (a5 : A5) (a6 : A6) (a7 : A7) (a8 : A8) (a9 : A9) (a10 : A10) (a11 : A11) (a12 : A12) (a13 : A13), I a1 a2 a3 a4 a5 a6 a7 a8 a9 a10 a11 a12 a13 → (∀ (b1 : A1) (b2 : A2) (b3 : A3) (b4 : A4) (b5 : A5) (b6 : A6) (b7 : A7) (b8 : A8) (b9 : A9) (b10 : A10) (b11 : A11) (b12 : A12) (b13 : A13), I b1 b2 b3 b4 b5 b6 b7 b8 b9 b10 b11 b12 b13 → μ b1 b2 b3 b4 b5 b6 b7 b8 b9 b10 b11 b12 b13 < μ a1 a2 a3 a4 a5 a6 a7 a8 a9 a10 a11 a12 a13 → W n b1 b2 b3 b4 b5 b6 b7 b8 b9 b10 b11 b12 b13) → W (n + 1) a1 a2 a3 a4 a5 a6 a7 a8 a9 a10 a11 a12 a13) (a1 : A1) (a2 : A2) (a3 : A3) (a4 : A4) (a5 : A5) (a6 : A6) (a7 : A7) (a8 : A8) (a9 : A9) (a10 : A10) (a11 : A11) (a12 : A12) (a13 : A13) (h : I a1 a2 a3 a4 a5 a6 a7 a8 a9 a10 a11 a12 a13) : ∃ n, W n a1 a2 a3 a4 a5 a6 a7 a8 a9 a10 a11 a12 a13 :=
  loop_m (σ := A1 × A2 × A3 × A4 × A5 × A6 × A7 × A8 × A9 × A10 × A11 × A12 × A13) (fun n s => W n s.1 s.2.1 s.2.2.1 s.2.2.2.1 s.2.2.2.2.1 s.2.2.2.2.2.1 s.2.2.2.2.2.2.1 s.2.2.2.2.2.2.2.1 s.2.2.2.2.2.2.2.2.1 s.2.2.2.2.2.2.2.2.2.1 s.2.2.2.2.2.2.2.2.2.2.1 s.2.2.2.2.2.2.2.2.2.2.2.1 s.2.2.2.2.2.2.2.2.2.2.2.2) (fun s => I s.1 s.2.1 s.2.2.1 s.2.2.2.1 s.2.2.2.2.1 s.2.2.2.2.2.1 s.2.2.2.2.2.2.1 s.2.2.2.2.2.2.2.1 s.2.2.2.2.2.2.2.2.1 s.2.2.2.2.2.2.2.2.2.1 s.2.2.2.2.2.2.2.2.2.2.1 s.2.2.2.2.2.2.2.2.2.2.2.1 s.2.2.2.2.2.2.2.2.2.2.2.2) (fun s => μ s.1 s.2.1 s.2.2.1 s.2.2.2.1 s.2.2.2.2.1 s.2.2.2.2.2.1 s.2.2.2.2.2.2.1 s.2.2.2.2.2.2.2.1 s.2.2.2.2.2.2.2.2.1 s.2.2.2.2.2.2.2.2.2.1 s.2.2.2.2.2.2.2.2.2.2.1 s.2.2.2.2.2.2.2.2.2.2.2.1 s.2.2.2.2.2.2.2.2.2.2.2.2) (fun n s hI hk => hs n s.1 s.2.1 s.2.2.1 s.2.2.2.1 s.2.2.2.2.1 s.2.2.2.2.2.1 s.2.2.2.2.2.2.1 s.2.2.2.2.2.2.2.1 s.2.2.2.2.2.2.2.2.1 s.2.2.2.2.2.2.2.2.2.1 s.2.2.2.2.2.2.2.2.2.2.1 s.2.2.2.2.2.2.2.2.2.2.2.1 s.2.2.2.2.2.2.2.2.2.2.2.2 hI (fun b1 b2 b3 b4 b5 b6 b7 b8 b9 b10 b11 b12 b13 h9 hm => hk (b1, b2, b3, b4, b5, b6, b7, b8, b9, b10, b11, b12, b13) h9 hm)) (a1, a2, a3, a4, a5, a6, a7, a8, a9, a10, a11, a12, a13) h
theorem lp14 {A1 A2 A3 A4 A5 A6 A7 A8 A9 A10 A11 A12 A13 A14 : Type} (W : Nat → A1 → A2 → A3 → A4 → A5 → A6 → A7 → A8 → A9 → A10 → A11 → A12 → A13 → A14 → Prop) (I : A1 → A2 → A3 → A4 → A5 → A6 → A7 → A8 → A9 → A10 → A11 → A12 → A13 → A14 → Prop) (μ : A1 → A2 → A3 → A4 → A5 → A6 → A7 → A8 → A9 → A10 → A11 → A12 → A13 → A14 → Nat) (hs : ∀ (n : Nat) (a1 : A1) (a2 : A2) (a3 : A3) (a4 : A4) (a5 : A5) (a6 : A6) (a7 : A7) (a8 : A8) (a9 : A9) (a10 : A10) (a11 : A11) (a12 : A12) (a13 : A13) (a14 : A14), I a1 a2 a3 a4 a5 a6 a7 a8 a9 a10 a11 a12 a13 a14 → (∀ (b1 : A1) (b2 : A2) (b3 : A3) (b4 : A4) (b5 : A5) (b6 : A6) (b7 : A7) (b8 : A8) (b9 : A9) (b10 : A10) (b11 : A11) (b12 : A12) (b13 : A13) (b14 : A14), I b1 b2 b3 b4 b5 b6 b7 b8 b9 b10 b11 b12 b13 b14 → μ b1 b2 b3 b4 b5 b6 b7 b8 b9 b10 b11 b12 b13 b14 < μ a1 a2 a3 a4 a5 a6 a7 a8 a9 a10 a11 a12 a13 a14 → W n b1 b2 b3 b4 b5 b6 b7 b8 b9 b10 b11 b12 b13 b14) → W (n + 1) a1 a2 a3 a4 a5 a6 a7 a8 a9 a10 a11 a12 a13 a14) (a1 : A1) (a2 : A2) (a3 : A3) (a4 : A4) (a5 : A5) (a6 : A6) (a7 : A7) (a8 : A8) (a9 : A9) (a10 : A10) (a11 : A11) (a12 : A12) (a13 : A13) (a14 : A14) (h : I a1 a2 a3 a4 a5 a6 a7 a8 a9 a10 a11 a12 a13 a14) : ∃ n, W n a1 a2 a3 a4 a5 a6 a7 a8 a9 a10 a11 a12 a13 a14 :=
  loop_m (σ := A1 × A2 × A3 × A4 × A5 × A6 × A7 × A8 × A9 × A10 × A11 × A12 × A13 × A14) (fun n s => W n s.1 s.2.1 s.2.2.1 s.2.2.2.1 s.2.2.2.2.1 s.2.2.2.2.2.1 s.2.2.2.2.2.2.1 s.2.2.2.2.2.2.2.1 s.2.2.2.2.2.2.2.2.1 s.2.2.2.2.2.2.2.2.2.1 s.2.2.2.2.2.2.2.2.2.2.1 s.2.2.2.2.2.2.2.2.2.2.2.1 s.2.2.2.2.2.2.2.2.2.2.2.2.1 s.2.2.2.2.2.2.2.2.2.2.2.2.2) (fun s => I s.1 s.2.1 s.2.2.1 s.2.2.2.1 s.2.2.2.2.1 s.2.2.2.2.2.1 s.2.2.2.2.2.2.1 s.2.2.2.2.2.2.2.1 s.2.2.2.2.2.2.2.2.1 s.2.2.2.2.2.2.2.2.2.1 s.2.2.2.2.2.2.2.2.2.2.1 s.2.2.2.2.2.2.2.2.2.2.2.1 s.2.2.2.2.2.2.2.2.2.2.2.2.1 s.2.2.2.2.2.2.2.2.2.2.2.2.2) (fun s => μ s.1 s.2.1 s.2.2.1 s.2.2.2.1 s.2.2.2.2.1 s.2.2.2.2.2.1 s.2.2.2.2.2.2.1 s.2.2.2.2.2.2.2.1 s.2.2.2.2.2.2.2.2.1 s.2.2.2.2.2.2.2.2.2.1 s.2.2.2.2.2.2.2.2.2.2.1 s.2.2.2.2.2.2.2.2.2.2.2.1 s.2.2.2.2.2.2.2.2.2.2.2.2.1 s.2.2.2.2.2.2.2.2.2.2.2.2.2) (fun n s hI hk => hs n s.1 s.2.1 s.2.2.1 s.2.2.2.1 s.2.2.2.2.1 s.2.2.2.2.2.1 s.2.2.2.2.2.2.1 s.2.2.2.2.2.2.2.1 s.2.2.2.2.2.2.2.2.1 s.2.2.2.2.2.2.2.2.2.1 s.2.2.2.2.2.2.2.2.2.2.1 s.2.2.2.2.2.2.2.2.2.2.2.1 s.2.2.2.2.2.2.2.2.2.2.2.2.1 s.2.2.2.2.2.2.2.2.2.2.2.2.2 hI (fun b1 b2 b3 b4 b5 b6 b7 b8 b9 b10 b11 b12 b13 b14 h9 hm => hk (b1, b2, b3, b4, b5, b6, b7, b8, b9, b10, b11, b12, b13, b14) h9 hm)) (a1, a2, a3, a4, a5, a6, a7, a8, a9, a10, a11, a12, a13, a14) h
theorem lp15 {A1 A2 A3 A4 A5 A6 A7 A8 A9 A10 A11 A12 A13 A14 A15 : Type} (W : Nat → A1 → A2 → A3 → A4 → A5 → A6 → A7 → A8 → A9 → A10 → A11 → A12 → A13 → A14 → A15 → Prop) (I : A1 → A2 → A3 → A4 → A5 → A6 → A7 → A8 → A9 → A10 → A11 → A12 → A13 → A14 → A15 → Prop) (μ : A1 → A2 → A3 → A4 → A5 → A6 → A7 → A8 → A9 → A10 → A11 → A12 → A13 → A14 → A15 → Nat) (hs : ∀ (n : Nat) (a1 : A1) (a2 : A2) (a3 : A3) (a4 : A4) (a5 : A5) (a6 : A6) (a7 : A7) (a8 : A8) (a9 : A9) (a10 : A10) (a11 : A11) (a12 : A12) (a13 : A13) (a14 : A14) (a15 : A15), I a1 a2 a3 a4 a5 a6 a7 a8 a9 a10 a11 a12 a13 a14 a15 → (∀ (b1 : A1) (b2 : A2) (b3 : A3) (b4 : A4) (b5 : A5) (b6 : A6) (b7 : A7) (b8 : A8) (b9 : A9) (b10 : A10) (b11 : A11) (b12 : A12) (b13 : A13) (b14 : A14) (b15 : A15), I b1 b2 b3 b4 b5 b6 b7 b8 b9 b10 b11 b12 b13 b14 b15 → μ b1 b2 b3 b4 b5 b6 b7 b8 b9 b10 b11 b12 b13 b14 b15 < μ a1 a2 a3 a4 a5 a6 a7 a8 a9 a10 a11 a12 a13 a14 a15 → W n b1 b2 b3 b4 b5 b6 b7 b8 b9 b10 b11 b12 b13 b14 b15) → W (n + 1) a1 a2 a3 a4 a5 a6 a7 a8 a9 a10 a11 a12 a13 a14 a15) (a1 : A1) (a2 : A2) (a3 : A3) (a4 : A4) (a5 : A5) (a6 : A6) (a7 : A7) (a8 : A8) (a9 : A9) (a10 : A10) (a11 : A11) (a12 : A12) (a13 : A13) (a14 : A14) (a15 : A15) (h : I a1 a2 a3 a4 a5 a6 a7 a8 a9 a10 a11 a12 a13 a14 a15) : ∃ n, W n a1 a2 a3 a4 a5 a6 a7 a8 a9 a10 a11 a12 a13 a14 a15 :=
  loop_m (σ := A1 × A2 × A3 × A4 × A5 × A6 × A7 × A8 × A9 × A10 × A11 × A12 × A13 × A14 × A15) (fun n s => W n s.1 s.2.1 s.2.2.1 s.2.2.2.1 s.2.2.2.2.1 s.2.2.2.2.2.1 s.2.2.2.2.2.2.1 s.2.2.2.2.2.2.2.1 s.2.2.2.2.2.2.2.2.1 s.2.2.2.2.2.2.2.2.2.1 s.2.2.2.2.2.2.2.2.2.2.1 s.2.2.2.2.2.2.2.2.2.2.2.1 s.2.2.2.2.2.2.2.2.2.2.2.2.1 s.2.2.2.2.2.2.2.2.2.2.2.2.2.1 s.2.2.2.2.2.2.2.2.2.2.2.2.2.2) (fun s => I s.1 s.2.1 s.2.2.1 s.2.2.2.1 s.2.2.2.2.1 s.2.2.2.2.2.1 s.2.2.2.2.2.2.1 s.2.2.2.2.2.2.2.1 s.2.2.2.2.2.2.2.2.1 s.2.2.2.2.2.2.2.2.2.1 s.2.2.2.2.2.2.2.2.2.2.1 s.2.2.2.2.2.2.2.2.2.2.2.1 s.2.2.2.2.2.2.2.2.2.2.2.2.1 s.2.2.2.2.2.2.2.2.2.2.2.2.2.1 s.2.2.2.2.2.2.2.2.2.2.2.2.2.2) (fun s => μ s.1 s.2.1 s.2.2.1 s.2.2.2.1 s.2.2.2.2.1 s.2.2.2.2.2.1 s.2.2.2.2.2.2.1 s.2.2.2.2.2.2.2.1 s.2.2.2.2.2.2.2.2.1 s.2.2.2.2.2.2.2.2.2.1 s.2.2.2.2.2.2.2.2.2.2.1 s.2.2.2.2.2.2.2.2.2.2.2.1 s.2.2.2.2.2.2.2.2.2.2.2.2.1 s.2.2.2.2.2.2.2.2.2.2.2.2.2.1 s.2.2.2.2.2.2.2.2.2.2.2.2.2.2) (fun n s hI hk => hs n s.1 s.2.1 s.2.2.1 s.2.2.2.1 s.2.2.2.2.1 s.2.2.2.2.2.1 s.2.2.2.2.2.2.1 s.2.2.2.2.2.2.2.1 s.2.2.2.2.2.2.2.2.1 s.2.2.2.2.2.2.2.2.2.1 s.2.2.2.2.2.2.2.2.2.2.1 s.2.2.2.2.2.2.2.2.2.2.2.1 s.2.2.2.2.2.2.2.2.2.2.2.2.1 s.2.2.2.2.2.2.2.2.2.2.2.2.2.1 s.2.2.2.2.2.2.2.2.2.2.2.2.2.2 hI (fun b1 b2 b3 b4 b5 b6 b7 b8 b9 b10 b11 b12 b13 b14 b15 h9 hm => hk (b1, b2, b3, b4, b5, b6, b7, b8, b9, b10, b11, b12, b13, b14, b15) h9 hm)) (a1, a2, a3, a4, a5, a6, a7, a8, a9, a10, a11, a12, a13, a14, a15) h
theorem lp16 {A1 A2 A3 A4 A5 A6 A7 A8 A9 A10 A11 A12 A13 A14 A15 A16 : Type} (W : Nat → A1 → A2 → A3 → A4 → A5 → A6 → A7 → A8 → A9 → A10 → A11 → A12 → A13 → A14 → A15 → A16 → Prop) (I : A1 → A2 → A3 → A4 → A5 → A6 → A7 → A8 → A9 → A10 → A11 → A12 → A13 → A14 → A15 → A16 → Prop) (μ : A1 → A2 → A3 → A4 → A5 → A6 → A7 → A8 → A9 → A10 → A11 → A12 → A13 → A14 → A15 → A16 → Nat) (hs : ∀ (n : Nat) (a1 : A1) (a2 : A2) (a3 : A3) (a4 : A4) (a5 : A5) (a6 : A6) (a7 : A7) (a8 : A8) (a9 : A9) (a10 : A10) (a11 : A11) (a12 : A12) (a13 : A13) (a14 : A14) (a15 : A15) (a16 : A16), I a1 a2 a3 a4 a5 a6 a7 a8 a9 a10 a11 a12 a13 a14 a15 a16 → (∀ (b1 : A1) (b2 : A2) (b3 : A3) (b4 : A4) (b5 : A5) (b6 : A6) (b7 : A7) (b8 : A8) (b9 : A9) (b10 : A10) (b11 : A11) (b12 : A12) (b13 : A13) (b14 : A14) (b15 : A15) (b16 : A16), I b1 b2 b3 b4 b5 b6 b7 b8 b9 b10 b11 b12 b13 b14 b15 b16 → μ b1 b2 b3 b4 b5 b6 b7 b8 b9 b10 b11 b12 b13 b14 b15 b16 < μ a1 a2 a3 a4 a5 a6 a7 a8 a9 a10 a11 a12 a13 a14 a15 a16 → W n b1 b2 b3 b4 b5 b6 b7 b8 b9 b10 b11 b12 b13 b14 b15 b16) → W (n + 1) a1 a2 a3 a4 a5 a6 a7 a8 a9 a10 a11 a12 a13 a14 a15 a16) (a1 : A1) (a2 : A2) (a3 : A3) (a4 : A4) (a5 : A5) (a6 : A6) (a7 : A7) (a8 : A8) (a9 : A9) (a10 : A10) (a11 : A11) (a12 : A12) (a13 : A13) (a14 : A14) (a15 : A15) (a16 : A16) (h : I a1 a2 a3 a4 a5 a6 a7 a8 a9 a10 a11 a12 a13 a14 a15 a16) : ∃ n, W n a1 a2 a3 a4 a5 a6 a7 a8 a9 a10 a11 a12 a13 a14 a15 a16 :=
  loop_m (σ := A1 × A2 × A3 × A4 × A5 × A6 × A7 × A8 × A9 × A10 × A11 × A12 × A13 × A14 × A15 × A16) (fun n s => W n s.1 s.2.1 s.2.2.1 s.2.2.2.1 s.2.2.2.2.1 s.2.2.2.2.2.1 s.2.2.2.2.2.2.1 s.2.2.2.2.2.2.2.1 s.2.2.2.2.2.2.2.2.1 s.2.2.2.2.2.2.2.2.2.1 s.2.2.2.2.2.2.2.2.2.2.1 s.2.2.2.2.2.2.2.2.2.2.2.1 s.2.2.2.2.2.2.2.2.2.2.2.2.1 s.2.2.2.2.2.2.2.2.2.2.2.2.2.1 s.2.2.2.2.2.2.2.2.2.2.2.2.2.2.1 s.2.2.2.2.2.2.2.2.2.2.2.2.2.2.2) (fun s => I s.1 s.2.1 s.2.2.1 s.2.2.2.1 s.2.2.2.2.1 s.2.2.2.2.2.1 s.2.2.2.2.2.2.1 s.2.2.2.2.2.2.2.1 s.2.2.2.2.2.2.2.2.1 s.2.2.2.2.2.2.2.2.2.1 s.2.2.2.2.2.2.2.2.2.2.1 s.2.2.2.2.2.2.2.2.2.2.2.1 s.2.2.2.2.2.2.2.2.2.2.2.2.1 s.2.2.2.2.2.2.2.2.2.2.2.2.2.1 s.2.2.2.2.2.2.2.2.2.2.2.2.2.2.1 s.2.2.2.2.2.2.2.2.2.2.2.2.2.2.2) (fun s => μ s.1 s.2.1 s.2.2.1 s.2.2.2.1 s.2.2.2.2.1 s.2.2.2.2.2.1 s.2.2.2.2.2.2.1 s.2.2.2.2.2.2.2.1 s.2.2.2.2.2.2.2.2.1 s.2.2.2.2.2.2.2.2.2.1 s.2.2.2.2.2.2.2.2.2.2.1 s.2.2.2.2.2.2.2.2.2.2.2.1 s.2.2.2.2.2.2.2.2.2.2.2.2.1 s.2.2.2.2.2.2.2.2.2.2.2.2.2.1 s.2.2.2.2.2.2.2.2.2.2.2.2.2.2.1 s.2.2.2.2.2.2.2.2.2.2.2.2.2.2.2) (fun n s hI hk => hs n s.1 s.2.1 s.2.2.1 s.2.2.2.1 s.2.2.2.2.1 s.2.2.2.2.2.1 s.2.2.2.2.2.2.1 s.2.2.2.2.2.2.2.1 s.2.2.2.2.2.2.2.2.1 s.2.2.2.2.2.2.2.2.2.1 s.2.2.2.2.2.2.2.2.2.2.1 s.2.2.2.2.2.2.2.2.2.2.2.1 s.2.2.2.2.2.2.2.2.2.2.2.2.1 s.2.2.2.2.2.2.2.2.2.2.2.2.2.1 s.2.2.2.2.2.2.2.2.2.2.2.2.2.2.1 s.2.2.2.2.2.2.2.2.2.2.2.2.2.2.2 hI (fun b1 b2 b3 b4 b5 b6 b7 b8 b9 b10 b11 b12 b13 b14 b15 b16 h9 hm => hk (b1, b2, b3, b4, b5, b6, b7, b8, b9, b10, b11, b12, b13, b14, b15, b16) h9 hm)) (a1, a2, a3, a4, a5, a6, a7, a8, a9, a10, a11, a12, a13, a14, a15, a16) h
theorem pk_least (P : Nat → Prop) (h : ∃ k, P k) : ∃ k, P k ∧ ∀ j, j < k → ¬ P j := by
  obtain ⟨k, hk⟩ := h
  induction k using Nat.strongRecOn with
  | ind k ih =>
    by_cases e : ∃ j, j < k ∧ P j
    · obtain ⟨j, hj, pj⟩ := e
      exact ih j hj pj
    · exact ⟨k, hk, fun j hj pj => e ⟨j, hj, pj⟩⟩
theorem rp1 {ρ A1 : Type} (W : Nat → (ρ → Prop) → A1 → Prop) (ok : A1 → Prop) (μ : A1 → Nat) (val : A1 → ρ)
    (hs : ∀ (d : Nat) (post : ρ → Prop) (a1 : A1), ok a1 → post (val a1) → (∀ (post' : ρ → Prop) (b1 : A1), ok b1 → μ b1 < μ a1 → post' (val b1) → W d post' b1) → W (d + 1) post a1) :
    ∀ (d : Nat) (post : ρ → Prop) (a1 : A1), ok a1 → μ a1 < d → post (val a1) → W d post a1 := by
  intro d
  induction d with
  | zero => intro post a1 _ h; omega
  | succ d ih =>
    intro post a1 ho hm hp
    exact hs d post a1 ho hp (fun post' b1 ho' hm' hp' => ih post' b1 ho' (by omega) hp')
theorem rp2 {ρ A1 A2 : Type} (W : Nat → (ρ → Prop) → A1 → A2 → Prop) (ok : A1 → A2 → Prop) (μ : A1 → A2 → Nat) (val : A1 → A2 → ρ)
    (hs : ∀ (d : Nat) (post : ρ → Prop) (a1 : A1) (a2 : A2), ok a1 a2 → post (val a1 a2) → (∀ (post' : ρ → Prop) (b1 : A1) (b2 : A2), ok b1 b2 → μ b1 b2 < μ a1 a2 → post' (val b1 b2) → W d post' b1 b2) → W (d + 1) post a1 a2) :
    ∀ (d : Nat) (post : ρ → Prop) (a1 : A1) (a2 : A2), ok a1 a2 → μ a1 a2 < d → post (val a1 a2) → W d post a1 a2 := by
  intro d
  induction d with
  | zero => intro post a1 a2 _ h; omega
  | succ d ih =>
    intro post a1 a2 ho hm hp
    exact hs d post a1 a2 ho hp (fun post' b1 b2 ho' hm' hp' => ih post' b1 b2 ho' (by omega) hp')
theorem rp3 {ρ A1 A2 A3 : Type} (W : Nat → (ρ → Prop) → A1 → A2 → A3 → Prop) (ok : A1 → A2 → A3 → Prop) (μ : A1 → A2 → A3 → Nat) (val : A1 → A2 → A3 → ρ)
    (hs : ∀ (d : Nat) (post : ρ → Prop) (a1 : A1) (a2 : A2) (a3 : A3), ok a1 a2 a3 → post (val a1 a2 a3) → (∀ (post' : ρ → Prop) (b1 : A1) (b2 : A2) (b3 : A3), ok b1 b2 b3 → μ b1 b2 b3 < μ a1 a2 a3 → post' (val b1 b2 b3) → W d post' b1 b2 b3) → W (d + 1) post a1 a2 a3) :
    ∀ (d : Nat) (post : ρ → Prop) (a1 : A1) (a2 : A2) (a3 : A3), ok a1 a2 a3 → μ a1 a2 a3 < d → post (val a1 a2 a3) → W d post a1 a2 a3 := by
  intro d
  induction d with
  | zero => intro post a1 a2 a3 _ h; omega
  | succ d ih =>
    intro post a1 a2 a3 ho hm hp
    exact hs d post a1 a2 a3 ho hp (fun post' b1 b2 b3 ho' hm' hp' => ih post' b1 b2 b3 ho' (by omega) hp')
theorem rp4 {ρ A1 A2 A3 A4 : Type} (W : Nat → (ρ → Prop) → A1 → A2 → A3 → A4 → Prop) (ok : A1 → A2 → A3 → A4 → Prop) (μ : A1 → A2 → A3 → A4 → Nat) (val : A1 → A2 → A3 → A4 → ρ)
    (hs : ∀ (d : Nat) (post : ρ → Prop) (a1 : A1) (a2 : A2) (a3 : A3) (a4 : A4), ok a1 a2 a3 a4 → post (val a1 a2 a3 a4) → (∀ (post' : ρ → Prop) (b1 : A1) (b2 : A2) (b3 : A3) (b4 : A4), ok b1 b2 b3 b4 → μ b1 b2 b3 b4 < μ a1 a2 a3 a4 → post' (val b1 b2 b3 b4) → W d post' b1 b2 b3 b4) → W (d + 1) post a1 a2 a3 a4) :
    ∀ (d : Nat) (post : ρ → Prop) (a1 : A1) (a2 : A2) (a3 : A3) (a4 : A4), ok a1 a2 a3 a4 → μ a1 a2 a3 a4 < d → post (val a1 a2 a3 a4) → W d post a1 a2 a3 a4 := by
  intro d
  induction d with
  | zero => intro post a1 a2 a3 a4 _ h; omega
  | succ d ih =>
    intro post a1 a2 a3 a4 ho hm hp
    exact hs d post a1 a2 a3 a4 ho hp (fun post' b1 b2 b3 b4 ho' hm' hp' => ih post' b1 b2 b3 b4 ho' (by omega) hp')
theorem rp5 {ρ A1 A2 A3 A4 A5 : Type} (W : Nat → (ρ → Prop) → A1 → A2 → A3 → A4 → A5 → Prop) (ok : A1 → A2 → A3 → A4 → A5 → Prop) (μ : A1 → A2 → A3 → A4 → A5 → Nat) (val : A1 → A2 → A3 → A4 → A5 → ρ)
    (hs : ∀ (d : Nat) (post : ρ → Prop) (a1 : A1) (a2 : A2) (a3 : A3) (a4 : A4) (a5 : A5), ok a1 a2 a3 a4 a5 → post (val a1 a2 a3 a4 a5) → (∀ (post' : ρ → Prop) (b1 : A1) (b2 : A2) (b3 : A3) (b4 : A4) (b5 : A5), ok b1 b2 b3 b4 b5 → μ b1 b2 b3 b4 b5 < μ a1 a2 a3 a4 a5 → post' (val b1 b2 b3 b4 b5) → W d post' b1 b2 b3 b4 b5) → W (d + 1) post a1 a2 a3 a4 a5) :
    ∀ (d : Nat) (post : ρ → Prop) (a1 : A1) (a2 : A2) (a3 : A3) (a4 : A4) (a5 : A5), ok a1 a2 a3 a4 a5 → μ a1 a2 a3 a4 a5 < d → post (val a1 a2 a3 a4 a5) → W d post a1 a2 a3 a4 a5 := by
  intro d
  induction d with
  | zero => intro post a1 a2 a3 a4 a5 _ h; omega
  | succ d ih =>
    intro post a1 a2 a3 a4 a5 ho hm hp
    exact hs d post a1 a2 a3 a4 a5 ho hp (fun post' b1 b2 b3 b4 b5 ho' hm' hp' => ih post' b1 b2 b3 b4 b5 ho' (by omega) hp')
theorem rp6 {ρ A1 A2 A3 A4 A5 A6 : Type} (W : Nat → (ρ → Prop) → A1 → A2 → A3 → A4 → A5 → A6 → Prop) (ok : A1 → A2 → A3 → A4 → A5 → A6 → Prop) (μ : A1 → A2 → A3 → A4 → A5 → A6 → Nat) (val : A1 → A2 → A3 → A4 → A5 → A6 → ρ)
    (hs : ∀ (d : Nat) (post : ρ → Prop) (a1 : A1) (a2 : A2) (a3 : A3) (a4 : A4) (a5 : A5) (a6 : A6), ok a1 a2 a3 a4 a5 a6 → post (val a1 a2 a3 a4 a5 a6) → (∀ (post' : ρ → Prop) (b1 : A1) (b2 : A2) (b3 : A3) (b4 : A4) (b5 : A5) (b6 : A6), ok b1 b2 b3 b4 b5 b6 → μ b1 b2 b3 b4 b5 b6 < μ a1 a2 a3 a4 a5 a6 → post' (val b1 b2 b3 b4 b5 b6) → W d post' b1 b2 b3 b4 b5 b6) → W (d + 1) post a1 a2 a3 a4 a5 a6) :
    ∀ (d : Nat) (post : ρ → Prop) (a1 : A1) (a2 : A2) (a3 : A3) (a4 : A4) (a5 : A5) (a6 : A6), ok a1 a2 a3 a4 a5 a6 → μ a1 a2 a3 a4 a5 a6 < d → post (val a1 a2 a3 a4 a5 a6) → W d post a1 a2 a3 a4 a5 a6 := by
  intro d
  induction d with
  | zero => intro post a1 a2 a3 a4 a5 a6 _ h; omega
  | succ d ih =>
    intro post a1 a2 a3 a4 a5 a6 ho hm hp
    exact hs d post a1 a2 a3 a4 a5 a6 ho hp (fun post' b1 b2 b3 b4 b5 b6 ho' hm' hp' => ih post' b1 b2 b3 b4 b5 b6 ho' (by omega) hp')
theorem rec_p {σ ρ : Type} (W : Nat → (ρ → Prop) → σ → Prop) (ok : σ → Prop) (μ : σ → Nat) (val : σ → ρ)
    (hs : ∀ d s post, ok s → post (val s) → (∀ s' post', ok s' → μ s' < μ s → post' (val s') → W d post' s') → W (d + 1) post s) :
    ∀ d s post, ok s → μ s < d → post (val s) → W d post s := by
  intro d
  induction d with
  | zero => intro s post _ h; omega
  | succ d ih =>
    intro s post ho hm hp
    exact hs d s post ho hp (fun s' post' ho' hm' hp' => ih s' post' ho' (by omega) hp')
theorem rec_q {σ ρ : Type} (W : Nat → (ρ → Prop) → σ → Prop) (ok : σ → Prop) (μ : σ → Nat) (Q : σ → ρ → Prop)
    (hs : ∀ d s post, ok s → (∀ r, Q s r → post r) → (∀ s' post', ok s' → μ s' < μ s → (∀ r, Q s' r → post' r) → W d post' s') → W (d + 1) post s) :
    ∀ d s post, ok s → μ s < d → (∀ r, Q s r → post r) → W d post s := by
  intro d
  induction d with
  | zero => intro s post _ h; omega
  | succ d ih =>
    intro s post ho hm hp
    exact hs d s post ho hp (fun s' post' ho' hm' hp' => ih s' post' ho' (by omega) hp')
def bx_sum (f : Nat → Int32) : Nat → Int32
  | 0 => 0
  | n + 1 => bx_sum f n + f n
theorem ek_u {A : Prop} {B : Nat → Prop} {k N : Nat} (hk : k < N) (h : B k) : (some k = none → A) ∧ (∀ y : Nat, some k = some y → (y < N ∧ B y)) :=
  ⟨fun z => absurd z (Option.some_ne_none k), fun _ e => (by cases e; exact ⟨hk, h⟩)⟩
theorem ek_nu {A : Prop} {B : Nat → Prop} (h : A) : ((none : Option Nat) = none → A) ∧ (∀ y : Nat, (none : Option Nat) = some y → B y) :=
  ⟨fun _ => h, fun _ e => (by cases e)⟩
theorem ek_if {c d A B : Prop} (e : c ↔ d) (f : d → A) (g : ¬ d → B) : (c → A) ∧ (¬ c → B) :=
  ⟨fun z => f (e.mp z), fun z => g (fun y => z (e.mpr y))⟩
theorem ek_v {α : Sort _} {P : α → Prop} {a b : α} (e : a = b) (h : P b) : P a := e ▸ h
theorem co_some {x : Option Nat} {A : Prop} {B : Nat → Prop} (i : Nat) (h : B i) (hx : x = some i := by rfl) : (x = none → A) ∧ (∀ y : Nat, x = some y → B y) := by
  subst hx
  exact ⟨fun e => (nomatch e), fun y e => Option.some.inj e ▸ h⟩
theorem co_none {x : Option Nat} {A : Prop} {B : Nat → Prop} (h : A) (hx : x = none := by rfl) : (x = none → A) ∧ (∀ y : Nat, x = some y → B y) := by
  subst hx
  exact ⟨fun _ => h, fun y e => (nomatch e)⟩
theorem co_any {x : Option Nat} {A : Prop} {B : Nat → Prop} (hn : x = none → A) (hs : ∀ i : Nat, x = some i → B i) : (x = none → A) ∧ (∀ y : Nat, x = some y → B y) := ⟨hn, hs⟩
theorem co_2 {P : Nat → Prop} (h0 : P 0) (h1 : P 1) {i : Nat} (hi : i < 2) : P i :=
  match i, hi with
  | 0, _ => h0
  | 1, _ => h1
theorem co_3 {P : Nat → Prop} (h0 : P 0) (h1 : P 1) (h2 : P 2) {i : Nat} (hi : i < 3) : P i :=
  match i, hi with
  | 0, _ => h0
  | 1, _ => h1
  | 2, _ => h2
theorem co_4 {P : Nat → Prop} (h0 : P 0) (h1 : P 1) (h2 : P 2) (h3 : P 3) {i : Nat} (hi : i < 4) : P i :=
  match i, hi with
  | 0, _ => h0
  | 1, _ => h1
  | 2, _ => h2
  | 3, _ => h3
theorem co_dec {N : Nat} {P : Nat → Prop} [DecidablePred P] (h : (List.range N).all (fun i => decide (P i)) = true) {i : Nat} (hi : i < N) : P i := by
  have := List.all_eq_true.mp h i (List.mem_range.mpr hi)
  exact of_decide_eq_true this
theorem co_tab {α : Type} {l : List α} {d : α} {P : α → Prop} (h : ∀ a, a ∈ l → P a) {i : Nat} (hi : i < l.length) : P (l.getD i d) := by
  rw [List.getD_eq_getElem?_getD, List.getElem?_eq_getElem hi]
  exact h _ (List.getElem_mem hi)
theorem pk_mu {x : Int32} {L : Nat} (h0 : ¬ x < 0) (h : ¬ nI L ≤ x) (hL : L < 2 ^ 31) : ∃ j : Nat, j < L ∧ x = nI j ∧ x + 1 = nI (j + 1) ∧ x.toNatClampNeg = j ∧ L - (x + 1).toNatClampNeg < L - x.toNatClampNeg := by
  obtain ⟨j, hj, rfl⟩ := nI_of h0
  have hl : j < L := Nat.not_le.mp fun q => h (nI_le q hj)
  refine ⟨j, hl, rfl, nI_1 j, nI_clamp hj, ?_⟩
  rw [nI_1, nI_clamp (by omega), nI_clamp hj]
  omega
theorem op_s {α : Type} {r : Option α} {A : Prop} {B : α → Prop} {y : α} (h : r = some y) (b : B y) : (r = none → A) ∧ ∀ z, r = some z → B z :=
  ⟨fun e => (by rw [h] at e; cases e), fun z e => (by rw [h] at e; cases e; exact b)⟩
def l_holds {α : Type} (a : Nat → Option Nat) (LP : List Nat) (p : Nat → α) (c : Nat) (b : Nat → α) : Prop :=
  ∀ j, j < c → ∃ y, a j = some y ∧ y ∈ LP ∧ p y = b j
theorem l_holds_0 {α : Type} {a : Nat → Option Nat} {LP : List Nat} {p b : Nat → α} : l_holds a LP p 0 b := fun j h => absurd h (Nat.not_lt_zero j)
theorem l_in_new (LP : List Nat) (q : Nat) : q ∈ LP ++ [q] := List.mem_append.mpr (Or.inr (List.mem_singleton.mpr rfl))
def l_sum (b : Nat → Int32) : Nat → Int32
  | 0 => 0
  | k + 1 => l_sum b k + b k
theorem sb_shr0 (x : Int32) : x >>> ((0 : Int32) &&& 31) = x := by
  rw [show ((0 : Int32) &&& 31) = 0 by decide]
  simp
theorem sb_shl0 (x : Int32) : x <<< ((0 : Int32) &&& 31) = x := by
  rw [show ((0 : Int32) &&& 31) = 0 by decide]
  simp
theorem sb_cl0 : (0 : Int32).toNatClampNeg = 0 := by decide
theorem sb_m1 {p : Nat} (h : 0 < p) : nI p + (-1) = nI (p - 1) := by
  obtain ⟨q, rfl⟩ : ∃ q, p = q + 1 := ⟨p - 1, by omega⟩
  exact pk_m1 q
def sb_b (c : Nat) : Int32 := (nI c).toInt8.toInt32
theorem sb_byte : ∀ c, c < 256 → sb_b c &&& 255 = nI c ∧ ((nI c).toUInt32 % 65536).toInt32 = nI c ∧ nI c ≤ 255 := by decide +kernel
def sb_Fit (a : Nat → Int32) : Prop := ∀ j, fits .byte (.int (a j)) = true
def sb_Lat (t : Nat → Nat) (n : Nat) (a : Nat → Int32) : Prop := ∀ j, j < n → t j < 256 ∧ a j = sb_b (t j)
theorem sb_fitB (c : Nat) : fits .byte (.int (sb_b c)) = true := pk_fb _
theorem sb_fit0 : sb_Fit (fun _ => 0) := fun _ => by
  show fits .byte (.int 0) = true
  decide
theorem sb_fitU {a : Nat → Int32} {k : Nat} {x : Int32} (h : sb_Fit a) (hx : fits .byte (.int x) = true) : sb_Fit (upd a k x) := by
  intro j
  by_cases e : j = k
  · subst e
    rw [pk_us]
    exact hx
  · rw [pk_un e]
    exact h j
def sb_cat (t : Nat → Nat) (n : Nat) (s : Nat → Nat) : Nat → Nat := fun j => if j < n then t j else s (j - n)
theorem sb_cat_lo {t s : Nat → Nat} {n j : Nat} (h : j < n) : sb_cat t n s j = t j := if_pos h
theorem sb_cat_hi {t s : Nat → Nat} {n j : Nat} : sb_cat t n s (n + j) = s j := by
  show (if n + j < n then t (n + j) else s (n + j - n)) = s j
  rw [if_neg (by omega), Nat.add_sub_cancel_left]
theorem sb_latPut {t s : Nat → Nat} {n w : Nat} {a a' : Nat → Int32} (h : sb_Lat t n a) (hk : ∀ j, j < n → a' j = a j) (hs : ∀ i, i < w → s i < 256 ∧ a' (n + i) = sb_b (s i)) : sb_Lat (sb_cat t n s) (n + w) a' := by
  intro j hj
  by_cases e : j < n
  · rw [sb_cat_lo e, hk j e]
    exact h j e
  · obtain ⟨i, rfl⟩ : ∃ i, j = n + i := ⟨j - n, by omega⟩
    rw [sb_cat_hi]
    exact hs i (by omega)
theorem sb_latKeep {t : Nat → Nat} {n : Nat} {a a' : Nat → Int32} (h : sb_Lat t n a) (hk : ∀ j, j < n → a' j = a j) : sb_Lat t n a' := fun j hj => by
  rw [hk j hj]
  exact h j hj
def sb_cap (q m : Nat) : Nat := if q ≤ m then m else if 2 * m + 2 < q then q else 2 * m + 2
def sb_Room (q m mc ms : Nat) : Prop := q ≤ m ∨ (1 ≤ mc ∧ sb_cap q m ≤ ms ∧ sb_cap q m ≤ 65536)
theorem sb_cap_ge (q m : Nat) : q ≤ sb_cap q m := by
  unfold sb_cap
  split
  · omega
  · split <;> omega
theorem sb_cap_gem (q m : Nat) : m ≤ sb_cap q m := by
  unfold sb_cap
  split
  · omega
  · split <;> omega
theorem sb_cap_le {q m mc ms : Nat} (hm : m ≤ 65536) (hr : sb_Room q m mc ms) : sb_cap q m ≤ 65536 := by
  rcases hr with h | h
  · rw [sb_cap, if_pos h]
    exact hm
  · exact h.2.2
theorem sb_at {P : Int32 → Prop} {x y : Int32} (e : x = y) (h : P y) : P x := e ▸ h
def sb_dg (w : Nat) : Nat := if w < 10 then 1 else if w < 100 then 2 else if w < 1000 then 3 else if w < 10000 then 4 else if w < 100000 then 5 else if w < 1000000 then 6 else if w < 10000000 then 7 else if w < 100000000 then 8 else if w < 1000000000 then 9 else 10
def sb_dec (v : Nat) : Nat → Nat := fun i => 48 + v / 10 ^ (sb_dg v - 1 - i) % 10
theorem sb_dg_in (w : Nat) : 1 ≤ sb_dg w ∧ sb_dg w ≤ 10 := by
  unfold sb_dg
  constructor <;> (repeat' split) <;> omega
theorem sb_dg100 {w : Nat} (h : 100 ≤ w) (hw : w < 2 ^ 31) : sb_dg w = sb_dg (w / 100) + 2 := by
  rw [sb_dg, sb_dg, if_neg (show ¬ w < 10 by omega), if_neg (show ¬ w < 100 by omega)]
  by_cases h3 : w < 1000
  · rw [if_pos h3, if_pos (show w / 100 < 10 by omega)]
  rw [if_neg h3, if_neg (show ¬ w / 100 < 10 by omega)]
  by_cases h4 : w < 10000
  · rw [if_pos h4, if_pos (show w / 100 < 100 by omega)]
  rw [if_neg h4, if_neg (show ¬ w / 100 < 100 by omega)]
  by_cases h5 : w < 100000
  · rw [if_pos h5, if_pos (show w / 100 < 1000 by omega)]
  rw [if_neg h5, if_neg (show ¬ w / 100 < 1000 by omega)]
  by_cases h6 : w < 1000000
  · rw [if_pos h6, if_pos (show w / 100 < 10000 by omega)]
  rw [if_neg h6, if_neg (show ¬ w / 100 < 10000 by omega)]
  by_cases h7 : w < 10000000
  · rw [if_pos h7, if_pos (show w / 100 < 100000 by omega)]
  rw [if_neg h7, if_neg (show ¬ w / 100 < 100000 by omega)]
  by_cases h8 : w < 100000000
  · rw [if_pos h8, if_pos (show w / 100 < 1000000 by omega)]
  rw [if_neg h8, if_neg (show ¬ w / 100 < 1000000 by omega)]
  by_cases h9 : w < 1000000000
  · rw [if_pos h9, if_pos (show w / 100 < 10000000 by omega)]
  rw [if_neg h9, if_neg (show ¬ w / 100 < 10000000 by omega)]
  rw [if_pos (show w / 100 < 100000000 by omega)]
theorem sb_negT {w : Nat} (h : w < 2 ^ 31) : (-nI w).toInt = -(w : Int) := by
  rw [Int32.toInt_neg, nI_toInt h]
  exact Int.bmod_eq_of_le (by omega) (by omega)
theorem sb_nle {a b : Nat} (ha : a < 2 ^ 31) (hb : b < 2 ^ 31) : -nI a ≤ -nI b ↔ b ≤ a := by
  rw [Int32.le_iff_toInt_le, sb_negT ha, sb_negT hb]
  omega
theorem sb_nlt {a b : Nat} (ha : a < 2 ^ 31) (hb : b < 2 ^ 31) : -nI a < -nI b ↔ b < a := by
  rw [Int32.lt_iff_toInt_lt, sb_negT ha, sb_negT hb]
  omega
theorem sb_cmp {A B : Prop} {x : Int32} (v c : Nat) (f : c ≤ v → A) (g : v < c → B) (hv : v < 2 ^ 31) (hx : x = -nI c := by rfl) (hc : c < 2 ^ 31 := by omega) : (-nI v ≤ x → A) ∧ (¬ -nI v ≤ x → B) := by
  subst hx
  rw [sb_nle hv hc]
  exact ⟨f, fun z => g (by omega)⟩
theorem sb_ndiv {w : Nat} (hw : w < 2 ^ 31) : (-nI w) / 100 = -nI (w / 100) := by
  apply Int32.toInt_inj.mp
  have h100 : (100 : Int32).toInt = 100 := by decide
  rw [Int32.toInt_div, sb_negT hw, h100, sb_negT (by omega), Int.neg_tdiv, Int.tdiv_eq_ediv_of_nonneg (by omega), Int.bmod_eq_of_le (by omega) (by omega)]
  omega
theorem sb_nrem {w : Nat} (hw : w < 2 ^ 31) : (-nI (w / 100)) * 100 - (-nI w) = nI (w % 100) := by
  have h := pk_rem (a := w) (d := 100) hw (by decide) (by decide)
  rw [pk_div hw (by decide) (by decide)] at h
  rw [← h]
  show (-nI (w / 100)) * nI 100 - (-nI w) = nI w - nI (w / 100) * nI 100
  rw [Int32.neg_mul, Int32.sub_neg, Int32.add_comm, ← Int32.sub_eq_add_neg]
/-! rows on bits, shifts and unsigned numbers, to paste: each family out of a closed proof of our own, whole with what it rests on; each by itself clean at Lean in its own claim (generation 39, form 5). Take a family whole -/
/-! ===== Int32 by its bits: bt x i ===== -/
def bt (x : Int32) (i : Nat) : Bool := x.toBitVec.getLsbD i
theorem b_ext {x y : Int32} (h : ∀ i, i < 32 → bt x i = bt y i) : x = y := Int32.toBitVec_inj.mp (BitVec.eq_of_getLsbD_eq (fun i hi => h i hi))
theorem b_or (x y : Int32) (i : Nat) : bt (x ||| y) i = (bt x i || bt y i) := by unfold bt; rw [Int32.toBitVec_or, BitVec.getLsbD_or]
theorem b_and (x y : Int32) (i : Nat) : bt (x &&& y) i = (bt x i && bt y i) := by unfold bt; rw [Int32.toBitVec_and, BitVec.getLsbD_and]
theorem b_xor (x y : Int32) (i : Nat) : bt (x ^^^ y) i = (bt x i ^^ bt y i) := by unfold bt; rw [Int32.toBitVec_xor, BitVec.getLsbD_xor]
theorem b_big {x : Int32} {i : Nat} (h : 32 ≤ i) : bt x i = false := BitVec.getLsbD_of_ge _ _ h
theorem b_255 (i : Nat) : bt 255 i = decide (i < 8) := by
  rcases Nat.lt_or_ge i 32 with h | h
  · exact (by decide +kernel : ∀ i, i < 32 → bt 255 i = decide (i < 8)) i h
  · rw [b_big h, decide_eq_false (by omega)]
theorem b_65535 (i : Nat) : bt 65535 i = decide (i < 16) := by
  rcases Nat.lt_or_ge i 32 with h | h
  · exact (by decide +kernel : ∀ i, i < 32 → bt 65535 i = decide (i < 16)) i h
  · rw [b_big h, decide_eq_false (by omega)]
theorem b_m1 : ∀ i, i < 32 → bt (-1) i = true := by decide +kernel
theorem b_0 (i : Nat) : bt 0 i = false := BitVec.getLsbD_zero
theorem s_l : ∀ n, n < 32 → ((nI n &&& 31).toBitVec.smod 32).toNat = n := by decide +kernel
theorem s_u : ∀ n, n < 32 → (((nI n).toUInt32 &&& Int32.toUInt32 31).toBitVec % 32).toNat = n := by decide +kernel
theorem b_shl (n : Nat) (hn : n < 32) (x : Int32) {i : Nat} (hi : i < 32) : bt (x <<< (nI n &&& 31)) i = (decide (n ≤ i) && bt x (i - n)) := by
  unfold bt
  rw [Int32.toBitVec_shiftLeft]
  show (x.toBitVec <<< ((nI n &&& 31).toBitVec.smod 32).toNat).getLsbD i = _
  rw [s_l n hn, BitVec.getLsbD_shiftLeft]
  rcases Nat.lt_or_ge i n with h | h
  · simp [h, Nat.not_le.mpr h]
  · simp [hi, h, Nat.not_lt.mpr h]
theorem b_ushr (n : Nat) (hn : n < 32) (x : Int32) (i : Nat) : bt ((x.toUInt32 >>> ((nI n).toUInt32 &&& Int32.toUInt32 31)).toInt32) i = bt x (n + i) := by
  show (x.toUInt32 >>> ((nI n).toUInt32 &&& Int32.toUInt32 31)).toBitVec.getLsbD i = x.toUInt32.toBitVec.getLsbD (n + i)
  rw [UInt32.toBitVec_shiftRight]
  show (x.toUInt32.toBitVec >>> (((nI n).toUInt32 &&& Int32.toUInt32 31).toBitVec % 32).toNat).getLsbD i = _
  rw [s_u n hn, BitVec.getLsbD_ushiftRight]
theorem b_sshr (n : Nat) (hn : n < 32) (x : Int32) {i : Nat} (hi : i < 32) : bt (x >>> (nI n &&& 31)) i = if n + i < 32 then bt x (n + i) else bt x 31 := by
  unfold bt
  rw [Int32.toBitVec_shiftRight]
  show (x.toBitVec.sshiftRight ((nI n &&& 31).toBitVec.smod 32).toNat).getLsbD i = _
  rw [s_l n hn, BitVec.getLsbD_sshiftRight, BitVec.msb_eq_getLsbD_last]
  simp [hi]
theorem b_shl8 (x : Int32) {i : Nat} (hi : i < 32) : bt (x <<< ((8 : Int32) &&& 31)) i = (decide (8 ≤ i) && bt x (i - 8)) := b_shl 8 (by omega) x hi
theorem b_shl16 (x : Int32) {i : Nat} (hi : i < 32) : bt (x <<< ((16 : Int32) &&& 31)) i = (decide (16 ≤ i) && bt x (i - 16)) := b_shl 16 (by omega) x hi
theorem b_shl24 (x : Int32) {i : Nat} (hi : i < 32) : bt (x <<< ((24 : Int32) &&& 31)) i = (decide (24 ≤ i) && bt x (i - 24)) := b_shl 24 (by omega) x hi
theorem b_sshr8 (x : Int32) {i : Nat} (hi : i < 32) : bt (x >>> ((8 : Int32) &&& 31)) i = if 8 + i < 32 then bt x (8 + i) else bt x 31 := b_sshr 8 (by omega) x hi
/-! ===== nI under and, xor, >>>, one bit, 65535 ===== -/
theorem nx_and (a b : Nat) : nI a &&& nI b = nI (a &&& b) := by
  apply Int32.toBitVec_inj.1
  show BitVec.ofNat 32 a &&& BitVec.ofNat 32 b = BitVec.ofNat 32 (a &&& b)
  apply BitVec.eq_of_getLsbD_eq
  intro i hi
  simp [hi]
theorem nx_xor (a b : Nat) : nI a ^^^ nI b = nI (a ^^^ b) := by
  apply Int32.toBitVec_inj.1
  show BitVec.ofNat 32 a ^^^ BitVec.ofNat 32 b = BitVec.ofNat 32 (a ^^^ b)
  apply BitVec.eq_of_getLsbD_eq
  intro i hi
  simp [hi]
theorem nx_cnt : ∀ j : Fin 32, (UInt32.ofNat j.val &&& Int32.toUInt32 31).toNat % 32 = j.val := by decide +kernel
theorem nx_ush {k j : Nat} (hk : k < 65536) (hj : j < 32) : ((nI k).toUInt32 >>> ((nI j).toUInt32 &&& Int32.toUInt32 31)).toInt32 = nI (k >>> j) := by
  have hs : k >>> j ≤ k := by
    rw [Nat.shiftRight_eq_div_pow]
    exact Nat.div_le_self _ _
  have e2 : UInt32.ofNat k >>> (UInt32.ofNat j &&& Int32.toUInt32 31) = UInt32.ofNat (k >>> j) := by
    apply UInt32.toNat_inj.1
    have h1 : (UInt32.ofNat k).toNat = k := Nat.mod_eq_of_lt (by omega)
    have h2 : (UInt32.ofNat (k >>> j)).toNat = k >>> j := Nat.mod_eq_of_lt (by omega)
    rw [UInt32.toNat_shiftRight, nx_cnt ⟨j, hj⟩, h1, h2]
  show (UInt32.ofNat k >>> (UInt32.ofNat j &&& Int32.toUInt32 31)).toInt32 = _
  rw [e2]
  rfl
theorem nx_bit {k j : Nat} (hk : k < 65536) (hj : j < 16) : (((nI k).toUInt32 >>> ((nI j).toUInt32 &&& Int32.toUInt32 31)).toInt32 &&& 1) = 0 ↔ k.testBit j = false := by
  rw [nx_ush hk (by omega)]
  show nI (k >>> j) &&& nI 1 = 0 ↔ _
  rw [nx_and, Nat.and_one_is_mod, ← nI_0, nI_eq (by omega) (by omega), Nat.testBit_eq_decide_div_mod_eq, Nat.shiftRight_eq_div_pow, decide_eq_false_iff_not]
  generalize k / 2 ^ j = z
  omega
theorem nx_mod (k : Nat) : nI k &&& 65535 = nI (k % 65536) := by
  show nI k &&& nI 65535 = _
  rw [nx_and, show (65535 : Nat) = 2 ^ 16 - 1 from rfl, Nat.and_two_pow_sub_one_eq_mod]
theorem nx_m16 {k : Nat} (h : k < 65536) : nI k &&& 65535 = nI k := by rw [nx_mod, Nat.mod_eq_of_lt h]
theorem nx_mask (x : Int32) : ∃ k, k < 65536 ∧ x &&& 65535 = nI k := by
  have e : x = nI x.toBitVec.toNat := by
    apply Int32.toBitVec_inj.1
    show x.toBitVec = BitVec.ofNat 32 x.toBitVec.toNat
    simp
  refine ⟨x.toBitVec.toNat % 65536, Nat.mod_lt _ (by omega), ?_⟩
  rw [← nx_mod, ← e]
/-! ===== Int32 as a set of bits: test, set ===== -/
def nf_M (m : Int32) : Nat := 4294967296 - m.toBitVec.toNat
theorem nf_sh : ∀ l, l < 32 → ((1 : Int32) <<< (nI l &&& 31)).toBitVec = BitVec.twoPow 32 l := by decide +kernel
theorem nf_sl : ∀ l, l < 32 → (((nI l).toUInt32 &&& Int32.toUInt32 31).toBitVec % 32).toNat = l := by decide +kernel
theorem nf_tp : ∀ l, l < 32 → BitVec.twoPow 32 l ≠ 0#32 := by decide +kernel
theorem nf_bit (m : Int32) (l : Nat) (hl : l < 32) : ((m.toUInt32 >>> ((nI l).toUInt32 &&& Int32.toUInt32 31)).toInt32 &&& 1) = 0 ↔ (m &&& ((1 : Int32) <<< (nI l &&& 31))) = 0 := by
  have e : ((m.toUInt32 >>> ((nI l).toUInt32 &&& Int32.toUInt32 31)).toInt32).toBitVec = m.toBitVec >>> l := by
    show m.toBitVec >>> (((nI l).toUInt32 &&& Int32.toUInt32 31).toBitVec % 32) = m.toBitVec >>> l
    rw [BitVec.ushiftRight_eq', nf_sl l hl]
  rw [← Int32.toBitVec_inj, ← Int32.toBitVec_inj, Int32.toBitVec_and, Int32.toBitVec_and, nf_sh l hl, e, BitVec.and_twoPow]
  show (m.toBitVec >>> l &&& 1#32) = 0#32 ↔ _ = 0#32
  rw [BitVec.and_one_eq_setWidth_ofBool_getLsbD, BitVec.getLsbD_ushiftRight, Nat.add_zero]
  cases hb : m.toBitVec.getLsbD l
  · exact ⟨fun _ => by simp, fun _ => by decide⟩
  · exact ⟨fun z => absurd z (by decide), fun z => absurd ((if_pos rfl).symm.trans z) (nf_tp l hl)⟩
theorem nf_gr (m k : Int32) (h : m &&& k = 0) (hk : k ≠ 0) : nf_M (m ||| k) < nf_M m := by
  have hm := m.toBitVec.isLt
  have hm' := (m ||| k).toBitVec.isLt
  have h1 : m.toBitVec.toNat ≤ (m ||| k).toBitVec.toNat := by
    rw [Int32.toBitVec_or, BitVec.toNat_or]
    exact Nat.left_le_or
  have h2 : m.toBitVec.toNat ≠ (m ||| k).toBitVec.toNat := by
    intro e
    have e2 : m = m ||| k := Int32.toBitVec_inj.mp (BitVec.eq_of_toNat_eq e)
    apply hk
    apply Int32.toBitVec_inj.mp
    show k.toBitVec = 0#32
    apply BitVec.eq_of_getLsbD_eq
    intro i hi
    have a : m.toBitVec.getLsbD i = (m.toBitVec.getLsbD i || k.toBitVec.getLsbD i) := by rw [← BitVec.getLsbD_or, ← Int32.toBitVec_or, ← e2]
    have b : (m.toBitVec.getLsbD i && k.toBitVec.getLsbD i) = false := by
      rw [← BitVec.getLsbD_and, ← Int32.toBitVec_and, h]
      exact BitVec.getLsbD_zero
    rw [BitVec.getLsbD_zero]
    revert a b
    cases m.toBitVec.getLsbD i <;> cases k.toBitVec.getLsbD i <;> simp
  unfold nf_M
  omega
/-! ===== a byte read unsigned ===== -/
theorem bp_b (x : Int32) : x.toInt8.toInt32 &&& 255 = x &&& 255 := by
  apply Int32.toBitVec_inj.mp
  rw [Int32.toBitVec_and, Int32.toBitVec_and, Int8.toBitVec_toInt32, Int32.toBitVec_toInt8]
  apply BitVec.eq_of_getLsbD_eq
  intro i hi
  rw [BitVec.getLsbD_and, BitVec.getLsbD_and]
  have hm : ∀ i < 32, 8 ≤ i → (255 : Int32).toBitVec.getLsbD i = false := by decide
  rcases Nat.lt_or_ge i 8 with z | z
  · rw [BitVec.getLsbD_signExtend, BitVec.getLsbD_signExtend, if_pos z, if_pos hi]
    simp only [z, hi, decide_true, Bool.true_and]
  · rw [hm i hi z]; simp
/-! ===== the char cast and 65535 ===== -/
theorem em_w (v : Int32) : ∃ w : Nat, w < 65536 ∧ (v.toUInt32 % 65536).toInt32 = nI w ∧ v &&& 65535 = nI w := by
  have hr := lw_u16_r v
  have h0 : (0 : Int32).toInt = 0 := by decide
  obtain ⟨w, h1, h2⟩ := nI_of (x := lw_u16 v) (by rw [Int32.lt_iff_toInt_lt]; omega)
  have h3 : (v.toUInt32 % 65536).toInt32 = nI w := h2
  rw [h2, nI_toInt h1] at hr
  exact ⟨w, by omega, h3, by rw [← lg_i2c_mask, ← lg_i2c_nf, h3]⟩
/-! ===== Int64 as a set of bits: test, set, clear ===== -/
theorem ts_nf {x : Bool} (h : ¬ x = false) : x = true := by cases x <;> first | rfl | exact absurd rfl h
theorem ts_nt {x : Bool} (h : ¬ x = true) : x = false := by cases x <;> first | rfl | exact absurd rfl h
theorem ts_bit {w : Int64} {s : UInt64} {j : Nat} (hj : j < 64) (hs : s.toNat = j) : ((w.toUInt64 >>> s).toInt64 &&& 1) = 0 ↔ w.toBitVec.getLsbD j = false := by
  have e : (w.toUInt64 >>> s).toInt64.toBitVec = w.toBitVec >>> j := by
    apply BitVec.eq_of_toNat_eq
    show (w.toUInt64 >>> s).toNat = _
    rw [UInt64.toNat_shiftRight, hs, Nat.mod_eq_of_lt hj, BitVec.toNat_ushiftRight]
    rfl
  rw [← Int64.toBitVec_inj, Int64.toBitVec_and, e]
  show w.toBitVec >>> j &&& 1#64 = 0#64 ↔ _
  constructor
  · intro h
    have t := congrArg (fun x => x.getLsbD 0) h
    simpa using t
  · intro h
    apply BitVec.eq_of_getLsbD_eq
    intro i hi
    cases i with
    | zero => simp [h]
    | succ i => simp
theorem ts_or {w m : Int64} {j : Nat} (hj : j < 64) (hm : m.toBitVec = BitVec.twoPow 64 j) : (w ||| m) = w ↔ w.toBitVec.getLsbD j = true := by
  rw [← Int64.toBitVec_inj, Int64.toBitVec_or, hm]
  constructor
  · intro h
    have t := congrArg (fun x => x.getLsbD j) h
    simp only [BitVec.getLsbD_or, BitVec.getLsbD_twoPow] at t
    simpa [hj] using t.symm
  · intro h
    apply BitVec.eq_of_getLsbD_eq
    intro i hi
    rw [BitVec.getLsbD_or, BitVec.getLsbD_twoPow]
    by_cases e : j = i
    · subst e; rw [h, Bool.true_or]
    · simp [e]
theorem ts_and {w m : Int64} {j : Nat} (hj : j < 64) (hm : m.toBitVec = BitVec.twoPow 64 j) : (w &&& (m ^^^ (-1))) = w ↔ w.toBitVec.getLsbD j = false := by
  have ha : (-1 : Int64).toBitVec = BitVec.allOnes 64 := by decide
  rw [← Int64.toBitVec_inj, Int64.toBitVec_and, Int64.toBitVec_xor, hm, ha]
  constructor
  · intro h
    have t := congrArg (fun x => x.getLsbD j) h
    simp only [BitVec.getLsbD_and, BitVec.getLsbD_xor, BitVec.getLsbD_twoPow, BitVec.getLsbD_allOnes] at t
    simpa [hj] using t.symm
  · intro h
    apply BitVec.eq_of_getLsbD_eq
    intro i hi
    rw [BitVec.getLsbD_and, BitVec.getLsbD_xor, BitVec.getLsbD_twoPow, BitVec.getLsbD_allOnes]
    by_cases e : j = i
    · subst e; rw [h, Bool.false_and]
    · simp [e, hi]
/-! ===== lN n to 2^64: shifts, and, or, masks, one bit ===== -/
theorem wb_tb (n : Nat) : (lN n).toBitVec = BitVec.ofNat 64 n := rfl
theorem wb_inj {a b : Int64} (h : a.toBitVec = b.toBitVec) : a = b := Int64.toBitVec_inj.mp h
theorem wb_tn {n : Nat} (h : n < 2 ^ 64) : (lN n).toBitVec.toNat = n := by rw [wb_tb, BitVec.toNat_ofNat, Nat.mod_eq_of_lt h]
theorem wb_of (x : Int64) : ∃ n, n < 2 ^ 64 ∧ x = lN n := ⟨x.toBitVec.toNat, x.toBitVec.isLt, wb_inj (by rw [wb_tb]; simp)⟩
theorem wb_of32 (x : Int32) : ∃ n, n < 2 ^ 32 ∧ x = nI n := ⟨x.toBitVec.toNat, x.toBitVec.isLt, Int32.toBitVec_inj.mp (by show _ = BitVec.ofNat 32 _; simp)⟩
theorem wb_c : ∀ k, k < 64 → ((nI k).toInt64 &&& 63) = lN k := by decide +kernel
theorem wb_cu : ∀ k, k < 64 → ((nI k).toInt64.toUInt64 &&& Int64.toUInt64 63) = UInt64.ofNat k := by decide +kernel
theorem wb_sm : ∀ k, k < 64 → (BitVec.ofNat 64 k).smod 64 = BitVec.ofNat 64 k := by decide +kernel
theorem wb_pw {a b : Nat} (h : a ≤ b) : 2 ^ b = 2 ^ a * 2 ^ (b - a) := by rw [← Nat.pow_add]; congr 1; omega
theorem wb_lt2 {a b : Nat} (h : a < b) : 2 ^ a < 2 ^ b := Nat.pow_lt_pow_right (by decide) h
theorem wb_mod (n : Nat) : lN n = lN (n % 2 ^ 64) := wb_inj (by rw [wb_tb, wb_tb]; apply BitVec.eq_of_toNat_eq; rw [BitVec.toNat_ofNat, BitVec.toNat_ofNat, Nat.mod_mod])
theorem wb_shr {n k : Nat} (hn : n < 2 ^ 64) (hk : k < 64) : ((lN n).toUInt64 >>> ((nI k).toInt64.toUInt64 &&& Int64.toUInt64 63)).toInt64 = lN (n / 2 ^ k) := by
  rw [wb_cu k hk]
  apply wb_inj
  apply BitVec.eq_of_toNat_eq
  show ((lN n).toUInt64 >>> UInt64.ofNat k).toNat = (BitVec.ofNat 64 _).toNat
  have h1 : (UInt64.ofNat k).toNat = k := by
    show (BitVec.ofNat 64 k).toNat = k
    rw [BitVec.toNat_ofNat, Nat.mod_eq_of_lt (by omega)]
  have h2 : (lN n).toUInt64.toNat = n := wb_tn hn
  rw [UInt64.toNat_shiftRight, h1, h2, Nat.mod_eq_of_lt hk, Nat.shiftRight_eq_div_pow, BitVec.toNat_ofNat, Nat.mod_eq_of_lt (Nat.lt_of_le_of_lt (Nat.div_le_self _ _) hn)]
theorem wb_shl (n : Nat) {k : Nat} (hk : k < 64) : lN n <<< ((nI k).toInt64 &&& 63) = lN (n * 2 ^ k) := by
  rw [wb_c k hk]
  apply wb_inj
  rw [Int64.toBitVec_shiftLeft, wb_tb, wb_tb, wb_tb, wb_sm k hk]
  apply BitVec.eq_of_toNat_eq
  rw [BitVec.shiftLeft_eq', BitVec.toNat_shiftLeft, BitVec.toNat_ofNat, BitVec.toNat_ofNat, BitVec.toNat_ofNat, Nat.mod_eq_of_lt (show k < 2 ^ 64 by omega), Nat.shiftLeft_eq, Nat.mul_mod, Nat.mod_mod, ← Nat.mul_mod]
theorem wb_and {a b : Nat} (ha : a < 2 ^ 64) (hb : b < 2 ^ 64) : lN a &&& lN b = lN (a &&& b) := by
  apply wb_inj
  rw [Int64.toBitVec_and, wb_tb, wb_tb, wb_tb]
  apply BitVec.eq_of_toNat_eq
  rw [BitVec.toNat_and, BitVec.toNat_ofNat, BitVec.toNat_ofNat, BitVec.toNat_ofNat, Nat.mod_eq_of_lt ha, Nat.mod_eq_of_lt hb, Nat.mod_eq_of_lt (Nat.and_lt_two_pow _ hb)]
theorem wb_or {a b : Nat} (ha : a < 2 ^ 64) (hb : b < 2 ^ 64) : lN a ||| lN b = lN (a ||| b) := by
  apply wb_inj
  rw [Int64.toBitVec_or, wb_tb, wb_tb, wb_tb]
  apply BitVec.eq_of_toNat_eq
  rw [BitVec.toNat_or, BitVec.toNat_ofNat, BitVec.toNat_ofNat, BitVec.toNat_ofNat, Nat.mod_eq_of_lt ha, Nat.mod_eq_of_lt hb, Nat.mod_eq_of_lt (Nat.or_lt_two_pow ha hb)]
theorem wb_mask {n k : Nat} (hn : n < 2 ^ 64) (hk : k < 64) : lN n &&& lN (2 ^ k - 1) = lN (n % 2 ^ k) := by
  rw [wb_and hn (by have := wb_lt2 hk; omega), Nat.and_two_pow_sub_one_eq_mod]
theorem wb_a1 {n : Nat} (hn : n < 2 ^ 64) : lN n &&& 1 = lN (n % 2) := wb_mask (k := 1) hn (by decide)
theorem wb_bit {n k : Nat} (hn : n < 2 ^ 64) (hk : k < 64) : ((lN n).toUInt64 >>> ((nI k).toInt64.toUInt64 &&& Int64.toUInt64 63)).toInt64 &&& 1 = lN (n / 2 ^ k % 2) := by
  rw [wb_shr hn hk, wb_a1 (Nat.lt_of_le_of_lt (Nat.div_le_self _ _) hn)]
theorem wb_xor {q k : Nat} (hk : k < 63) (h : 2 ^ k ≤ q) (h2 : q < 2 ^ (k + 1)) : lN q ^^^ lN (2 ^ k) = lN (q - 2 ^ k) := by
  obtain ⟨r, rfl⟩ : ∃ r, q = 2 ^ k + r := ⟨q - 2 ^ k, by omega⟩
  have hr : r < 2 ^ k := by rw [Nat.pow_succ] at h2; omega
  have hx : (2 ^ k + r) ^^^ 2 ^ k = r := by
    apply Nat.eq_of_testBit_eq
    intro i
    rw [Nat.testBit_xor, Nat.testBit_two_pow]
    rcases Nat.lt_trichotomy i k with h | h | h
    · rw [Nat.testBit_two_pow_add_gt h]
      simp [show ¬ k = i by omega]
    · subst h
      rw [Nat.testBit_two_pow_add_eq]
      simp
    · have a1 : 2 ^ (k + 1) ≤ 2 ^ i := Nat.pow_le_pow_right (by decide) h
      rw [Nat.testBit_lt_two_pow (show 2 ^ k + r < 2 ^ i by omega), Nat.testBit_lt_two_pow (show r < 2 ^ i by omega)]
      simp [show ¬ k = i by omega]
  have b1 := wb_lt2 (show k + 1 < 64 by omega)
  have b2 := wb_lt2 (show k < 64 by omega)
  apply wb_inj
  rw [Int64.toBitVec_xor, wb_tb, wb_tb, wb_tb]
  apply BitVec.eq_of_toNat_eq
  rw [BitVec.toNat_xor, BitVec.toNat_ofNat, BitVec.toNat_ofNat, BitVec.toNat_ofNat, Nat.mod_eq_of_lt (by omega : 2 ^ k + r < 2 ^ 64), Nat.mod_eq_of_lt b2, hx, Nat.add_sub_cancel_left, Nat.mod_eq_of_lt (by omega)]
/-! ===== lN: masks, 'or' of parts that don't overlap is a sum ===== -/
theorem u_tn {n : Nat} (h : n < 2 ^ 64) : (UInt64.ofNat n).toNat = n := Nat.mod_eq_of_lt h
theorem g_and {a b c : Nat} (ha : a < 2 ^ 64) (hb : b < 2 ^ 64) (hc : a &&& b = c) : lN a &&& lN b = lN c := by
  subst hc
  have h : UInt64.ofNat a &&& UInt64.ofNat b = UInt64.ofNat (a &&& b) := UInt64.toNat_inj.mp (by rw [UInt64.toNat_and, u_tn ha, u_tn hb, u_tn (Nat.and_lt_two_pow a hb)])
  have h2 := congrArg UInt64.toInt64 h
  exact h2
theorem g_and1 {a : Nat} (ha : a < 2 ^ 64) : lN a &&& 1 = lN (a % 2) := g_and (b := 1) ha (by decide) (Nat.and_two_pow_sub_one_eq_mod a 1)
theorem g_mask {a s p : Nat} (hp : 2 ^ s = p) (hs : s < 64) (ha : a < 2 ^ 64) : lN a &&& lN (p - 1) = lN (a % p) := by
  subst hp
  have := Nat.pow_lt_pow_right (show 1 < 2 by decide) hs
  exact g_and ha (by omega) (Nat.and_two_pow_sub_one_eq_mod a s)
theorem g_or {k p a b : Nat} (hp : 2 ^ k = p) (ha : a < p) (h : b * p + a < 2 ^ 64) : lN (b * p) ||| lN a = lN (b * p + a) := by
  subst hp
  have h1 : b * 2 ^ k ||| a = b * 2 ^ k + a := by rw [← Nat.shiftLeft_eq, Nat.shiftLeft_add_eq_or_of_lt ha]
  have h3 : UInt64.ofNat (b * 2 ^ k) ||| UInt64.ofNat a = UInt64.ofNat (b * 2 ^ k + a) := UInt64.toNat_inj.mp (by rw [UInt64.toNat_or, u_tn (by omega), u_tn (by omega), u_tn h, h1])
  have h2 := congrArg UInt64.toInt64 h3
  exact h2
theorem g_or' {k p a b : Nat} (hp : 2 ^ k = p) (ha : a < p) (h : a + b * p < 2 ^ 64) : lN a ||| lN (b * p) = lN (a + b * p) := by
  rw [Int64.or_comm, g_or hp ha (by omega), Nat.add_comm]
theorem g_ushr {a k p : Nat} {y : UInt64} (hy : y = UInt64.ofNat k) (hk : k < 64) (hp : 2 ^ k = p) (ha : a < 2 ^ 64) : ((lN a).toUInt64 >>> y).toInt64 = lN (a / p) := by
  subst hy hp
  have h : UInt64.ofNat a >>> UInt64.ofNat k = UInt64.ofNat (a / 2 ^ k) := UInt64.toNat_inj.mp (by rw [UInt64.toNat_shiftRight, u_tn ha, u_tn (by omega), u_tn (Nat.lt_of_le_of_lt (Nat.div_le_self _ _) ha), Nat.mod_eq_of_lt hk, Nat.shiftRight_eq_div_pow])
  have h2 := congrArg UInt64.toInt64 h
  exact h2
theorem g_shl {a k p : Nat} {y : Int64} (hy : y.toBitVec.smod 64 = BitVec.ofNat 64 k) (hk : k < 64) (hp : 2 ^ k = p) (ha : a < 2 ^ 64) : lN a <<< y = lN (a * p) := by
  subst hp
  apply Int64.toBitVec_inj.mp
  rw [Int64.toBitVec_shiftLeft, hy]
  apply BitVec.eq_of_toNat_eq
  have hb : (lN a).toBitVec.toNat = a := Nat.mod_eq_of_lt ha
  have hk' : (BitVec.ofNat 64 k).toNat = k := Nat.mod_eq_of_lt (by omega)
  have h : ((lN a).toBitVec <<< BitVec.ofNat 64 k).toNat = (a * 2 ^ k) % 2 ^ 64 := by simp only [BitVec.shiftLeft_eq', BitVec.toNat_shiftLeft, hb, hk', Nat.shiftLeft_eq]
  exact h
/-! ===== lN to 2^62 under >> and >>> ===== -/
theorem pf_lI {a : Nat} (h : a < 2 ^ 63) : (lN a).toInt = (a : Int) := lg_ofNat_toInt h
theorem pf_shr {a d : Nat} {D : Int64} (hD : (D.toBitVec.smod 64).toNat = d) (h : a < 2 ^ 62) : lN a >>> D = lN (a / 2 ^ d) := by
  have hd : a / 2 ^ d ≤ a := Nat.div_le_self _ _
  apply Int64.toInt_inj.mp
  have e : (lN a >>> D).toInt = (lN a).toInt >>> d := by
    rw [← hD]
    exact BitVec.toInt_sshiftRight ..
  rw [e, Int.shiftRight_eq_div_pow, pf_lI (by omega), pf_lI (by omega)]
  rfl
theorem pf_ushr {a d : Nat} {D : UInt64} (hD : D.toNat % 64 = d) (h : a < 2 ^ 62) : ((lN a).toUInt64 >>> D).toInt64 = lN (a / 2 ^ d) := by
  have hd : a / 2 ^ d ≤ a := Nat.div_le_self _ _
  have e : (lN a).toUInt64 >>> D = UInt64.ofNat (a / 2 ^ d) := UInt64.toNat_inj.mp (by
    rw [UInt64.toNat_shiftRight, hD, Nat.shiftRight_eq_div_pow, UInt64.toNat_ofNat']
    show (UInt64.ofNat a).toNat / 2 ^ d = _
    rw [UInt64.toNat_ofNat', Nat.mod_eq_of_lt (by omega), Nat.mod_eq_of_lt (by omega)])
  rw [e]
  rfl
theorem pf_andw (x : Int64) : ∃ m, m < 2 ^ 32 ∧ x &&& 4294967295 = lN m := ⟨x.toBitVec.toNat % 2 ^ 32, Nat.mod_lt _ (by decide), Int64.toBitVec_inj.mp (BitVec.eq_of_toNat_eq (by
  show (x.toBitVec &&& 4294967295#64).toNat = (BitVec.ofNat 64 (x.toBitVec.toNat % 2 ^ 32)).toNat
  rw [BitVec.toNat_and, show (4294967295#64).toNat = 2 ^ 32 - 1 from by decide, Nat.and_two_pow_sub_one_eq_mod, BitVec.toNat_ofNat]
  omega))⟩
/-! ===== Int64 as an unsigned number: uN x ===== -/
def uN (x : Int64) : Nat := x.toUInt64.toNat
theorem uN_lt (x : Int64) : uN x < 18446744073709551616 := x.toUInt64.toNat_lt
theorem uN_inj {x y : Int64} (h : uN x = uN y) : x = y := congrArg UInt64.toInt64 (UInt64.toNat_inj.mp h)
theorem uN_add (x y : Int64) : uN (x + y) = (uN x + uN y) % 18446744073709551616 := by
  show (x.toUInt64 + y.toUInt64).toNat = _
  exact UInt64.toNat_add _ _
theorem uN_mul (x y : Int64) : uN (x * y) = (uN x * uN y) % 18446744073709551616 := by
  show (x.toUInt64 * y.toUInt64).toNat = _
  exact UInt64.toNat_mul _ _
theorem uN_shl (x : Int64) : uN (x <<< ((1 : Int32).toInt64 &&& 63)) = (2 * uN x) % 18446744073709551616 := by
  have h : (((1 : Int32).toInt64 &&& 63).toBitVec.smod 64).toNat = 1 := by decide
  show (x.toBitVec <<< (((1 : Int32).toInt64 &&& 63).toBitVec.smod 64).toNat).toNat = _
  rw [h, BitVec.toNat_shiftLeft, Nat.shiftLeft_eq, Nat.mul_comm]
  rfl
theorem uN_shr (x : Int64) (s : UInt64) : uN (x.toUInt64 >>> s).toInt64 = uN x / 2 ^ (s.toNat % 64) := by
  show (x.toUInt64 >>> s).toNat = _
  rw [UInt64.toNat_shiftRight, Nat.shiftRight_eq_div_pow]
  rfl
theorem uN_s32 (x : Int64) : uN (x.toUInt64 >>> ((32 : Int32).toInt64.toUInt64 &&& Int64.toUInt64 63)).toInt64 = uN x / 4294967296 := by
  have h : ((32 : Int32).toInt64.toUInt64 &&& Int64.toUInt64 63).toNat % 64 = 32 := by decide
  rw [uN_shr, h]
theorem uN_s63 (x : Int64) : uN (x.toUInt64 >>> ((63 : Int32).toInt64.toUInt64 &&& Int64.toUInt64 63)).toInt64 = uN x / 9223372036854775808 := by
  have h : ((63 : Int32).toInt64.toUInt64 &&& Int64.toUInt64 63).toNat % 64 = 63 := by decide
  rw [uN_shr, h]
theorem uN_lo (x : Int64) : uN (x &&& 4294967295) = uN x % 4294967296 := by
  show (x.toUInt64 &&& Int64.toUInt64 4294967295).toNat = _
  rw [UInt64.toNat_and]
  exact Nat.and_two_pow_sub_one_eq_mod _ 32
theorem uN_bit (x : Int64) : (x &&& 1) = 0 ↔ uN x % 2 = 0 := by
  have h : uN (x &&& 1) = uN x % 2 := by
    show (x.toUInt64 &&& Int64.toUInt64 1).toNat = _
    rw [UInt64.toNat_and]
    exact Nat.and_two_pow_sub_one_eq_mod _ 1
  rw [← h]
  exact ⟨fun z => by rw [z]; rfl, fun z => uN_inj (z.trans rfl)⟩
theorem uN_or {x y : Int64} (hy : uN y < 2) : uN ((x <<< ((1 : Int32).toInt64 &&& 63)) ||| y) = (2 * uN x) % 18446744073709551616 + uN y := by
  have h1 : uN ((x <<< ((1 : Int32).toInt64 &&& 63)) ||| y) = uN (x <<< ((1 : Int32).toInt64 &&& 63)) ||| uN y := UInt64.toNat_or _ _
  have h2 : (2 * uN x) % 18446744073709551616 = 2 ^ 1 * (uN x % 9223372036854775808) := by omega
  rw [h1, uN_shl, h2]
  exact (Nat.two_pow_add_eq_or_of_lt (i := 1) hy _).symm
theorem nat_xor {a : Nat} (h : a < 18446744073709551616) : a ^^^ 2 ^ 63 = (a + 9223372036854775808) % 18446744073709551616 := by
  have h1 : (a ^^^ 2 ^ 63) % 2 ^ 63 = a % 2 ^ 63 := by rw [Nat.xor_mod_two_pow, Nat.mod_self, Nat.xor_zero]
  have h2 : (a ^^^ 2 ^ 63) / 2 ^ 63 = (a / 2 ^ 63) ^^^ 1 := by rw [Nat.xor_div_two_pow, Nat.div_self (Nat.two_pow_pos 63)]
  have h3 : a / 2 ^ 63 = 0 ∨ a / 2 ^ 63 = 1 := by omega
  generalize a ^^^ 2 ^ 63 = t at h1 h2
  rcases h3 with h3 | h3
  · rw [h3] at h2
    have h2 : t / 2 ^ 63 = 1 := h2
    omega
  · rw [h3] at h2
    have h2 : t / 2 ^ 63 = 0 := h2
    omega
theorem uN_xor (x : Int64) : uN (x ^^^ (-9223372036854775808)) = (uN x + 9223372036854775808) % 18446744073709551616 := by
  rw [← nat_xor (uN_lt x)]
  exact UInt64.toNat_xor _ _
theorem uN_int (x : Int64) : x.toInt = if 2 * uN x < 18446744073709551616 then (uN x : Int) else (uN x : Int) - 18446744073709551616 := BitVec.toInt_eq_toNat_cond _
theorem uN_le (x y : Int64) : (x ^^^ (-9223372036854775808)) ≤ (y ^^^ (-9223372036854775808)) ↔ uN x ≤ uN y := by
  have hx := uN_lt x
  have hy := uN_lt y
  rw [Int64.le_iff_toInt_le, uN_int, uN_int, uN_xor, uN_xor]
  omega
theorem uN_sk (x : Int64) {k : Nat} (hk : k < 64) : uN (x.toUInt64 >>> ((nI k).toInt64.toUInt64 &&& Int64.toUInt64 63)).toInt64 = uN x / 2 ^ k := by
  have h : ((nI k).toInt64.toUInt64 &&& Int64.toUInt64 63).toNat % 64 = k := by
    rw [nI_l (by omega), UInt64.toNat_and]
    have e : (lN k).toUInt64.toNat = k % 2 ^ 64 := rfl
    have e2 : (Int64.toUInt64 63).toNat = 2 ^ 6 - 1 := by decide
    rw [e, e2, Nat.and_two_pow_sub_one_eq_mod]
    omega
  rw [uN_shr, h]
/-! ===== unsigned comparison by xor with the least ===== -/
theorem lN_bv (n : Nat) : (lN n).toBitVec = BitVec.ofNat 64 n := rfl
theorem lN_nat {n : Nat} (h : n < 2 ^ 64) : (lN n).toBitVec.toNat = n := by rw [lN_bv, BitVec.toNat_ofNat]; exact Nat.mod_eq_of_lt h
theorem lN_xor (a b : Nat) : lN a ^^^ lN b = lN (a ^^^ b) := by
  apply Int64.toBitVec_inj.mp; rw [Int64.toBitVec_xor, lN_bv, lN_bv, lN_bv]; apply BitVec.eq_of_getLsbD_eq; intro i hi; simp [BitVec.getLsbD_ofNat, Nat.testBit_xor, hi]
theorem lN_ti {m : Nat} (h : m < 2 ^ 64) : (lN m).toInt = if m < 2 ^ 63 then (m : Int) else (m : Int) - 2 ^ 64 := by
  have c := BitVec.toInt_eq_toNat_cond (lN m).toBitVec
  rw [lN_nat h] at c
  show (lN m).toBitVec.toInt = _
  rw [c]
  split <;> split <;> omega
theorem xor63 {x : Nat} (h : x < 2 ^ 63) : x ^^^ 2 ^ 63 = 2 ^ 63 + x := by
  apply Nat.eq_of_testBit_eq
  intro i
  rw [Nat.testBit_xor, Nat.testBit_two_pow]
  rcases Nat.lt_trichotomy i 63 with z | z | z
  · rw [Nat.testBit_two_pow_add_gt z, decide_eq_false (by omega)]; simp
  · subst z; rw [Nat.testBit_two_pow_add_eq]; simp
  · have hp : 2 ^ 64 ≤ 2 ^ i := Nat.pow_le_pow_right (by decide) z
    rw [Nat.testBit_lt_two_pow (show x < 2 ^ i by omega), Nat.testBit_lt_two_pow (show 2 ^ 63 + x < 2 ^ i by omega), decide_eq_false (by omega)]; rfl
theorem xorS {a : Nat} (h : a < 2 ^ 64) : (lN a ^^^ (-9223372036854775808)).toInt = (a : Int) - 2 ^ 63 := by
  rw [show (-9223372036854775808 : Int64) = lN (2 ^ 63) from by decide +kernel, lN_xor]
  rcases Nat.lt_or_ge a (2 ^ 63) with z | z
  · rw [xor63 z, lN_ti (by omega), if_neg (by omega)]; omega
  · obtain ⟨x, rfl⟩ : ∃ x, a = 2 ^ 63 + x := ⟨a - 2 ^ 63, by omega⟩
    rw [← xor63 (by omega), Nat.xor_assoc, Nat.xor_self, Nat.xor_zero, lN_ti (by omega), if_pos (by omega), xor63 (by omega)]; omega
theorem ultL {a b : Nat} (ha : a < 2 ^ 64) (hb : b < 2 ^ 64) : ((lN b ^^^ (-9223372036854775808)) ≤ (lN a ^^^ (-9223372036854775808))) ↔ b ≤ a := by
  rw [Int64.le_iff_toInt_le, xorS ha, xorS hb]; omega
/-! ===== Int64 masks of n low bits ===== -/
theorem cr_bits (W U M : BitVec 64) : ((W &&& U) &&& (U &&& (M ^^^ BitVec.allOnes 64))) = 0#64 ↔ (W &&& U) &&& M = W &&& U := by
  constructor
  · intro h
    apply BitVec.eq_of_getLsbD_eq
    intro i hi
    have e := congrArg (fun x => BitVec.getLsbD x i) h
    simp only [BitVec.getLsbD_and, BitVec.getLsbD_xor, BitVec.getLsbD_allOnes, BitVec.getLsbD_zero, hi, decide_true] at e ⊢
    revert e
    cases W.getLsbD i <;> cases U.getLsbD i <;> cases M.getLsbD i <;> decide
  · intro h
    apply BitVec.eq_of_getLsbD_eq
    intro i hi
    have e := congrArg (fun x => BitVec.getLsbD x i) h
    simp only [BitVec.getLsbD_and, BitVec.getLsbD_xor, BitVec.getLsbD_allOnes, BitVec.getLsbD_zero, hi, decide_true] at e ⊢
    revert e
    cases W.getLsbD i <;> cases U.getLsbD i <;> cases M.getLsbD i <;> decide
theorem cr_mask (w U m : Int64) (n : Nat) (hm : m.toBitVec.toNat = 2 ^ n - 1) : ((w &&& U) &&& (U &&& (m ^^^ (-1)))) = 0 ↔ (w &&& U).toBitVec.toNat < 2 ^ n := by
  have e0 : (-1 : Int64).toBitVec = BitVec.allOnes 64 := by decide
  have z0 : (0 : Int64).toBitVec = 0#64 := by decide
  rw [← Int64.toBitVec_inj, z0, Int64.toBitVec_and, Int64.toBitVec_and, Int64.toBitVec_and, Int64.toBitVec_xor, e0, cr_bits]
  generalize w.toBitVec &&& U.toBitVec = T
  rw [← BitVec.toNat_inj, BitVec.toNat_and, hm, Nat.and_two_pow_sub_one_eq_mod]
  constructor
  · intro h
    have t := Nat.mod_lt T.toNat (Nat.two_pow_pos n)
    rw [h] at t
    exact t
  · exact Nat.mod_eq_of_lt
theorem cr_shr (t : Int64) (x : UInt64) (n : Nat) (hx : x.toNat % 64 = n) : (t.toUInt64 >>> x).toInt64 = 0 ↔ t.toBitVec.toNat < 2 ^ n := by
  rw [← Int64.toBitVec_inj, ← BitVec.toNat_inj]
  show (t.toUInt64 >>> x).toNat = 0 ↔ t.toUInt64.toNat < 2 ^ n
  rw [UInt64.toNat_shiftRight, hx, Nat.shiftRight_eq_div_pow]
  constructor
  · intro h
    have d : t.toUInt64.toNat / 2 ^ n < 1 := by
      rw [h]
      decide
    have e := (Nat.div_lt_iff_lt_mul (Nat.two_pow_pos n)).mp d
    rw [Nat.one_mul] at e
    exact e
  · exact Nat.div_eq_of_lt
theorem cr_amt (s : Int64) : ∃ n, n < 64 ∧ s &&& 63 = lN n ∧ (s.toUInt64 &&& Int64.toUInt64 63).toNat % 64 = n := by
  have e : (s.toUInt64 &&& Int64.toUInt64 63).toNat = s.toUInt64.toNat % 2 ^ 6 := by
    rw [UInt64.toNat_and, show (Int64.toUInt64 63).toNat = 2 ^ 6 - 1 from by decide, Nat.and_two_pow_sub_one_eq_mod]
  refine ⟨s.toUInt64.toNat % 2 ^ 6, by omega, ?_, by omega⟩
  rw [← Int64.toBitVec_inj, ← BitVec.toNat_inj]
  show (s.toUInt64 &&& Int64.toUInt64 63).toNat = (BitVec.ofNat 64 (s.toUInt64.toNat % 2 ^ 6)).toNat
  rw [e, BitVec.toNat_ofNat]
  omega
end
section
noncomputable def ct_b (P : Prop) : Nat := @ite Nat P (Classical.propDecidable P) 1 0
theorem ct_bt {P : Prop} (h : P) : ct_b P = 1 := by unfold ct_b; rw [if_pos h]
theorem ct_bf {P : Prop} (h : ¬ P) : ct_b P = 0 := by unfold ct_b; rw [if_neg h]
theorem ct_bl (P : Prop) : ct_b P ≤ 1 := by
  rcases Classical.em P with h | h
  · rw [ct_bt h]; omega
  · rw [ct_bf h]; omega
theorem ct_bm {P Q : Prop} (h : P → Q) : ct_b P ≤ ct_b Q := by
  rcases Classical.em P with hp | hp
  · rw [ct_bt hp, ct_bt (h hp)]; omega
  · rw [ct_bf hp]; omega
noncomputable def ct_n (P : Nat → Prop) : Nat → Nat
  | 0 => 0
  | k + 1 => ct_n P k + ct_b (P k)
theorem ct_mono {P Q : Nat → Prop} : ∀ {N : Nat}, (∀ k, k < N → P k → Q k) → ct_n P N ≤ ct_n Q N
  | 0, _ => Nat.le_refl _
  | N + 1, h => by
    have a := ct_mono (P := P) (Q := Q) (N := N) (fun k hk => h k (by omega))
    have b := ct_bm (h N (by omega))
    simp only [ct_n]; omega
theorem ct_lt {P Q : Nat → Prop} {a : Nat} (hp : ¬ P a) (hq : Q a) : ∀ {N : Nat}, (∀ k, k < N → P k → Q k) → a < N → ct_n P N < ct_n Q N
  | 0, _, h => by omega
  | N + 1, h, ha => by
    simp only [ct_n]
    rcases Nat.lt_or_ge a N with z | z
    · have x := ct_lt hp hq (N := N) (fun k hk => h k (by omega)) z
      have b := ct_bm (h N (by omega))
      omega
    · have e : a = N := by omega
      subst e
      have x := ct_mono (P := P) (Q := Q) (N := a) (fun k hk => h k (by omega))
      rw [ct_bt hq, ct_bf hp]; omega
theorem ct_le (P : Nat → Prop) : ∀ N, ct_n P N ≤ N
  | 0 => Nat.le_refl _
  | N + 1 => by have := ct_le P N; have := ct_bl (P N); simp only [ct_n]; omega
theorem ct_eq {P Q : Nat → Prop} {N : Nat} (h : ∀ k, k < N → (P k ↔ Q k)) : ct_n P N = ct_n Q N :=
  Nat.le_antisymm (ct_mono fun k hk => (h k hk).mp) (ct_mono fun k hk => (h k hk).mpr)
theorem ct_zero {P : Nat → Prop} : ∀ {N : Nat}, (∀ k, k < N → ¬ P k) → ct_n P N = 0
  | 0, _ => rfl
  | N + 1, h => by
    have a := ct_zero (P := P) (N := N) (fun k hk => h k (by omega))
    simp only [ct_n]; rw [ct_bf (h N (by omega))]; omega
theorem ct_all {P : Nat → Prop} : ∀ {N : Nat}, (∀ k, k < N → P k) → ct_n P N = N
  | 0, _ => rfl
  | N + 1, h => by
    have a := ct_all (P := P) (N := N) (fun k hk => h k (by omega))
    simp only [ct_n]; rw [ct_bt (h N (by omega))]; omega
theorem ct_add {P : Nat → Prop} {a : Nat} (hp : ¬ P a) : ∀ {N : Nat}, a < N → ct_n (fun k => P k ∨ k = a) N = ct_n P N + 1
  | 0, h => by omega
  | N + 1, h => by
    simp only [ct_n]
    rcases Nat.lt_or_ge a N with z | z
    · rw [ct_add hp z]
      have : ct_b (P N ∨ N = a) = ct_b (P N) := Nat.le_antisymm (ct_bm fun q => q.elim id (fun e => by omega)) (ct_bm Or.inl)
      omega
    · have e : a = N := by omega
      subst e
      rw [ct_eq (P := fun k => P k ∨ k = a) (Q := P) (fun k hk => ⟨fun q => q.elim id (fun e => by omega), Or.inl⟩), ct_bt (Or.inr rfl), ct_bf hp]
theorem ct_pos {P : Nat → Prop} {a N : Nat} (ha : a < N) (h : P a) : 0 < ct_n P N := by
  have := ct_lt (P := fun _ => False) (Q := P) (a := a) (fun z => z) h (N := N) (fun _ _ z => z.elim) ha
  omega
theorem ct_ex {P : Nat → Prop} : ∀ {N : Nat}, 0 < ct_n P N → ∃ k, k < N ∧ P k := by
  intro N h
  rcases Classical.em (∃ k, k < N ∧ P k) with z | z
  · exact z
  · have := ct_zero (P := P) (N := N) (fun k hk hp => z ⟨k, hk, hp⟩)
    omega
/-- an injection from the one set to the other -/
theorem ct_inj {P : Nat → Prop} {M : Nat} (f : Nat → Nat) : ∀ {N : Nat} {Q : Nat → Prop}, (∀ x, x < N → P x → f x < M ∧ Q (f x)) →
    (∀ x y, x < N → y < N → P x → P y → f x = f y → x = y) → ct_n P N ≤ ct_n Q M
  | 0, _, _, _ => Nat.zero_le _
  | N + 1, Q, h, hi => by
    simp only [ct_n]
    rcases Classical.em (P N) with hp | hp
    · rw [ct_bt hp]
      have hf := h N (by omega) hp
      have ih := ct_inj (P := P) (M := M) f (N := N) (Q := fun y => Q y ∧ y ≠ f N)
        (fun x hx px => ⟨(h x (by omega) px).1, (h x (by omega) px).2, fun e => by
          have := hi x N (by omega) (by omega) px hp e
          omega⟩)
        (fun x y hx hy => hi x y (by omega) (by omega))
      have ha := ct_add (P := fun y => Q y ∧ y ≠ f N) (a := f N) (fun z => z.2 rfl) hf.1
      have he : ct_n (fun k => (Q k ∧ k ≠ f N) ∨ k = f N) M = ct_n Q M := ct_eq fun k _ => ⟨fun z => z.elim (fun q => q.1) (fun e => e ▸ hf.2), fun q => by
        rcases Nat.decEq k (f N) with ne | e
        · exact Or.inl ⟨q, ne⟩
        · exact Or.inr e⟩
      omega
    · rw [ct_bf hp]
      have ih := ct_inj (P := P) (M := M) f (N := N) (Q := Q) (fun x hx px => h x (by omega) px) (fun x y hx hy => hi x y (by omega) (by omega))
      omega
end
section
/-- n edges, of weight c together, from s to t -/
def gr_W (E : Nat → Nat → Nat → Prop) : Nat → Nat → Nat → Nat → Prop
  | 0, c, s, t => c = 0 ∧ s = t
  | n + 1, c, s, t => ∃ u c1 w, gr_W E n c1 s u ∧ E u t w ∧ c = c1 + w
def gr_R (E : Nat → Nat → Nat → Prop) (c s t : Nat) : Prop := ∃ n, gr_W E n c s t
section
variable {E : Nat → Nat → Nat → Prop}
theorem gr_r0 (s : Nat) : gr_R E 0 s s := ⟨0, rfl, rfl⟩
theorem gr_rs {c s u t w : Nat} (h : gr_R E c s u) (e : E u t w) : gr_R E (c + w) s t := by
  obtain ⟨n, hn⟩ := h
  exact ⟨n + 1, u, c, w, hn, e, rfl⟩
theorem gr_ind {s : Nat} {P : Nat → Nat → Prop} (h0 : P 0 s) (hs : ∀ c u t w, gr_R E c s u → P c u → E u t w → P (c + w) t) {c t : Nat} (h : gr_R E c s t) : P c t := by
  obtain ⟨n, hn⟩ := h
  induction n generalizing c t with
  | zero =>
    obtain ⟨rfl, rfl⟩ := hn
    exact h0
  | succ n ih =>
    obtain ⟨u, c1, w, h1, e, rfl⟩ := hn
    exact hs c1 u t w ⟨n, h1⟩ (ih h1) e
theorem gr_rt {c c' s u t : Nat} (h : gr_R E c s u) (h2 : gr_R E c' u t) : gr_R E (c + c') s t :=
  gr_ind (P := fun d t => gr_R E (c + d) s t) h (fun d u t w _ ih e => by
    have := gr_rs ih e
    rwa [Nat.add_assoc] at this) h2
theorem gr_r1 {s t w : Nat} (e : E s t w) : gr_R E w s t := by
  have := gr_rs (gr_r0 s) e
  rwa [Nat.zero_add] at this
theorem gr_rc {s u t w c : Nat} (e : E s u w) (h : gr_R E c u t) : gr_R E (w + c) s t := gr_rt (gr_r1 e) h
theorem gr_cases {c s t : Nat} (h : gr_R E c s t) : (c = 0 ∧ s = t) ∨ ∃ u w c', E s u w ∧ gr_R E c' u t ∧ c = w + c' := by
  refine gr_ind (P := fun c t => (c = 0 ∧ s = t) ∨ ∃ u w c', E s u w ∧ gr_R E c' u t ∧ c = w + c') (Or.inl ⟨rfl, rfl⟩) ?_ h
  intro c u t w _ ih e
  rcases ih with ⟨rfl, rfl⟩ | ⟨u', w', c', e', r', rfl⟩
  · exact Or.inr ⟨t, w, 0, e, gr_r0 t, by omega⟩
  · exact Or.inr ⟨u', w', c' + w, e', gr_rs r' e, by omega⟩
theorem gr_hind {t : Nat} {P : Nat → Nat → Prop} (h0 : P 0 t) (hs : ∀ c s u w, E s u w → gr_R E c u t → P c u → P (w + c) s) {c s : Nat} (h : gr_R E c s t) : P c s := by
  have key : ∀ d, gr_R E d t t → P d t → P (c + d) s := by
    refine gr_ind (s := s) (P := fun c t' => ∀ d, gr_R E d t' t → P d t' → P (c + d) s) ?_ ?_ h
    · intro d _ hp
      rwa [Nat.zero_add]
    · intro c u t' w _ ih e d hr hp
      have := ih (w + d) (gr_rc e hr) (hs d u t' w e hr hp)
      rwa [Nat.add_assoc]
  exact key 0 (gr_r0 t) h0
/-- the least weight -/
def gr_L (E : Nat → Nat → Nat → Prop) (c s t : Nat) : Prop := gr_R E c s t ∧ ∀ c', gr_R E c' s t → c ≤ c'
theorem gr_lu {c c' s t : Nat} (h : gr_L E c s t) (h' : gr_L E c' s t) : c = c' := Nat.le_antisymm (h.2 _ h'.1) (h'.2 _ h.1)
theorem gr_ll {c s t : Nat} (h : gr_R E c s t) : ∃ c', gr_L E c' s t ∧ c' ≤ c := by
  obtain ⟨k, hk, hl⟩ := pk_least (fun c => gr_R E c s t) ⟨c, h⟩
  have hm : ∀ c', gr_R E c' s t → k ≤ c' := fun c' h' => by
    rcases Nat.lt_or_ge c' k with z | z
    · exact absurd h' (hl c' z)
    · exact z
  exact ⟨k, ⟨hk, hm⟩, hm c h⟩
theorem gr_l0 (s : Nat) : gr_L E 0 s s := ⟨gr_r0 s, fun _ _ => Nat.zero_le _⟩
/-- levels without a gap: there are no more levels than nodes -/
theorem gr_lev {P : Nat → Nat → Prop} {N : Nat} (hN : ∀ d t, P d t → t < N) (hu : ∀ d d' t, P d t → P d' t → d = d') (hp : ∀ d t, P (d + 1) t → ∃ t', P d t') :
    ∀ d t, P d t → d < N := by
  have key : ∀ d, (∃ t, P d t) → d < ct_n (fun t => ∃ m, m ≤ d ∧ P m t) N := by
    intro d
    induction d with
    | zero =>
      intro ⟨t, ht⟩
      exact ct_pos (hN _ _ ht) ⟨0, Nat.le_refl _, ht⟩
    | succ d ih =>
      intro ⟨t, ht⟩
      have a := ih (hp d t ht)
      have b := ct_lt (P := fun t => ∃ m, m ≤ d ∧ P m t) (Q := fun t => ∃ m, m ≤ d + 1 ∧ P m t) (a := t) (N := N)
        (fun ⟨m, hm, q⟩ => by have := hu _ _ _ q ht; omega) ⟨d + 1, Nat.le_refl _, ht⟩ (fun k _ ⟨m, hm, q⟩ => ⟨m, by omega, q⟩) (hN _ _ ht)
      omega
  intro d t h
  have a := key d ⟨t, h⟩
  have b := ct_le (fun t => ∃ m, m ≤ d ∧ P m t) N
  omega
/-- every edge but a loop costs something, and one that costs more than 1 can be cut: no least weight reaches the number of nodes -/
theorem gr_bound {s N : Nat} (hN : ∀ c t, gr_R E c s t → t < N) (h1 : ∀ u t w, E u t w → u ≠ t → 1 ≤ w)
    (hg : ∀ c u t w, gr_R E c s u → E u t w → u ≠ t → 2 ≤ w → ∃ v, E u v (w - 1) ∧ E v t 1) {c t : Nat} (h : gr_L E c s t) : c < N := by
  have key : ∀ {c t}, gr_R E c s t → s = t ∨ ∃ c' t', gr_R E c' s t' ∧ E t' t 1 ∧ c' + 1 ≤ c := by
    intro c t h
    refine gr_ind (P := fun c t => s = t ∨ ∃ c' t', gr_R E c' s t' ∧ E t' t 1 ∧ c' + 1 ≤ c) (Or.inl rfl) ?_ h
    intro c u t w hr ih e
    rcases Nat.decEq u t with ne | rfl
    · have hw := h1 _ _ _ e ne
      rcases Nat.lt_or_ge w 2 with z | z
      · have : w = 1 := by omega
        subst this
        exact Or.inr ⟨c, u, hr, e, by omega⟩
      · obtain ⟨v, e1, e2⟩ := hg c u t w hr e ne z
        exact Or.inr ⟨c + (w - 1), v, gr_rs hr e1, e2, by omega⟩
    · rcases ih with rfl | ⟨c', t', a, b, d⟩
      · exact Or.inl rfl
      · exact Or.inr ⟨c', t', a, b, by omega⟩
  refine gr_lev (P := fun c t => gr_L E c s t) (fun d t h => hN d t h.1) (fun d d' t a b => gr_lu a b) ?_ c t h
  intro d t ht
  rcases key ht.1 with rfl | ⟨c', t', a, b, e⟩
  · have := ht.2 0 (gr_r0 s)
    omega
  · obtain ⟨c2, l2, hle⟩ := gr_ll a
    have := ht.2 _ (gr_rs l2.1 b)
    have : c2 = d := by omega
    subst this
    exact ⟨t', l2⟩
end
end
section
/-- the cell beside a cell in a direction -/
def cg_bs (c d : Nat) : Option Nat :=
  if d = 0 then (if 4 ≤ c then some (c - 4) else none)
  else if d = 1 then (if c % 4 < 3 then some (c + 1) else none)
  else if d = 2 then (if c < 8 then some (c + 4) else none)
  else (if 0 < c % 4 then some (c - 1) else none)
def cg_can (W : Nat) (wy : Nat → Nat) (c d o : Nat) : Bool := !W.testBit c && !W.testBit o && (wy c).testBit d
def cg_tg (W : Nat) (wy : Nat → Nat) (c d : Nat) : Option Nat := (cg_bs c d).bind (fun o => if cg_can W wy c d o = true then some o else none)
/-- what the rest needs to know of the steps: they stay on the grid, lead from open cell to open cell, and change the colour -/
def cg_OK (tg : Nat → Nat → Option Nat) (op : Nat → Prop) : Prop :=
  ∀ c d o, c < 12 → tg c d = some o → o < 12 ∧ op c ∧ op o ∧ (o / 4 + o % 4) % 2 ≠ (c / 4 + c % 4) % 2
def cg_op (W c : Nat) : Prop := W.testBit c = false
theorem cg_bs_ok {c d o : Nat} (hc : c < 12) (h : cg_bs c d = some o) : o < 12 ∧ (o / 4 + o % 4) % 2 ≠ (c / 4 + c % 4) % 2 := by
  unfold cg_bs at h
  split at h
  · split at h
    · cases h; omega
    · cases h
  · split at h
    · split at h
      · cases h; omega
      · cases h
    · split at h
      · split at h
        · cases h; omega
        · cases h
      · split at h
        · cases h; omega
        · cases h
theorem cg_tg_some {W : Nat} {wy : Nat → Nat} {c d o : Nat} (h : cg_tg W wy c d = some o) : cg_bs c d = some o ∧ cg_can W wy c d o = true := by
  unfold cg_tg at h
  rcases hb : cg_bs c d with _ | o'
  · rw [hb] at h; cases h
  · rw [hb] at h
    replace h : (if cg_can W wy c d o' = true then some o' else none) = some o := h
    split at h
    · rename_i hc
      cases h
      exact ⟨rfl, hc⟩
    · cases h
theorem cg_tg_ok (W : Nat) (wy : Nat → Nat) : cg_OK (cg_tg W wy) (cg_op W) := by
  intro c d o hc h
  obtain ⟨h1, h2⟩ := cg_tg_some h
  obtain ⟨a, b⟩ := cg_bs_ok hc h1
  unfold cg_can at h2
  simp only [Bool.and_eq_true, Bool.not_eq_true'] at h2
  exact ⟨a, h2.1.1, h2.1.2, b⟩
def cg_eO : Option Nat → Int32
  | none => -1
  | some n => nI n
theorem cg_eOn : cg_eO none = -1 := rfl
theorem cg_eOs (n : Nat) : cg_eO (some n) = nI n := rfl
/-- X's table of steps -/
def cg_ST (tg : Nat → Nat → Option Nat) (a : Nat → Int32) : Prop := ∀ c d, c < 12 → d < 4 → a (4 * c + d) = cg_eO (tg c d)
/-- one walker's steps -/
def cg_E (tg : Nat → Nat → Option Nat) (c c' w : Nat) : Prop := c < 12 ∧ (∃ d, d < 4 ∧ tg c d = some c') ∧ w = 1
section
variable {tg : Nat → Nat → Option Nat} {op : Nat → Prop}
theorem cg_lev (ok : cg_OK tg op) {g : Nat} (hg : g < 12) {n c : Nat} (h : gr_L (cg_E tg) n c g) : n < 12 := by
  have hlt : ∀ {n c}, gr_R (cg_E tg) n c g → c < 12 := by
    intro n c h
    rcases gr_cases h with ⟨_, rfl⟩ | ⟨u, w, c', e, _, _⟩
    · exact hg
    · exact e.1
  refine gr_lev (P := fun n c => gr_L (cg_E tg) n c g) (fun d t h => hlt h.1) (fun d d' t a b => gr_lu a b) ?_ n c h
  intro d t ht
  rcases gr_cases ht.1 with ⟨z, _⟩ | ⟨u, w, c', e, r, hc⟩
  · omega
  · have hw : w = 1 := e.2.2
    have hd : c' = d := by omega
    subst hd
    refine ⟨u, r, fun c2 r2 => ?_⟩
    have := ht.2 _ (gr_rc e r2)
    omega
/-- distances to the cell g, 1000000 where none leads there -/
noncomputable def cg_td (tg : Nat → Nat → Option Nat) (g c : Nat) : Nat :=
  @dite Nat (∃ n, gr_L (cg_E tg) n c g) (Classical.propDecidable _) (fun h => Classical.choose h) (fun _ => 1000000)
theorem cg_td_l {g n c : Nat} (h : gr_L (cg_E tg) n c g) : cg_td tg g c = n := by
  unfold cg_td
  rw [dif_pos ⟨n, h⟩]
  exact gr_lu (Classical.choose_spec (⟨n, h⟩ : ∃ n, gr_L (cg_E tg) n c g)) h
theorem cg_td_n {g c : Nat} (h : ∀ n, ¬ gr_R (cg_E tg) n c g) : cg_td tg g c = 1000000 := by
  unfold cg_td
  rw [dif_neg (fun ⟨n, hn⟩ => h n hn.1)]
theorem cg_td_c (ok : cg_OK tg op) {g : Nat} (hg : g < 12) (c : Nat) : (cg_td tg g c ≤ 11 ∧ gr_L (cg_E tg) (cg_td tg g c) c g) ∨ (cg_td tg g c = 1000000 ∧ ∀ n, ¬ gr_R (cg_E tg) n c g) := by
  rcases Classical.em (∃ n, gr_L (cg_E tg) n c g) with ⟨n, h⟩ | h
  · left
    rw [cg_td_l h]
    have := cg_lev ok hg h
    exact ⟨by omega, h⟩
  · right
    have h' : ∀ n, ¬ gr_R (cg_E tg) n c g := fun n hn => by
      obtain ⟨c', l, _⟩ := gr_ll hn
      exact h ⟨c', l⟩
    exact ⟨cg_td_n h', h'⟩
theorem cg_td0 (tg : Nat → Nat → Option Nat) (g : Nat) : cg_td tg g g = 0 := cg_td_l (gr_l0 g)
theorem cg_td_le (ok : cg_OK tg op) {g : Nat} (hg : g < 12) (c : Nat) : cg_td tg g c ≤ 11 ∨ cg_td tg g c = 1000000 := by
  rcases cg_td_c ok hg c with h | h
  · exact Or.inl h.1
  · exact Or.inr h.1
theorem cg_td_z (ok : cg_OK tg op) {g : Nat} (hg : g < 12) {c : Nat} (h : cg_td tg g c = 0) : c = g := by
  rcases cg_td_c ok hg c with z | z
  · rw [h] at z
    rcases gr_cases z.2.1 with ⟨_, e⟩ | ⟨u, w, c', e, _, hc⟩
    · exact e
    · have : w = 1 := e.2.2
      omega
  · omega
theorem cg_td_e (ok : cg_OK tg op) {g : Nat} (hg : g < 12) {c d c' : Nat} (hc : c < 12) (hd : d < 4) (h : tg c d = some c') : cg_td tg g c ≤ cg_td tg g c' + 1 := by
  rcases cg_td_c ok hg c' with z | z
  · have r := gr_rc (E := cg_E tg) (s := c) (w := 1) ⟨hc, ⟨d, hd, h⟩, rfl⟩ z.2.1
    obtain ⟨n, l, hn⟩ := gr_ll r
    rw [cg_td_l l]
    omega
  · rcases cg_td_le ok hg c with y | y <;> omega
theorem cg_td_f (ok : cg_OK tg op) {g : Nat} (hg : g < 12) {c d c' : Nat} (hc : c < 12) (hd : d < 4) (h : tg c d = some c') (hf : cg_td tg g c' < 1000000) : cg_td tg g c ≤ 11 := by
  rcases cg_td_c ok hg c' with z | z
  · have r := gr_rc (E := cg_E tg) (s := c) (w := 1) ⟨hc, ⟨d, hd, h⟩, rfl⟩ z.2.1
    rcases cg_td_c ok hg c with y | y
    · exact y.1
    · exact absurd r (y.2 _)
  · omega
theorem cg_td_s (ok : cg_OK tg op) {g : Nat} (hg : g < 12) {c n : Nat} (h : cg_td tg g c = n + 1) (hn : n + 1 < 1000000) : ∃ d c', d < 4 ∧ tg c d = some c' ∧ cg_td tg g c' = n := by
  rcases cg_td_c ok hg c with z | z
  · rw [h] at z
    rcases gr_cases z.2.1 with ⟨q, _⟩ | ⟨u, w, c', e, r, hc⟩
    · omega
    · have hw : w = 1 := e.2.2
      have hd : c' = n := by omega
      subst hd
      obtain ⟨d, hd, ht⟩ := e.2.1
      refine ⟨d, u, hd, ht, cg_td_l ⟨r, fun c2 r2 => ?_⟩⟩
      have := z.2.2 _ (gr_rc e r2)
      omega
  · omega
/-- where a walker alone goes next, by the directions from 4 - n on -/
def cg_nx (tg : Nat → Nat → Option Nat) (td : Nat → Nat) (c : Nat) : Nat → Nat
  | 0 => c
  | n + 1 => match tg c (3 - n) with
    | none => cg_nx tg td c n
    | some o => if td o < td c then o else cg_nx tg td c n
theorem cg_nx_c (tg : Nat → Nat → Option Nat) (td : Nat → Nat) (c : Nat) : ∀ n, n ≤ 4 → (cg_nx tg td c n = c ∧ ∀ d o, 4 - n ≤ d → d < 4 → tg c d = some o → ¬ td o < td c) ∨
    ∃ d, d < 4 ∧ tg c d = some (cg_nx tg td c n) ∧ td (cg_nx tg td c n) < td c := by
  intro n
  induction n with
  | zero => exact fun _ => Or.inl ⟨rfl, fun d o h1 h2 => by omega⟩
  | succ n ih =>
    intro hn
    have ih := ih (by omega)
    rcases h : tg c (3 - n) with _ | o
    · have e : cg_nx tg td c (n + 1) = cg_nx tg td c n := by simp only [cg_nx, h]
      rw [e]
      rcases ih with ⟨a, b⟩ | a
      · refine Or.inl ⟨a, fun d o h1 h2 ht => ?_⟩
        rcases Nat.lt_or_ge d (4 - n) with z | z
        · have : d = 3 - n := by omega
          subst this
          rw [h] at ht; cases ht
        · exact b d o z h2 ht
      · exact Or.inr a
    · rcases Nat.lt_or_ge (td o) (td c) with z | z
      · have e : cg_nx tg td c (n + 1) = o := by simp only [cg_nx, h, if_pos z]
        rw [e]
        exact Or.inr ⟨3 - n, by omega, h, z⟩
      · have z' : ¬ td o < td c := by omega
        have e : cg_nx tg td c (n + 1) = cg_nx tg td c n := by simp only [cg_nx, h, if_neg z']
        rw [e]
        rcases ih with ⟨a, b⟩ | a
        · refine Or.inl ⟨a, fun d o' h1 h2 ht => ?_⟩
          rcases Nat.lt_or_ge d (4 - n) with y | y
          · have : d = 3 - n := by omega
            subst this
            rw [h] at ht; cases ht
            exact z'
          · exact b d o' y h2 ht
        · exact Or.inr a
noncomputable def cg_na (tg : Nat → Nat → Option Nat) (g c : Nat) : Nat := cg_nx tg (cg_td tg g) c 4
theorem cg_na_lt (ok : cg_OK tg op) {g c : Nat} (hc : c < 12) : cg_na tg g c < 12 := by
  rcases cg_nx_c tg (cg_td tg g) c 4 (by omega) with ⟨a, _⟩ | ⟨d, _, h, _⟩
  · unfold cg_na; rw [a]; exact hc
  · exact (ok c d _ hc h).1
/-- from a cell with a finite distance: one step nearer, or at the goal already -/
theorem cg_na_s (ok : cg_OK tg op) {g c n : Nat} (hg : g < 12) (hc : c < 12) (h : cg_td tg g c = n + 1) (hn : n + 1 < 1000000) : cg_td tg g (cg_na tg g c) = n ∧ ∃ d, d < 4 ∧ tg c d = some (cg_na tg g c) := by
  rcases cg_nx_c tg (cg_td tg g) c 4 (by omega) with ⟨_, b⟩ | ⟨d, hd, ht, hl⟩
  · obtain ⟨d, o, h1, h2, h3⟩ := cg_td_s ok hg h hn
    exact absurd (by omega) (b d o (by omega) h1 h2)
  · have e := cg_td_e ok hg hc hd ht
    unfold cg_na
    exact ⟨by omega, d, hd, ht⟩
theorem cg_na_0 (ok : cg_OK tg op) {g : Nat} (hg : g < 12) : cg_na tg g g = g := by
  rcases cg_nx_c tg (cg_td tg g) g 4 (by omega) with ⟨a, _⟩ | ⟨d, hd, ht, hl⟩
  · exact a
  · rw [cg_td0 tg g] at hl; omega
end
end
section
def mo_mv (tg : Nat → Nat → Option Nat) (c c' : Nat) : Prop := c' = c ∨ ∃ d, d < 4 ∧ tg c d = some c'
def mo_cl (a b a' b' : Nat) : Prop := a' ≠ b' ∧ ¬ (a' = b ∧ b' = a)
def mo_N (k : Nat) : Nat := if k = 1 then 12 else if k = 2 then 144 else 1728
/-- from the arrangement s (the first walker's cell + 12 times the second one's + 144 times the third one's) to t in one turn -/
def mo_M (tg : Nat → Nat → Option Nat) (k s t : Nat) : Prop :=
  t < mo_N k ∧ mo_mv tg (s % 12) (t % 12) ∧
  (2 ≤ k → mo_mv tg (s / 12 % 12) (t / 12 % 12) ∧ mo_cl (s % 12) (s / 12 % 12) (t % 12) (t / 12 % 12)) ∧
  (3 ≤ k → mo_mv tg (s / 144 % 12) (t / 144 % 12) ∧ mo_cl (s % 12) (s / 144 % 12) (t % 12) (t / 144 % 12) ∧ mo_cl (s / 12 % 12) (s / 144 % 12) (t / 12 % 12) (t / 144 % 12))
def mo_ne (a b : Nat) : Nat := if a = b then 0 else 1
def mo_ef (k s t : Nat) : Nat := mo_ne (t % 12) (s % 12) + (if 2 ≤ k then mo_ne (t / 12 % 12) (s / 12 % 12) else 0) + (if 3 ≤ k then mo_ne (t / 144 % 12) (s / 144 % 12) else 0)
def mo_wt (b : Bool) (k s t : Nat) : Nat := if b = true then mo_ef k s t else 1
def mo_E (tg : Nat → Nat → Option Nat) (b : Bool) (k s t w : Nat) : Prop := s < mo_N k ∧ mo_M tg k s t ∧ w = mo_wt b k s t
/-- so many walkers on different cells -/
def mo_V (k s : Nat) : Prop := s < mo_N k ∧ (2 ≤ k → s % 12 ≠ s / 12 % 12) ∧ (3 ≤ k → s % 12 ≠ s / 144 % 12 ∧ s / 12 % 12 ≠ s / 144 % 12)
/-- all on cells with op -/
def mo_O (op : Nat → Prop) (k s : Nat) : Prop := op (s % 12) ∧ (2 ≤ k → op (s / 12 % 12)) ∧ (3 ≤ k → op (s / 144 % 12))
def mo_K (k : Nat) : Prop := k = 1 ∨ k = 2 ∨ k = 3
theorem mo_N1 : mo_N 1 = 12 := rfl
theorem mo_N2 : mo_N 2 = 144 := rfl
theorem mo_N3 : mo_N 3 = 1728 := rfl
theorem mo_Nle (k : Nat) : mo_N k ≤ 1728 := by
  unfold mo_N
  split
  · omega
  · split <;> omega
theorem mo_ne_le (a b : Nat) : mo_ne a b ≤ 1 := by unfold mo_ne; split <;> omega
theorem mo_ne_s {a : Nat} : mo_ne a a = 0 := if_pos rfl
theorem mo_ne_n {a b : Nat} (h : a ≠ b) : mo_ne a b = 1 := if_neg h
theorem mo_ne_0 {a b : Nat} (h : mo_ne a b = 0) : a = b := by
  unfold mo_ne at h
  split at h
  · assumption
  · omega
theorem mo_ef1 (s t : Nat) : mo_ef 1 s t = mo_ne (t % 12) (s % 12) := rfl
theorem mo_ef2 (s t : Nat) : mo_ef 2 s t = mo_ne (t % 12) (s % 12) + mo_ne (t / 12 % 12) (s / 12 % 12) := rfl
theorem mo_ef3 (s t : Nat) : mo_ef 3 s t = mo_ne (t % 12) (s % 12) + mo_ne (t / 12 % 12) (s / 12 % 12) + mo_ne (t / 144 % 12) (s / 144 % 12) := rfl
theorem mo_ef_le (k s t : Nat) : mo_ef k s t ≤ 3 := by
  have a := mo_ne_le (t % 12) (s % 12)
  have b := mo_ne_le (t / 12 % 12) (s / 12 % 12)
  have c := mo_ne_le (t / 144 % 12) (s / 144 % 12)
  unfold mo_ef
  split <;> split <;> omega
theorem mo_wt_le (b : Bool) (k s t : Nat) : mo_wt b k s t ≤ 3 := by
  unfold mo_wt
  split
  · exact mo_ef_le k s t
  · omega
/-- an arrangement is known by its cells -/
theorem mo_ext {k s t : Nat} (hk : mo_K k) (hs : s < mo_N k) (ht : t < mo_N k) (h0 : s % 12 = t % 12) (h1 : 2 ≤ k → s / 12 % 12 = t / 12 % 12) (h2 : 3 ≤ k → s / 144 % 12 = t / 144 % 12) : s = t := by
  rcases hk with rfl | rfl | rfl
  · rw [mo_N1] at hs ht; omega
  · rw [mo_N2] at hs ht
    have := h1 (by omega)
    omega
  · rw [mo_N3] at hs ht
    have := h1 (by omega)
    have := h2 (by omega)
    omega
theorem mo_ef_1 {k s t : Nat} (hk : mo_K k) (hs : s < mo_N k) (ht : t < mo_N k) (h : s ≠ t) : 1 ≤ mo_ef k s t := by
  rcases Nat.lt_or_ge (mo_ef k s t) 1 with z | z
  · exfalso
    apply h
    have z0 : mo_ef k s t = 0 := by omega
    unfold mo_ef at z0
    refine mo_ext hk hs ht (mo_ne_0 (by omega)).symm (fun h2 => ?_) (fun h3 => ?_)
    · rw [if_pos h2] at z0
      exact (mo_ne_0 (by omega)).symm
    · rw [if_pos h3] at z0
      exact (mo_ne_0 (by omega)).symm
  · exact z
theorem mo_wt_1 (b : Bool) {k s t : Nat} (hk : mo_K k) (hs : s < mo_N k) (ht : t < mo_N k) (h : s ≠ t) : 1 ≤ mo_wt b k s t := by
  unfold mo_wt
  split
  · exact mo_ef_1 hk hs ht h
  · omega
section
variable {tg : Nat → Nat → Option Nat} {op : Nat → Prop} {b : Bool} {k : Nat}
theorem mo_E_lt {s t w : Nat} (h : mo_E tg b k s t w) : s < mo_N k ∧ t < mo_N k := ⟨h.1, h.2.1.1⟩
theorem mo_E_u {s t w w' : Nat} (h : mo_E tg b k s t w) (h' : mo_E tg b k s t w') : w = w' := h.2.2.trans h'.2.2.symm
theorem mo_E_3 {s t w : Nat} (h : mo_E tg b k s t w) : w ≤ 3 := by rw [h.2.2]; exact mo_wt_le b k s t
theorem mo_E_1 (hk : mo_K k) {s t w : Nat} (h : mo_E tg b k s t w) (hn : s ≠ t) : 1 ≤ w := by
  rw [h.2.2]; exact mo_wt_1 b hk h.1 h.2.1.1 hn
theorem mo_E_V {s t w : Nat} (h : mo_E tg b k s t w) : mo_V k t :=
  ⟨h.2.1.1, fun h2 => (h.2.1.2.2.1 h2).2.1, fun h3 => ⟨(h.2.1.2.2.2 h3).2.1.1, (h.2.1.2.2.2 h3).2.2.1⟩⟩
theorem mo_R_V {s t c : Nat} (hs : mo_V k s) (h : gr_R (mo_E tg b k) c s t) : mo_V k t :=
  gr_ind (P := fun _ t => mo_V k t) hs (fun _ _ _ _ _ _ e => mo_E_V e) h
theorem mo_mv_O (ok : cg_OK tg op) {c c' : Nat} (hc : c < 12) (ho : op c) (h : mo_mv tg c c') : op c' := by
  rcases h with rfl | ⟨d, _, h⟩
  · exact ho
  · exact (ok c d c' hc h).2.2.1
theorem mo_E_O (ok : cg_OK tg op) {s t w : Nat} (ho : mo_O op k s) (h : mo_E tg b k s t w) : mo_O op k t :=
  ⟨mo_mv_O ok (by omega) ho.1 h.2.1.2.1, fun h2 => mo_mv_O ok (by omega) (ho.2.1 h2) (h.2.1.2.2.1 h2).1, fun h3 => mo_mv_O ok (by omega) (ho.2.2 h3) (h.2.1.2.2.2 h3).1⟩
theorem mo_R_O (ok : cg_OK tg op) {s t c : Nat} (ho : mo_O op k s) (h : gr_R (mo_E tg b k) c s t) : mo_O op k t :=
  gr_ind (P := fun _ t => mo_O op k t) ho (fun _ _ _ _ _ ih e => mo_E_O ok ih e) h
theorem mo_mv_p (ok : cg_OK tg op) {c c' : Nat} (hc : c < 12) (h : mo_mv tg c c') : c' = c ∨ (c' / 4 + c' % 4) % 2 ≠ (c / 4 + c % 4) % 2 := by
  rcases h with rfl | ⟨d, _, h⟩
  · exact Or.inl rfl
  · exact Or.inr (ok c d c' hc h).2.2.2
/-- who of several movers can be left out of a turn, to move alone behind it: at most three walkers on a grid that has no triangles -/
theorem mo_last {a b c a' b' c' : Nat} (hab : a ≠ b) (hac : a ≠ c) (hbc : b ≠ c) (hab' : mo_cl a b a' b') (hac' : mo_cl a c a' c') (hbc' : mo_cl b c b' c')
    (pa : a' = a ∨ (a' / 4 + a' % 4) % 2 ≠ (a / 4 + a % 4) % 2) (pb : b' = b ∨ (b' / 4 + b' % 4) % 2 ≠ (b / 4 + b % 4) % 2) (pc : c' = c ∨ (c' / 4 + c' % 4) % 2 ≠ (c / 4 + c % 4) % 2)
    (hm : a' ≠ a ∨ b' ≠ b ∨ c' ≠ c) : (a' ≠ a ∧ b' ≠ a ∧ c' ≠ a) ∨ (b' ≠ b ∧ a' ≠ b ∧ c' ≠ b) ∨ (c' ≠ c ∧ a' ≠ c ∧ b' ≠ c) := by
  obtain ⟨x1, x2⟩ := hab'
  obtain ⟨y1, y2⟩ := hac'
  obtain ⟨z1, z2⟩ := hbc'
  by_cases e1 : b' = a
  · subst e1
    by_cases e2 : a' = c
    · subst e2
      by_cases e3 : c' = b
      · exfalso; subst e3; omega
      · by_cases e4 : b' = b
        · omega
        · exact Or.inr (Or.inl ⟨e4, by omega, e3⟩)
    · by_cases e5 : c' = b
      · by_cases e6 : c' = c
        · omega
        · exact Or.inr (Or.inr ⟨e6, e2, by omega⟩)
      · exact Or.inr (Or.inl ⟨by omega, by omega, e5⟩)
  · by_cases e2 : c' = a
    · subst e2
      by_cases e3 : a' = b
      · subst e3
        by_cases e4 : b' = c
        · exfalso; subst e4; omega
        · exact Or.inr (Or.inr ⟨by omega, by omega, e4⟩)
      · by_cases e4 : b' = c
        · exact Or.inr (Or.inl ⟨by omega, e3, by omega⟩)
        · exact Or.inr (Or.inr ⟨by omega, by omega, e4⟩)
    · by_cases e3 : a' = a
      · by_cases e4 : c' = b
        · exact Or.inr (Or.inr ⟨by omega, by omega, by omega⟩)
        · by_cases e5 : b' = b
          · exact Or.inr (Or.inr ⟨by omega, by omega, by omega⟩)
          · exact Or.inr (Or.inl ⟨e5, by omega, e4⟩)
      · exact Or.inl ⟨e3, e1, e2⟩
end
end
section
theorem mo_dig {x y z : Nat} (hx : x < 12) (hy : y < 12) (hz : z < 12) : (x + 12 * y + 144 * z) % 12 = x ∧ (x + 12 * y + 144 * z) / 12 % 12 = y ∧ (x + 12 * y + 144 * z) / 144 % 12 = z ∧ x + 12 * y + 144 * z < 1728 :=
  ⟨by omega, by omega, by omega, by omega⟩
section
variable {tg : Nat → Nat → Option Nat} {op : Nat → Prop} {b : Bool} {k : Nat}
/-- three walkers' turn by cells -/
def mo_M3 (tg : Nat → Nat → Option Nat) (x y z x' y' z' : Nat) : Prop := mo_mv tg x x' ∧ mo_mv tg y y' ∧ mo_mv tg z z' ∧ mo_cl x y x' y' ∧ mo_cl x z x' z' ∧ mo_cl y z y' z'
theorem mo_M3_of {s t : Nat} (h : mo_M tg 3 s t) : mo_M3 tg (s % 12) (s / 12 % 12) (s / 144 % 12) (t % 12) (t / 12 % 12) (t / 144 % 12) := by
  obtain ⟨_, m0, m1, m2⟩ := h
  obtain ⟨m1, c01⟩ := m1 (by omega)
  obtain ⟨m2, c02, c12⟩ := m2 (by omega)
  exact ⟨m0, m1, m2, c01, c02, c12⟩
theorem mo_M3_to {s t x y z x' y' z' : Nat} (ht : t < 1728) (h : mo_M3 tg x y z x' y' z') (e0 : s % 12 = x) (e1 : s / 12 % 12 = y) (e2 : s / 144 % 12 = z) (f0 : t % 12 = x') (f1 : t / 12 % 12 = y') (f2 : t / 144 % 12 = z') : mo_M tg 3 s t := by
  subst e0 e1 e2 f0 f1 f2
  obtain ⟨m0, m1, m2, c01, c02, c12⟩ := h
  exact ⟨ht, m0, fun _ => ⟨m1, c01⟩, fun _ => ⟨m2, c02, c12⟩⟩
theorem mo_cl_d {a b a' : Nat} (h : a' ≠ b) (h2 : a ≠ b) : mo_cl a b a' b := ⟨h, fun z => h z.1⟩
/-- a mover whose cell no other one enters can go behind the others -/
theorem mo_cut3 (ok : cg_OK tg op) {x y z x' y' z' : Nat} (hx : x < 12) (hy : y < 12) (hz : z < 12) (h : mo_M3 tg x y z x' y' z') (xy : x ≠ y) (xz : x ≠ z) (yz : y ≠ z) (hw : 2 ≤ mo_ne x' x + mo_ne y' y + mo_ne z' z) :
    ∃ a b c, (a = x ∨ a = x') ∧ (b = y ∨ b = y') ∧ (c = z ∨ c = z') ∧ mo_M3 tg x y z a b c ∧ mo_M3 tg a b c x' y' z' ∧ mo_ne a x + mo_ne b y + mo_ne c z = mo_ne x' x + mo_ne y' y + mo_ne z' z - 1 ∧ mo_ne x' a + mo_ne y' b + mo_ne z' c = 1 := by
  obtain ⟨m0, m1, m2, c01, c02, c12⟩ := h
  have hm : x' ≠ x ∨ y' ≠ y ∨ z' ≠ z := by
    rcases Nat.decEq x' x with q | q
    · exact Or.inl q
    · rcases Nat.decEq y' y with q1 | q1
      · exact Or.inr (Or.inl q1)
      · rcases Nat.decEq z' z with q2 | q2
        · exact Or.inr (Or.inr q2)
        · rw [q, q1, q2, mo_ne_s, mo_ne_s, mo_ne_s] at hw
          omega
  rcases mo_last xy xz yz c01 c02 c12 (mo_mv_p ok hx m0) (mo_mv_p ok hy m1) (mo_mv_p ok hz m2) hm with ⟨h1, h2, h3⟩ | ⟨h1, h2, h3⟩ | ⟨h1, h2, h3⟩
  · refine ⟨x, y', z', Or.inl rfl, Or.inr rfl, Or.inr rfl, ⟨Or.inl rfl, m1, m2, ⟨fun e => h2 e.symm, fun e => xy e.1⟩, ⟨fun e => h3 e.symm, fun e => xz e.1⟩, c12⟩,
      ⟨m0, Or.inl rfl, Or.inl rfl, ⟨c01.1, fun e => c01.1 e.1⟩, ⟨c02.1, fun e => c02.1 e.1⟩, ⟨c12.1, fun e => c12.1 e.1⟩⟩, ?_, ?_⟩
    · rw [mo_ne_s, mo_ne_n h1]; omega
    · rw [mo_ne_s, mo_ne_s, mo_ne_n h1]
  · refine ⟨x', y, z', Or.inr rfl, Or.inl rfl, Or.inr rfl, ⟨m0, Or.inl rfl, m2, ⟨h2, fun e => h2 e.1⟩, c02, ⟨fun e => h3 e.symm, fun e => yz e.1⟩⟩,
      ⟨Or.inl rfl, m1, Or.inl rfl, ⟨c01.1, fun e => c01.1 e.2.symm⟩, ⟨c02.1, fun e => c02.1 e.1⟩, ⟨c12.1, fun e => c12.1 e.1⟩⟩, ?_, ?_⟩
    · rw [mo_ne_s, mo_ne_n h1]; omega
    · rw [mo_ne_s, mo_ne_s, mo_ne_n h1]
  · refine ⟨x', y', z, Or.inr rfl, Or.inr rfl, Or.inl rfl, ⟨m0, m1, Or.inl rfl, c01, ⟨h2, fun e => h2 e.1⟩, ⟨h3, fun e => h3 e.1⟩⟩,
      ⟨Or.inl rfl, Or.inl rfl, m2, ⟨c01.1, fun e => c01.1 e.1⟩, ⟨c02.1, fun e => c02.1 e.2.symm⟩, ⟨c12.1, fun e => c12.1 e.2.symm⟩⟩, ?_, ?_⟩
    · rw [mo_ne_s, mo_ne_n h1]; omega
    · rw [mo_ne_s, mo_ne_s, mo_ne_n h1]
theorem mo_gap3 (ok : cg_OK tg op) {u t : Nat} (hv : mo_V 3 u) (m : mo_M tg 3 u t) (hw : 2 ≤ mo_ef 3 u t) : ∃ v, v < 1728 ∧ mo_M tg 3 u v ∧ mo_ef 3 u v = mo_ef 3 u t - 1 ∧ mo_M tg 3 v t ∧ mo_ef 3 v t = 1 := by
  have v1 := hv.2.1 (by omega)
  obtain ⟨v2, v3⟩ := hv.2.2 (by omega)
  have ht : t < 1728 := m.1
  rw [mo_ef3] at hw
  obtain ⟨a, b, c, ha, hb, hc, m1, m2, w1, w2⟩ := mo_cut3 ok (by omega) (by omega) (by omega) (mo_M3_of m) v1 v2 v3 hw
  have la : a < 12 := by rcases ha with rfl | rfl <;> omega
  have lb : b < 12 := by rcases hb with rfl | rfl <;> omega
  have lc : c < 12 := by rcases hc with rfl | rfl <;> omega
  obtain ⟨d0, d1, d2, d3⟩ := mo_dig la lb lc
  refine ⟨a + 12 * b + 144 * c, d3, mo_M3_to d3 m1 rfl rfl rfl d0 d1 d2, ?_, mo_M3_to ht m2 d0 d1 d2 rfl rfl rfl, ?_⟩
  · rw [mo_ef3, mo_ef3, d0, d1, d2]; exact w1
  · rw [mo_ef3, d0, d1, d2]; exact w2
theorem mo_gap2 {u t : Nat} (hv : mo_V 2 u) (m : mo_M tg 2 u t) (hw : 2 ≤ mo_ef 2 u t) : ∃ v, v < 144 ∧ mo_M tg 2 u v ∧ mo_ef 2 u v = mo_ef 2 u t - 1 ∧ mo_M tg 2 v t ∧ mo_ef 2 v t = 1 := by
  have xy := hv.2.1 (by omega)
  obtain ⟨ht, m0, m1, _⟩ := m
  obtain ⟨m1, c01⟩ := m1 (by omega)
  rw [mo_ef2] at hw
  have a0 := mo_ne_le (t % 12) (u % 12)
  have a1 := mo_ne_le (t / 12 % 12) (u / 12 % 12)
  have n0 : mo_ne (t % 12) (u % 12) = 1 := by omega
  have n1 : mo_ne (t / 12 % 12) (u / 12 % 12) = 1 := by omega
  have h0 : t % 12 ≠ u % 12 := fun e => by rw [e, mo_ne_s] at n0; omega
  have h1 : t / 12 % 12 ≠ u / 12 % 12 := fun e => by rw [e, mo_ne_s] at n1; omega
  have lx : u % 12 < 12 := by omega
  have ly : u / 12 % 12 < 12 := by omega
  have lx' : t % 12 < 12 := by omega
  have ly' : t / 12 % 12 < 12 := by omega
  by_cases e : t / 12 % 12 = u % 12
  · have q : t % 12 ≠ u / 12 % 12 := fun z => c01.2 ⟨z, e⟩
    obtain ⟨d0, d1, d2, d3⟩ := mo_dig lx' ly (show 0 < 12 by omega)
    have d4 : t % 12 + 12 * (u / 12 % 12) + 144 * 0 < 144 := by omega
    generalize t % 12 + 12 * (u / 12 % 12) + 144 * 0 = v at *
    refine ⟨v, d4, ⟨d4, by rw [d0]; exact m0, fun _ => ⟨by rw [d1]; exact Or.inl rfl, by rw [d0, d1]; exact ⟨q, fun z => q z.1⟩⟩, fun z => by omega⟩, ?_, ⟨ht, by rw [d0]; exact Or.inl rfl, fun _ => ⟨by rw [d1]; exact m1, by rw [d0, d1]; exact ⟨c01.1, fun z => q z.1⟩⟩, fun z => by omega⟩, ?_⟩
    · rw [mo_ef2, mo_ef2, d0, d1, mo_ne_s]; omega
    · rw [mo_ef2, d0, d1, mo_ne_s]; omega
  · obtain ⟨d0, d1, d2, d3⟩ := mo_dig lx ly' (show 0 < 12 by omega)
    have d4 : u % 12 + 12 * (t / 12 % 12) + 144 * 0 < 144 := by omega
    generalize u % 12 + 12 * (t / 12 % 12) + 144 * 0 = v at *
    refine ⟨v, d4, ⟨d4, by rw [d0]; exact Or.inl rfl, fun _ => ⟨by rw [d1]; exact m1, by rw [d0, d1]; exact ⟨fun z => e z.symm, fun z => xy z.1⟩⟩, fun z => by omega⟩, ?_, ⟨ht, by rw [d0]; exact m0, fun _ => ⟨by rw [d1]; exact Or.inl rfl, by rw [d0, d1]; exact ⟨c01.1, fun z => c01.1 z.1⟩⟩, fun z => by omega⟩, ?_⟩
    · rw [mo_ef2, mo_ef2, d0, d1, mo_ne_s]; omega
    · rw [mo_ef2, d0, d1, mo_ne_s]; omega
theorem mo_gap (hk : mo_K k) (ok : cg_OK tg op) {u t w : Nat} (hv : mo_V k u) (e : mo_E tg b k u t w) (hw : 2 ≤ w) : ∃ v, mo_E tg b k u v (w - 1) ∧ mo_E tg b k v t 1 := by
  obtain ⟨hs, m, rfl⟩ := e
  cases b with
  | false => exact absurd hw (by show ¬ 2 ≤ 1; omega)
  | true =>
    replace hw : 2 ≤ mo_ef k u t := hw
    rcases hk with rfl | rfl | rfl
    · rw [mo_ef1] at hw
      have := mo_ne_le (t % 12) (u % 12)
      omega
    · obtain ⟨v, h1, h2, h3, h4, h5⟩ := mo_gap2 hv m hw
      exact ⟨v, ⟨hs, h2, h3.symm⟩, ⟨h1, h4, h5.symm⟩⟩
    · obtain ⟨v, h1, h2, h3, h4, h5⟩ := mo_gap3 ok hv m hw
      exact ⟨v, ⟨hs, h2, h3.symm⟩, ⟨h1, h4, h5.symm⟩⟩
/-- no least cost reaches the number of arrangements -/
theorem mo_bound (hk : mo_K k) (ok : cg_OK tg op) {s t c : Nat} (hv : mo_V k s) (h : gr_L (mo_E tg b k) c s t) : c < mo_N k :=
  gr_bound (fun c t h => (mo_R_V hv h).1) (fun u t w e hn => mo_E_1 hk e hn) (fun c u t w hr e hn hw => mo_gap hk ok (mo_R_V hv hr) e hw) h
/-- one walker's choice: 0 stays, d + 1 goes by the direction d -/
def mo_nx (tg : Nat → Nat → Option Nat) (c o : Nat) : Option Nat := if o = 0 then some c else tg c (o - 1)
theorem mo_nx_mv {c o c' : Nat} (ho : o < 5) (h : mo_nx tg c o = some c') : mo_mv tg c c' := by
  unfold mo_nx at h
  split at h
  · cases h; exact Or.inl rfl
  · exact Or.inr ⟨o - 1, by omega, h⟩
theorem mo_nx_lt (ok : cg_OK tg op) {c o c' : Nat} (hc : c < 12) (h : mo_nx tg c o = some c') : c' < 12 := by
  unfold mo_nx at h
  split at h
  · cases h; exact hc
  · exact (ok c _ c' hc h).1
theorem mo_mv_nx {c c' : Nat} (h : mo_mv tg c c') : ∃ o, o < 5 ∧ mo_nx tg c o = some c' ∧ (c' ≠ c → 1 ≤ o) := by
  rcases h with rfl | ⟨d, hd, h⟩
  · exact ⟨0, by omega, rfl, fun z => absurd rfl z⟩
  · exact ⟨d + 1, by omega, by unfold mo_nx; rw [if_neg (by omega)]; exact h, fun _ => by omega⟩
/-- t comes of s by X's choice ch -/
def mo_by (tg : Nat → Nat → Option Nat) (k s ch t : Nat) : Prop :=
  t < mo_N k ∧ mo_nx tg (s % 12) (ch % 5) = some (t % 12) ∧
  (2 ≤ k → mo_nx tg (s / 12 % 12) (ch / 5 % 5) = some (t / 12 % 12) ∧ mo_cl (s % 12) (s / 12 % 12) (t % 12) (t / 12 % 12)) ∧
  (3 ≤ k → mo_nx tg (s / 144 % 12) (ch / 25 % 5) = some (t / 144 % 12) ∧ mo_cl (s % 12) (s / 144 % 12) (t % 12) (t / 144 % 12) ∧ mo_cl (s / 12 % 12) (s / 144 % 12) (t / 12 % 12) (t / 144 % 12))
def mo_ch (k : Nat) : Nat := if k = 1 then 5 else if k = 2 then 25 else 125
theorem mo_ch_le (k : Nat) : mo_ch k ≤ 125 := by
  unfold mo_ch
  split
  · omega
  · split <;> omega
theorem mo_by_M {s ch t : Nat} (h : mo_by tg k s ch t) : mo_M tg k s t :=
  ⟨h.1, mo_nx_mv (by omega) h.2.1, fun h2 => ⟨mo_nx_mv (by omega) (h.2.2.1 h2).1, (h.2.2.1 h2).2⟩, fun h3 => ⟨mo_nx_mv (by omega) (h.2.2.2 h3).1, (h.2.2.2 h3).2⟩⟩
theorem mo_M_by (hk : mo_K k) {s t : Nat} (hs : s < mo_N k) (h : mo_M tg k s t) : ∃ ch, ch < mo_ch k ∧ mo_by tg k s ch t ∧ (s ≠ t → 1 ≤ ch) := by
  obtain ⟨ht, m0, m1, m2⟩ := h
  obtain ⟨o0, l0, n0, z0⟩ := mo_mv_nx m0
  rcases hk with rfl | rfl | rfl
  · refine ⟨o0, l0, ⟨ht, by rw [Nat.mod_eq_of_lt l0]; exact n0, fun z => by omega, fun z => by omega⟩, fun hn => z0 fun e => hn ?_⟩
    rw [mo_N1] at hs ht
    omega
  · obtain ⟨m1, c01⟩ := m1 (by omega)
    obtain ⟨o1, l1, n1, z1⟩ := mo_mv_nx m1
    have e0 : (o0 + 5 * o1) % 5 = o0 := by omega
    have e1 : (o0 + 5 * o1) / 5 % 5 = o1 := by omega
    refine ⟨o0 + 5 * o1, by show o0 + 5 * o1 < 25; omega, ⟨ht, by rw [e0]; exact n0, fun _ => ⟨by rw [e1]; exact n1, c01⟩, fun z => by omega⟩, fun hn => ?_⟩
    by_cases q : t % 12 = s % 12
    · by_cases q1 : t / 12 % 12 = s / 12 % 12
      · exact absurd (mo_ext (Or.inr (Or.inl rfl)) hs ht q.symm (fun _ => q1.symm) (fun z => by omega)) hn
      · have := z1 q1; omega
    · have := z0 q; omega
  · obtain ⟨m1, c01⟩ := m1 (by omega)
    obtain ⟨m2, c2⟩ := m2 (by omega)
    obtain ⟨o1, l1, n1, z1⟩ := mo_mv_nx m1
    obtain ⟨o2, l2, n2, z2⟩ := mo_mv_nx m2
    have e0 : (o0 + 5 * o1 + 25 * o2) % 5 = o0 := by omega
    have e1 : (o0 + 5 * o1 + 25 * o2) / 5 % 5 = o1 := by omega
    have e2 : (o0 + 5 * o1 + 25 * o2) / 25 % 5 = o2 := by omega
    refine ⟨o0 + 5 * o1 + 25 * o2, by show o0 + 5 * o1 + 25 * o2 < 125; omega, ⟨ht, by rw [e0]; exact n0, fun _ => ⟨by rw [e1]; exact n1, c01⟩, fun _ => ⟨by rw [e2]; exact n2, c2⟩⟩, fun hn => ?_⟩
    by_cases q : t % 12 = s % 12
    · by_cases q1 : t / 12 % 12 = s / 12 % 12
      · by_cases q2 : t / 144 % 12 = s / 144 % 12
        · exact absurd (mo_ext (Or.inr (Or.inr rfl)) hs ht q.symm (fun _ => q1.symm) (fun _ => q2.symm)) hn
        · have := z2 q2; omega
      · have := z1 q1; omega
    · have := z0 q; omega
end
end
section
def ag_up (f : Nat → Nat) (k v : Nat) : Nat → Nat := fun x => if x = k then v else f x
theorem ag_us (f : Nat → Nat) (k v : Nat) : ag_up f k v k = v := if_pos rfl
theorem ag_un (f : Nat → Nat) {k j : Nat} (v : Nat) (h : j ≠ k) : ag_up f k v j = f j := if_neg h
def as_H (E : Nat → Nat → Nat → Prop) (h : Nat → Nat) (N g : Nat) : Prop :=
  (∀ s t w, E s t w → s < N ∧ t < N ∧ w ≤ 3 ∧ (s ≠ t → 1 ≤ w)) ∧ (∀ s t w w', E s t w → E s t w' → w = w') ∧
  (∀ s t w, E s t w → h s ≤ h t + w) ∧ (∀ s t w, E s t w → h t < 1000000 → h s < 1000000) ∧ (∀ s, h s < 1000000 → h s ≤ 33) ∧ (∀ s, h s ≤ 1000000) ∧ h g = 0
/-- what is known on the way: K costs (1000000: none yet), cl closed, og where one came from; D: which edges from closed ones have been followed -/
def as_I (E : Nat → Nat → Nat → Prop) (h : Nat → Nat) (N st : Nat) (D : Nat → Nat → Prop) (K : Nat → Nat) (cl : Nat → Prop) (og : Nat → Nat) (best : Nat) : Prop :=
  K st = 0 ∧ og st = st ∧ (∀ s, K s ≤ 1000000) ∧ (∀ s, K s < 1000000 → s < N ∧ gr_R E (K s) st s ∧ K s ≤ 3 * ct_n cl N) ∧
  (∀ s, cl s → K s < 1000000 ∧ K s + h s ≤ best) ∧ (∀ s t w, cl s → E s t w → D s t → K t ≤ K s + w) ∧
  (∀ s, K s < 1000000 → ¬ cl s → best ≤ K s + h s) ∧ (∀ s, K s < 1000000 → s ≠ st → cl (og s) ∧ ∃ w, E (og s) s w ∧ K (og s) + w = K s ∧ 1 ≤ w)
section
variable {E : Nat → Nat → Nat → Prop} {h : Nat → Nat} {N st g : Nat} {D : Nat → Nat → Prop} {K : Nat → Nat} {cl : Nat → Prop} {og : Nat → Nat} {best : Nat}
theorem as_init (hst : st < N) (ho : og st = st) : as_I E h N st D (fun x => if x = st then 0 else 1000000) (fun _ => False) og (h st) := by
  have hK : ∀ s, (if s = st then 0 else 1000000) < 1000000 → s = st := fun s z => by
    rcases Nat.decEq s st with e | e
    · rw [if_neg e] at z; omega
    · exact e
  refine ⟨if_pos rfl, ho, fun s => ?_, fun s z => ?_, fun s z => z.elim, fun s t w z => z.elim, fun s z _ => ?_, fun s z hn => absurd (hK s z) hn⟩
  · show (if s = st then 0 else 1000000) ≤ 1000000
    split <;> omega
  · obtain rfl := hK s z
    show s < N ∧ gr_R E (if s = s then 0 else 1000000) s s ∧ (if s = s then 0 else 1000000) ≤ _
    rw [if_pos rfl]
    exact ⟨hst, gr_r0 s, Nat.zero_le _⟩
  · obtain rfl := hK s z
    exact Nat.le_add_left _ _
theorem as_close {s : Nat} (I : as_I E h N st (fun _ _ => True) K cl og best) (hs : K s < 1000000) (hn : ¬ cl s) (hf : K s + h s = best) :
    as_I E h N st (fun x t => x ≠ s ∨ t = s) K (fun x => cl x ∨ x = s) og best ∧ K s + 3 ≤ 3 * ct_n (fun x => cl x ∨ x = s) N := by
  obtain ⟨i1, i2, i3, i4, i5, i6, i7, i8⟩ := I
  have hc := ct_add (P := cl) hn (i4 s hs).1
  have hl := (i4 s hs).2.2
  refine ⟨⟨i1, i2, i3, fun x hx => ⟨(i4 x hx).1, (i4 x hx).2.1, ?_⟩, ?_, ?_, fun x hx hnx => i7 x hx (fun z => hnx (Or.inl z)), fun x hx hne => ⟨Or.inl (i8 x hx hne).1, (i8 x hx hne).2⟩⟩, ?_⟩
  · have := (i4 x hx).2.2
    rw [hc]; omega
  · rintro x (hx | rfl)
    · exact i5 x hx
    · exact ⟨hs, by omega⟩
  · rintro x t w (hx | rfl) e d
    · exact i6 x t w hx e trivial
    · rcases d with d | rfl
      · exact absurd rfl d
      · omega
  · rw [hc]; omega
theorem as_keep {s t w : Nat} (H : as_H E h N g) (I : as_I E h N st D K cl og best) (he : E s t w) (hle : K t ≤ K s + w) :
    as_I E h N st (fun x y => D x y ∨ (x = s ∧ y = t)) K cl og best := by
  obtain ⟨i1, i2, i3, i4, i5, i6, i7, i8⟩ := I
  refine ⟨i1, i2, i3, i4, i5, ?_, i7, i8⟩
  rintro x y w' hx e (d | ⟨rfl, rfl⟩)
  · exact i6 x y w' hx e d
  · rw [H.2.1 _ _ _ _ e he]; exact hle
theorem as_relax {s t w : Nat} (H : as_H E h N g) (I : as_I E h N st D K cl og best) (hs : cl s) (hf : K s + h s = best) (h3 : K s + 3 ≤ 3 * ct_n cl N) (he : E s t w) (hlt : K s + w < K t) :
    as_I E h N st (fun x y => D x y ∨ (x = s ∧ y = t)) (ag_up K t (K s + w)) cl (ag_up og t s) best := by
  obtain ⟨i1, i2, i3, i4, i5, i6, i7, i8⟩ := I
  have hw := H.1 _ _ _ he
  have hcon := H.2.2.1 _ _ _ he
  have hKt := i3 t
  have hnt : ¬ cl t := fun z => by
    have := (i5 t z).2
    omega
  have hts : t ≠ st := fun z => by rw [z, i1] at hlt; omega
  have hst : s ≠ t := fun z => by rw [z] at hlt; omega
  refine ⟨by rw [ag_un _ _ hts.symm]; exact i1, by rw [ag_un _ _ hts.symm]; exact i2, fun x => ?_, fun x hx => ?_, fun x hx => ?_, fun x y w' hx e d => ?_, fun x hx hn => ?_, fun x hx hn => ?_⟩
  · rcases Nat.decEq x t with e | rfl
    · rw [ag_un _ _ e]; exact i3 x
    · rw [ag_us]; omega
  · rcases Nat.decEq x t with e | rfl
    · rw [ag_un _ _ e] at hx ⊢; exact i4 x hx
    · rw [ag_us]
      exact ⟨hw.2.1, gr_rs (i4 s (by omega)).2.1 he, by omega⟩
  · have e : x ≠ t := fun z => hnt (z ▸ hx)
    rw [ag_un _ _ e]; exact i5 x hx
  · have e1 : x ≠ t := fun z => hnt (z ▸ hx)
    rw [ag_un _ _ e1]
    rcases Nat.decEq y t with e2 | rfl
    · rw [ag_un _ _ e2]
      rcases d with d | ⟨_, z⟩
      · exact i6 x y w' hx e d
      · exact absurd z e2
    · rw [ag_us]
      rcases d with d | ⟨rfl, _⟩
      · have := i6 x y w' hx e d
        omega
      · rw [H.2.1 _ _ _ _ e he]; exact Nat.le_refl _
  · rcases Nat.decEq x t with e | rfl
    · rw [ag_un _ _ e] at hx ⊢; exact i7 x hx hn
    · rw [ag_us]; omega
  · rcases Nat.decEq x t with e | rfl
    · rw [ag_un _ _ e] at hx
      rw [ag_un _ _ e, ag_un _ _ e]
      obtain ⟨a, w', b, c, d⟩ := i8 x hx hn
      refine ⟨a, w', b, ?_, d⟩
      rw [ag_un _ _ (show og x ≠ t from fun z => hnt (z ▸ a))]; exact c
    · rw [ag_us, ag_us, ag_un _ _ hst]
      exact ⟨hs, w, he, rfl, hw.2.2.2 hst⟩
theorem as_hR (H : as_H E h N g) {c u t : Nat} (r : gr_R E c u t) : h u ≤ h t + c ∧ (h t < 1000000 → h u < 1000000) := by
  refine gr_hind (P := fun c u => h u ≤ h t + c ∧ (h t < 1000000 → h u < 1000000)) ⟨by omega, id⟩ ?_ r
  intro c s u w e _ ih
  have := H.2.2.1 _ _ _ e
  exact ⟨by omega, fun z => H.2.2.2.1 _ _ _ e (ih.2 z)⟩
theorem as_opt (hN : N ≤ 1728) (H : as_H E h N g) (I : as_I E h N st (fun _ _ => True) K cl og best) {c t : Nat} (r : gr_R E c st t) :
    (K t < 1000000 ∧ K t ≤ c) ∨ ∃ u c1 c2, K u < 1000000 ∧ ¬ cl u ∧ K u ≤ c1 ∧ gr_R E c2 u t ∧ c = c1 + c2 := by
  obtain ⟨i1, i2, i3, i4, i5, i6, i7, i8⟩ := I
  have hct := ct_le cl N
  refine gr_ind (P := fun c t => (K t < 1000000 ∧ K t ≤ c) ∨ ∃ u c1 c2, K u < 1000000 ∧ ¬ cl u ∧ K u ≤ c1 ∧ gr_R E c2 u t ∧ c = c1 + c2) (Or.inl ⟨by omega, by omega⟩) ?_ r
  intro c u t w _ ih e
  rcases ih with ⟨a, b⟩ | ⟨v, c1, c2, a1, a2, a3, a4, a5⟩
  · rcases Classical.em (cl u) with z | z
    · have h6 := i6 u t w z e trivial
      have h4 := (i4 u a).2.2
      have h3 := (H.1 _ _ _ e).2.2.1
      exact Or.inl ⟨by omega, by omega⟩
    · exact Or.inr ⟨u, c, w, a, z, b, gr_r1 e, rfl⟩
  · exact Or.inr ⟨v, c1, c2 + w, a1, a2, a3, gr_rs a4 e, by omega⟩
/-- the goal is closed: its cost is the least -/
theorem as_done (hN : N ≤ 1728) (H : as_H E h N g) (I : as_I E h N st (fun _ _ => True) K cl og best) (hg : cl g) : gr_L E (K g) st g := by
  have i5 := I.2.2.2.2.1 g hg
  refine ⟨(I.2.2.2.1 g i5.1).2.1, fun c r => ?_⟩
  have hg0 := H.2.2.2.2.2.2
  rcases as_opt hN H I r with ⟨_, b⟩ | ⟨u, c1, c2, a1, a2, a3, a4, a5⟩
  · exact b
  · have h1 := I.2.2.2.2.2.2.1 u a1 a2
    have h2 := (as_hR H a4).1
    omega
/-- nothing is left that could lead to the goal -/
theorem as_none (hN : N ≤ 1728) (H : as_H E h N g) (I : as_I E h N st (fun _ _ => True) K cl og best) (hb : 1000000 ≤ best) (hg : ¬ cl g) (c : Nat) : ¬ gr_R E c st g := by
  intro r
  have hg0 := H.2.2.2.2.2.2
  have hct := ct_le cl N
  rcases as_opt hN H I r with ⟨a, b⟩ | ⟨u, c1, c2, a1, a2, a3, a4, a5⟩
  · have h1 := I.2.2.2.2.2.2.1 g a hg
    omega
  · have h1 := I.2.2.2.2.2.2.1 u a1 a2
    have h2 := (as_hR H a4).2 (by omega)
    have h3 := H.2.2.2.2.1 u h2
    have h4 := (I.2.2.2.1 u a1).2.2
    omega
end
/-- at least what is still to be done -/
def as_mx (a b : Nat) : Nat := if b ≤ a then a else b
def as_hv (b : Bool) (m s : Nat) : Nat := if m = 1000000 then 1000000 else if b = true then s else m
def as_mo (k x y z : Nat) : Nat := if k = 1 then x else if k = 2 then as_mx x y else as_mx (as_mx x y) z
def as_su (k x y z : Nat) : Nat := if k = 1 then x else if k = 2 then x + y else x + y + z
noncomputable def as_h (tg : Nat → Nat → Option Nat) (gs : Nat → Nat) (b : Bool) (k s : Nat) : Nat :=
  as_hv b (as_mo k (cg_td tg (gs 0) (s % 12)) (cg_td tg (gs 1) (s / 12 % 12)) (cg_td tg (gs 2) (s / 144 % 12))) (as_su k (cg_td tg (gs 0) (s % 12)) (cg_td tg (gs 1) (s / 12 % 12)) (cg_td tg (gs 2) (s / 144 % 12)))
/-- one walker's part of the guess: x before, x' behind its move, n whether it moves -/
def as_P (x x' n : Nat) : Prop := x ≤ x' + n ∧ (x' < 1000000 → x ≤ 11) ∧ (x ≤ 11 ∨ x = 1000000) ∧ (x' ≤ 11 ∨ x' = 1000000) ∧ n ≤ 1
theorem as_h1 (b : Bool) {x x' n : Nat} (h : as_P x x' n) : as_hv b x x ≤ as_hv b x' x' + (if b = true then n else 1) ∧ (as_hv b x' x' < 1000000 → as_hv b x x < 1000000) := by
  obtain ⟨a1, a2, a3, a4, a5⟩ := h
  unfold as_hv
  cases b <;> (refine ⟨?_, fun z => ?_⟩) <;> simp only [if_true, if_false, Bool.false_eq_true] at * <;> (repeat' split at *) <;> omega
theorem as_h2 (b : Bool) {x x' n y y' m : Nat} (h : as_P x x' n) (h' : as_P y y' m) : as_hv b (as_mx x y) (x + y) ≤ as_hv b (as_mx x' y') (x' + y') + (if b = true then n + m else 1) ∧ (as_hv b (as_mx x' y') (x' + y') < 1000000 → as_hv b (as_mx x y) (x + y) < 1000000) := by
  obtain ⟨a1, a2, a3, a4, a5⟩ := h
  obtain ⟨b1, b2, b3, b4, b5⟩ := h'
  unfold as_hv as_mx
  cases b <;> (refine ⟨?_, fun z => ?_⟩) <;> simp only [if_true, if_false, Bool.false_eq_true] at * <;> (repeat' split at *) <;> omega
theorem as_mx_P {x x' n y y' m : Nat} (h : as_P x x' n) (h' : as_P y y' m) : as_P (as_mx x y) (as_mx x' y') 1 := by
  obtain ⟨a1, a2, a3, a4, a5⟩ := h
  obtain ⟨b1, b2, b3, b4, b5⟩ := h'
  unfold as_mx as_P
  refine ⟨?_, ?_, ?_, ?_, ?_⟩ <;> (repeat' split) <;> omega
theorem as_h3 (b : Bool) {x x' n y y' m z z' l : Nat} (h : as_P x x' n) (h' : as_P y y' m) (h'' : as_P z z' l) :
    as_hv b (as_mx (as_mx x y) z) (x + y + z) ≤ as_hv b (as_mx (as_mx x' y') z') (x' + y' + z') + (if b = true then n + m + l else 1) ∧ (as_hv b (as_mx (as_mx x' y') z') (x' + y' + z') < 1000000 → as_hv b (as_mx (as_mx x y) z) (x + y + z) < 1000000) := by
  have hp := as_mx_P h h'
  have hp2 := as_mx_P hp h''
  have key : as_mx (as_mx x' y') z' ≠ 1000000 → x' ≤ 11 ∧ y' ≤ 11 ∧ z' ≤ 11 := by
    obtain ⟨a1, a2, a3, a4, a5⟩ := h
    obtain ⟨b1, b2, b3, b4, b5⟩ := h'
    obtain ⟨c1, c2, c3, c4, c5⟩ := h''
    unfold as_mx
    intro q
    refine ⟨?_, ?_, ?_⟩ <;> (repeat' split at q) <;> omega
  have key0 : as_mx (as_mx x y) z ≠ 1000000 → x ≤ 11 ∧ y ≤ 11 ∧ z ≤ 11 := by
    obtain ⟨a1, a2, a3, a4, a5⟩ := h
    obtain ⟨b1, b2, b3, b4, b5⟩ := h'
    obtain ⟨c1, c2, c3, c4, c5⟩ := h''
    unfold as_mx
    intro q
    refine ⟨?_, ?_, ?_⟩ <;> (repeat' split at q) <;> omega
  obtain ⟨a1, a2, a3, a4, a5⟩ := h
  obtain ⟨b1, b2, b3, b4, b5⟩ := h'
  obtain ⟨c1, c2, c3, c4, c5⟩ := h''
  obtain ⟨d1, d2, d3, d4, d5⟩ := hp2
  generalize as_mx (as_mx x y) z = p at *
  generalize as_mx (as_mx x' y') z' = p' at *
  unfold as_hv
  by_cases q : p' = 1000000
  · rw [if_pos q]
    refine ⟨?_, fun z => by omega⟩
    by_cases q0 : p = 1000000
    · rw [if_pos q0]; omega
    · have k0 := key0 q0
      rw [if_neg q0]
      cases b <;> simp only [if_true, if_false, Bool.false_eq_true] <;> omega
  · have k3 := key q
    have hp : p ≠ 1000000 := by omega
    rw [if_neg q, if_neg hp]
    cases b <;> simp only [if_true, if_false, Bool.false_eq_true] <;> refine ⟨by omega, fun z => by omega⟩
section
variable {tg : Nat → Nat → Option Nat} {op : Nat → Prop} {b : Bool} {k : Nat} {gs : Nat → Nat}
theorem as_mvP (ok : cg_OK tg op) {g c c' : Nat} (hg : g < 12) (hc : c < 12) (h : mo_mv tg c c') : as_P (cg_td tg g c) (cg_td tg g c') (mo_ne c' c) := by
  have l1 := cg_td_le ok hg c
  have l2 := cg_td_le ok hg c'
  rcases h with rfl | ⟨d, hd, h⟩
  · rw [mo_ne_s]
    exact ⟨by omega, fun z => by omega, l1, l2, by omega⟩
  · have e := cg_td_e ok hg hc hd h
    have f := cg_td_f ok hg hc hd h
    have n : mo_ne c' c = 1 := mo_ne_n fun z => (ok c d c' hc h).2.2.2 (by rw [z])
    rw [n]
    exact ⟨e, f, l1, l2, by omega⟩
theorem as_H_ok (hk : mo_K k) (ok : cg_OK tg op) (hgs : ∀ i, i < k → gs i < 12) {g : Nat} (hg0 : g % 12 = gs 0) (hg1 : 2 ≤ k → g / 12 % 12 = gs 1) (hg2 : 3 ≤ k → g / 144 % 12 = gs 2) :
    as_H (mo_E tg b k) (as_h tg gs b k) (mo_N k) g := by
  have hE : ∀ s t w, mo_E tg b k s t w → as_h tg gs b k s ≤ as_h tg gs b k t + w ∧ (as_h tg gs b k t < 1000000 → as_h tg gs b k s < 1000000) := by
    intro s t w e
    obtain ⟨hs, ⟨ht, m0, m1, m2⟩, rfl⟩ := e
    rcases hk with rfl | rfl | rfl
    · exact as_h1 b (as_mvP ok (hgs 0 (by omega)) (by omega) m0)
    · show _ ≤ _ + (if b = true then mo_ne (t % 12) (s % 12) + mo_ne (t / 12 % 12) (s / 12 % 12) else 1) ∧ _
      exact as_h2 b (as_mvP ok (hgs 0 (by omega)) (by omega) m0) (as_mvP ok (hgs 1 (by omega)) (by omega) (m1 (by omega)).1)
    · show _ ≤ _ + (if b = true then mo_ne (t % 12) (s % 12) + mo_ne (t / 12 % 12) (s / 12 % 12) + mo_ne (t / 144 % 12) (s / 144 % 12) else 1) ∧ _
      exact as_h3 b (as_mvP ok (hgs 0 (by omega)) (by omega) m0) (as_mvP ok (hgs 1 (by omega)) (by omega) (m1 (by omega)).1) (as_mvP ok (hgs 2 (by omega)) (by omega) (m2 (by omega)).1)
  refine ⟨fun s t w e => ⟨(mo_E_lt e).1, (mo_E_lt e).2, mo_E_3 e, mo_E_1 hk e⟩, fun s t w w' e e' => mo_E_u e e', fun s t w e => (hE s t w e).1, fun s t w e => (hE s t w e).2, fun s => ?_, fun s => ?_, ?_⟩
  · rcases hk with rfl | rfl | rfl
    · have := cg_td_le ok (hgs 0 (by omega)) (s % 12)
      show as_hv b _ _ < _ → as_hv b _ _ ≤ _
      generalize cg_td tg (gs 0) (s % 12) = x at *
      unfold as_hv as_mo as_su
      simp only [if_true]
      cases b <;> (repeat' split) <;> omega
    · have := cg_td_le ok (hgs 0 (by omega)) (s % 12)
      have := cg_td_le ok (hgs 1 (by omega)) (s / 12 % 12)
      unfold as_h as_hv as_mo as_su as_mx
      generalize cg_td tg (gs 0) (s % 12) = x at *
      generalize cg_td tg (gs 1) (s / 12 % 12) = y at *
      simp only [if_true, if_neg (show ¬ 2 = 1 by omega)]
      cases b <;> (repeat' split) <;> omega
    · have := cg_td_le ok (hgs 0 (by omega)) (s % 12)
      have := cg_td_le ok (hgs 1 (by omega)) (s / 12 % 12)
      have := cg_td_le ok (hgs 2 (by omega)) (s / 144 % 12)
      unfold as_h as_hv as_mo as_su as_mx
      generalize cg_td tg (gs 0) (s % 12) = x at *
      generalize cg_td tg (gs 1) (s / 12 % 12) = y at *
      generalize cg_td tg (gs 2) (s / 144 % 12) = z at *
      simp only [if_neg (show ¬ 3 = 1 by omega), if_neg (show ¬ 3 = 2 by omega)]
      cases b <;> (repeat' split) <;> omega
  · rcases hk with rfl | rfl | rfl
    · have := cg_td_le ok (hgs 0 (by omega)) (s % 12)
      unfold as_h as_hv as_mo as_su as_mx
      generalize cg_td tg (gs 0) (s % 12) = x at *
      simp only [if_true]
      cases b <;> (repeat' split) <;> omega
    · have := cg_td_le ok (hgs 0 (by omega)) (s % 12)
      have := cg_td_le ok (hgs 1 (by omega)) (s / 12 % 12)
      unfold as_h as_hv as_mo as_su as_mx
      generalize cg_td tg (gs 0) (s % 12) = x at *
      generalize cg_td tg (gs 1) (s / 12 % 12) = y at *
      simp only [if_true, if_neg (show ¬ 2 = 1 by omega)]
      cases b <;> (repeat' split) <;> omega
    · have := cg_td_le ok (hgs 0 (by omega)) (s % 12)
      have := cg_td_le ok (hgs 1 (by omega)) (s / 12 % 12)
      have := cg_td_le ok (hgs 2 (by omega)) (s / 144 % 12)
      unfold as_h as_hv as_mo as_su as_mx
      generalize cg_td tg (gs 0) (s % 12) = x at *
      generalize cg_td tg (gs 1) (s / 12 % 12) = y at *
      generalize cg_td tg (gs 2) (s / 144 % 12) = z at *
      simp only [if_neg (show ¬ 3 = 1 by omega), if_neg (show ¬ 3 = 2 by omega)]
      cases b <;> (repeat' split) <;> omega
  · have z0 : cg_td tg (gs 0) (g % 12) = 0 := by rw [hg0]; exact cg_td0 tg _
    rcases hk with rfl | rfl | rfl
    · unfold as_h as_hv as_mo as_su as_mx
      rw [z0]
      cases b <;> rfl
    · have z1 : cg_td tg (gs 1) (g / 12 % 12) = 0 := by rw [hg1 (by omega)]; exact cg_td0 tg _
      unfold as_h as_hv as_mo as_su as_mx
      rw [z0, z1]
      cases b <;> rfl
    · have z1 : cg_td tg (gs 1) (g / 12 % 12) = 0 := by rw [hg1 (by omega)]; exact cg_td0 tg _
      have z2 : cg_td tg (gs 2) (g / 144 % 12) = 0 := by rw [hg2 (by omega)]; exact cg_td0 tg _
      unfold as_h as_hv as_mo as_su as_mx
      rw [z0, z1, z2]
      cases b <;> rfl
end
end
section
theorem xb_sh1 {c : Nat} (hc : c < 31) : (1 : Int32) <<< (nI c &&& 31) = nI (2 ^ c) := by
  have h := pk_shlN (n := 1) (nI c &&& 31) c (s_l c (by omega)) (by
    rw [Nat.one_mul]
    exact Nat.pow_lt_pow_right (by decide) (by omega))
  rw [Nat.one_mul] at h
  exact h
theorem xb_bit {W c : Nat} (hW : W < 2 ^ 31) (hc : c < 32) : (nI W >>> (nI c &&& 31)) &&& 1 = nI (W / 2 ^ c % 2) := by
  rw [pk_shrN hW (nI c &&& 31) c (s_l c hc)]
  exact pk_andN (Nat.lt_of_le_of_lt (Nat.div_le_self _ _) (by omega)) 1 (by decide)
theorem xb_t {W c : Nat} (hW : W < 2 ^ 31) (hc : c < 32) : (nI W >>> (nI c &&& 31)) &&& 1 = 1 ↔ W.testBit c = true := by
  rw [xb_bit hW hc, Nat.testBit_eq_decide_div_mod_eq, show (1 : Int32) = nI 1 from rfl, nI_eq (by omega) (by omega)]
  simp
theorem xb_f {W c : Nat} (hW : W < 2 ^ 31) (hc : c < 32) : (nI W >>> (nI c &&& 31)) &&& 1 = 0 ↔ W.testBit c = false := by
  rw [xb_bit hW hc, Nat.testBit_eq_decide_div_mod_eq, show (0 : Int32) = nI 0 from rfl, nI_eq (by omega) (by omega)]
  have : W / 2 ^ c % 2 < 2 := Nat.mod_lt _ (by omega)
  simp
theorem xb_br {W c : Nat} {A B : Prop} (hW : W < 2 ^ 31) (hc : c < 32) (f : W.testBit c = true → A) (g : W.testBit c = false → B) :
    ((nI W >>> (nI c &&& 31)) &&& 1 = 1 → A) ∧ (¬ (nI W >>> (nI c &&& 31)) &&& 1 = 1 → B) := by
  rw [xb_t hW hc]
  exact ⟨f, fun z => g (ts_nt z)⟩
theorem xb_br0 {W c : Nat} {A B : Prop} (hW : W < 2 ^ 31) (hc : c < 32) (f : W.testBit c = false → A) (g : W.testBit c = true → B) :
    ((nI W >>> (nI c &&& 31)) &&& 1 = 0 → A) ∧ (¬ (nI W >>> (nI c &&& 31)) &&& 1 = 0 → B) := by
  rw [xb_f hW hc]
  exact ⟨f, fun z => g (ts_nf z)⟩
theorem nx_or (a b : Nat) : nI a ||| nI b = nI (a ||| b) := by
  apply Int32.toBitVec_inj.1
  show BitVec.ofNat 32 a ||| BitVec.ofNat 32 b = BitVec.ofNat 32 (a ||| b)
  apply BitVec.eq_of_getLsbD_eq
  intro i hi
  simp [hi]
theorem xb_ix4 (c d : Nat) : 4 * nI c + nI d = nI (4 * c + d) := by
  rw [show (4 : Int32) = nI 4 from rfl, pk_mul, nI_add]
theorem xb_ix5 (c d : Nat) : 5 * nI c + nI d = nI (5 * c + d) := by
  rw [show (5 : Int32) = nI 5 from rfl, pk_mul, nI_add]
theorem xb_ix12 (c d : Nat) : 12 * nI c + nI d = nI (12 * c + d) := by
  rw [show (12 : Int32) = nI 12 from rfl, pk_mul, nI_add]
theorem xb_d {a : Nat} (d : Nat) {D : Int32} (ha : a < 2 ^ 31) (hd : 0 < d ∧ d < 2 ^ 31) (hD : D = nI d := by rfl) : nI a / D = nI (a / d) := by
  rw [hD]; exact pk_div ha hd.1 hd.2
theorem xb_r {a : Nat} (d : Nat) {D : Int32} (ha : a < 2 ^ 31) (hd : 0 < d ∧ d < 2 ^ 31) (hD : D = nI d := by rfl) : nI a - nI a / D * D = nI (a % d) := by
  rw [hD]; exact pk_rem ha hd.1 hd.2
theorem xb_neg : (-1 : Int32) < 0 := by decide
theorem xb_eOn {o : Option Nat} {A B : Prop} (f : o = none → A) (g : ∀ n, o = some n → B) (hl : ∀ n, o = some n → n < 2 ^ 31) : (cg_eO o < 0 → A) ∧ (¬ cg_eO o < 0 → B) := by
  rcases o with _ | n
  · exact br_t xb_neg (f rfl)
  · exact br_f (nI_pos (hl n rfl)) (g n rfl)
theorem xb_b1 : vp_nar .boolean 1 = 1 := by rfl
theorem xb_b0 : vp_nar .boolean 0 = 0 := by rfl
end
section
theorem xw_isCell {post : Int32 → Prop} {x : Int32} (h1 : ∀ c, c < 12 → x = nI c → post 1) (h0 : (∀ c, c < 12 → x ≠ nI c) → post 0) : wpX_isCell post x := by
  refine br_c (fun hn => h0 fun c hc e => ?_) (fun hn => br_c (fun h => h0 fun c hc e => ?_) (fun h => ?_))
  · rw [e] at hn
    exact nI_pos (by omega) hn
  · rw [e] at h
    exact nI_ge (a := c) (b := 12) hc (by omega) h
  · obtain ⟨j, hj, rfl⟩ := nI_of hn
    have : j < 12 := by
      rcases Nat.lt_or_ge j 12 with z | z
      · exact z
      · exact absurd (nI_le (a := 12) z hj) h
    exact h1 j this rfl
section
variable {f_walls f_placed f_count f_byEffort f_best f_turns : Int32} {a_waysOut a_placeOf a_goalOf a_stepTo a_toGoal a_distance a_who a_cost a_origin a_closed a_onward a_queue a_cellNow a_cellNext a_walkNow a_walkNext a_used a_flowFrom a_flowTo a_cameBy a_line : Nat → Int32}
theorem xw_isOpen {post : Int32 → Prop} {W c : Nat} (hW : W < 4096) (hc : c < 12) (h1 : W.testBit c = false → post 1) (h0 : W.testBit c = true → post 0) : wpX_isOpen post (nI W, f_placed, f_count, f_byEffort, f_best, f_turns, a_waysOut, a_placeOf, a_goalOf, a_stepTo, a_toGoal, a_distance, a_who, a_cost, a_origin, a_closed, a_onward, a_queue, a_cellNow, a_cellNext, a_walkNow, a_walkNext, a_used, a_flowFrom, a_flowTo, a_cameBy, a_line) (nI c) :=
  xb_br0 (by omega) (by omega) h1 h0
theorem xw_beside {post : Int32 → Prop} {c d : Nat} (hc : c < 12) (hd : d < 4) (h : post (cg_eO (cg_bs c d))) : wpX_beside post (nI c) (nI d) := by
  refine ⟨by decide, nm_r (xb_d 4 (by omega) (by omega)) ⟨by decide, nm_r (xb_r 4 (by omega) (by omega)) ?_⟩⟩
  refine br_f (nI_pos (by omega)) ?_
  have hd' : d = 0 ∨ d = 1 ∨ d = 2 ∨ d = 3 := by omega
  rcases hd' with rfl | rfl | rfl | rfl
  · refine br_f (by decide) (br_t (by decide) ?_)
    refine pk_le (c / 4) 0 (fun z => ?_) (fun z => ?_)
    · have e : cg_bs c 0 = none := by unfold cg_bs; rw [if_pos rfl, if_neg (by omega)]
      rw [e] at h; exact h
    · have e : cg_bs c 0 = some (c - 4) := by unfold cg_bs; rw [if_pos rfl, if_pos (by omega)]
      rw [e] at h
      rw [show (4 : Int32) = nI 4 from rfl, pk_sub (by omega)]; exact h
  · refine br_f (by decide) (br_f (by decide) (br_t (by decide) ?_))
    refine pk_le 3 (c % 4) (fun z => ?_) (fun z => ?_)
    · have e : cg_bs c 1 = none := by unfold cg_bs; rw [if_neg (by decide), if_pos rfl, if_neg (by omega)]
      rw [e] at h; exact h
    · have e : cg_bs c 1 = some (c + 1) := by unfold cg_bs; rw [if_neg (by decide), if_pos rfl, if_pos (by omega)]
      rw [e] at h
      rw [nI_1]; exact h
  · refine br_f (by decide) (br_f (by decide) (br_f (by decide) (br_t (by decide) ?_)))
    refine pk_le 2 (c / 4) (fun z => ?_) (fun z => ?_)
    · have e : cg_bs c 2 = none := by unfold cg_bs; rw [if_neg (by decide), if_neg (by decide), if_pos rfl, if_neg (by omega)]
      rw [e] at h; exact h
    · have e : cg_bs c 2 = some (c + 4) := by unfold cg_bs; rw [if_neg (by decide), if_neg (by decide), if_pos rfl, if_pos (by omega)]
      rw [e] at h
      rw [show (4 : Int32) = nI 4 from rfl, nI_add]; exact h
  · refine br_t (by decide) ?_
    refine pk_le (c % 4) 0 (fun z => ?_) (fun z => ?_)
    · have e : cg_bs c 3 = none := by unfold cg_bs; rw [if_neg (by decide), if_neg (by decide), if_neg (by decide), if_neg (by omega)]
      rw [e] at h; exact h
    · have e : cg_bs c 3 = some (c - 1) := by unfold cg_bs; rw [if_neg (by decide), if_neg (by decide), if_neg (by decide), if_pos (by omega)]
      rw [e] at h
      rw [show (1 : Int32) = nI 1 from rfl, pk_sub (by omega)]; exact h
/-- the first m entries of X's table of steps -/
def xw_SL (tg : Nat → Nat → Option Nat) (m : Nat) (a : Nat → Int32) : Prop := ∀ j, j < m → a j = cg_eO (tg (j / 4) (j % 4))
theorem xw_SLu {tg : Nat → Nat → Option Nat} {m : Nat} {a : Nat → Int32} {v : Int32} (h : xw_SL tg m a) (hv : v = cg_eO (tg (m / 4) (m % 4))) : xw_SL tg (m + 1) (upd a m v) := by
  intro j hj
  rcases Nat.decEq j m with e | rfl
  · rw [pk_un e]; exact h j (by omega)
  · rw [pk_us]; exact hv
theorem xw_SLd {tg : Nat → Nat → Option Nat} {a : Nat → Int32} (h : xw_SL tg 48 a) : cg_ST tg a := by
  intro c d hc hd
  have := h (4 * c + d) (by omega)
  rw [this, show (4 * c + d) / 4 = c by omega, show (4 * c + d) % 4 = d by omega]
theorem xw_lay60 {post : SX → Prop} {J2 J10 : Int32 → (Nat → Int32) → (Nat → Int32) → (Nat → Int32) → (Nat → Int32) → (Nat → Int32) → (Nat → Int32) → (Nat → Int32) → (Nat → Int32) → (Nat → Int32) → (Nat → Int32) → (Nat → Int32) → (Nat → Int32) → (Nat → Int32) → (Nat → Int32) → (Nat → Int32) → (Nat → Int32) → (Nat → Int32) → (Nat → Int32) → (Nat → Int32) → (Nat → Int32) → (Nat → Int32) → Prop}
    {c d : Nat} {x z : Int32} (hc : c < 12) (hd : d < 4) (h : J10 (nI (d + 1)) a_waysOut a_placeOf a_goalOf (upd a_stepTo (4 * c + d) (if z = 0 then -1 else x)) a_toGoal a_distance a_who a_cost a_origin a_closed a_onward a_queue a_cellNow a_cellNext a_walkNow a_walkNext a_used a_flowFrom a_flowTo a_cameBy a_line) : wX_laySteps_60 post J2 J10 (nI c) (nI d) x z f_walls f_placed f_count f_byEffort f_best f_turns a_waysOut a_placeOf a_goalOf a_stepTo a_toGoal a_distance a_who a_cost a_origin a_closed a_onward a_queue a_cellNow a_cellNext a_walkNow a_walkNext a_used a_flowFrom a_flowTo a_cameBy a_line := by
  have e := xb_ix4 c d
  have hin : vp_in (4 * nI c + nI d) 48 := by rw [e]; exact vp_in_nI (by omega) (by omega)
  have hcl : (4 * nI c + nI d).toNatClampNeg = 4 * c + d := by rw [e]; exact nI_clamp (by omega)
  refine br_c (fun hz => ⟨hin, nm_r (by rw [hcl]) (nm_r (nI_1 d) ?_)⟩) (fun hz => ⟨hin, nm_r (by rw [hcl]) (nm_r (nI_1 d) ?_)⟩)
  · rw [if_pos hz] at h; exact h
  · rw [if_neg hz] at h; exact h
theorem xw_lay10 {post : SX → Prop} {J2 : Int32 → (Nat → Int32) → (Nat → Int32) → (Nat → Int32) → (Nat → Int32) → (Nat → Int32) → (Nat → Int32) → (Nat → Int32) → (Nat → Int32) → (Nat → Int32) → (Nat → Int32) → (Nat → Int32) → (Nat → Int32) → (Nat → Int32) → (Nat → Int32) → (Nat → Int32) → (Nat → Int32) → (Nat → Int32) → (Nat → Int32) → (Nat → Int32) → (Nat → Int32) → (Nat → Int32) → Prop}
    {W c : Nat} {wy : Nat → Nat} (hW : W < 4096) (hwy : ∀ c, c < 12 → a_waysOut c = nI (wy c) ∧ wy c < 16) (hc : c < 12) (hJ : ∀ a_stepTo, xw_SL (cg_tg W wy) (4 * (c + 1)) a_stepTo → J2 (nI (c + 1)) a_waysOut a_placeOf a_goalOf a_stepTo a_toGoal a_distance a_who a_cost a_origin a_closed a_onward a_queue a_cellNow a_cellNext a_walkNow a_walkNext a_used a_flowFrom a_flowTo a_cameBy a_line) :
    ∀ e d n a_stepTo, d + e = 4 → e < n → xw_SL (cg_tg W wy) (4 * c + d) a_stepTo → wX_laySteps_10 post J2 (nI c) (nI W) f_placed f_count f_byEffort f_best f_turns n (nI d) a_waysOut a_placeOf a_goalOf a_stepTo a_toGoal a_distance a_who a_cost a_origin a_closed a_onward a_queue a_cellNow a_cellNext a_walkNow a_walkNext a_used a_flowFrom a_flowTo a_cameBy a_line := by
  intro e
  induction e with
  | zero =>
    intro d n a_stepTo hd hn hi
    obtain ⟨n, rfl⟩ : ∃ m, n = m + 1 := ⟨n - 1, by omega⟩
    refine pk_le 4 d (fun h => ?_) (fun h => by omega)
    refine nm_r (nI_1 c) (hJ a_stepTo ?_)
    rw [show 4 * (c + 1) = 4 * c + d by omega]; exact hi
  | succ e ih =>
    intro d n a_stepTo hd hn hi
    obtain ⟨n, rfl⟩ : ∃ m, n = m + 1 := ⟨n - 1, by omega⟩
    refine pk_le 4 d (fun h => by omega) (fun h => ?_)
    refine xw_beside hc (by omega) ?_
    have e1 : (4 * c + d) / 4 = c := by omega
    have e2 : (4 * c + d) % 4 = d := by omega
    have step : ∀ x z : Int32, (if z = 0 then -1 else x) = cg_eO (cg_tg W wy c d) → wX_laySteps_60 post J2 (wX_laySteps_10 post J2 (nI c) (nI W) f_placed f_count f_byEffort f_best f_turns n) (nI c) (nI d) x z (nI W) f_placed f_count f_byEffort f_best f_turns a_waysOut a_placeOf a_goalOf a_stepTo a_toGoal a_distance a_who a_cost a_origin a_closed a_onward a_queue a_cellNow a_cellNext a_walkNow a_walkNext a_used a_flowFrom a_flowTo a_cameBy a_line := fun x z hz =>
      xw_lay60 hc (by omega) (ih (d + 1) n _ (by omega) (by omega) (xw_SLu (m := 4 * c + d) hi (hz.trans (by rw [e1, e2]))))
    rcases hb : cg_bs c d with _ | o
    · have et : cg_tg W wy c d = none := by unfold cg_tg; rw [hb]; rfl
      refine br_t xb_neg (step _ 0 ?_)
      rw [et]; rfl
    · obtain ⟨ho, _⟩ := cg_bs_ok hc hb
      have et : cg_tg W wy c d = if cg_can W wy c d o = true then some o else none := by unfold cg_tg; rw [hb]; rfl
      have no : cg_can W wy c d o = false → (if (0 : Int32) = 0 then -1 else nI o) = cg_eO (cg_tg W wy c d) := fun z => by
        rw [et, z]; rfl
      refine br_f (nI_pos (by omega)) ?_
      refine xw_isOpen hW hc (fun h1 => ?_) (fun h1 => ?_)
      · refine br_f (by decide) ?_
        refine xw_isOpen hW ho (fun h2 => ?_) (fun h2 => ?_)
        · refine br_f (by decide) ⟨vp_in_nI (by omega) (by omega), ?_⟩
          rw [nI_clamp (by omega), (hwy c hc).1]
          have hy := (hwy c hc).2
          refine xb_br (by omega) (by omega) (fun h3 => step _ 1 ?_) (fun h3 => step _ 0 (no ?_))
          · rw [et, show cg_can W wy c d o = true by unfold cg_can; rw [h1, h2, h3]; rfl]; rfl
          · unfold cg_can; rw [h3, Bool.and_false]
        · exact br_t rfl (step _ 0 (no (by unfold cg_can; rw [h1, h2]; rfl)))
      · exact br_t rfl (step _ 0 (no (by unfold cg_can; rw [h1]; rfl)))
theorem xw_lay2 {post : SX → Prop} {W : Nat} {wy : Nat → Nat} (hW : W < 4096) (hwy : ∀ c, c < 12 → a_waysOut c = nI (wy c) ∧ wy c < 16) (h : ∀ a_stepTo, cg_ST (cg_tg W wy) a_stepTo → post (nI W, f_placed, f_count, f_byEffort, f_best, f_turns, a_waysOut, a_placeOf, a_goalOf, a_stepTo, a_toGoal, a_distance, a_who, a_cost, a_origin, a_closed, a_onward, a_queue, a_cellNow, a_cellNext, a_walkNow, a_walkNext, a_used, a_flowFrom, a_flowTo, a_cameBy, a_line)) :
    ∀ e c n a_stepTo, c + e = 12 → e < n → xw_SL (cg_tg W wy) (4 * c) a_stepTo → wX_laySteps_2 post (nI W) f_placed f_count f_byEffort f_best f_turns n (nI c) a_waysOut a_placeOf a_goalOf a_stepTo a_toGoal a_distance a_who a_cost a_origin a_closed a_onward a_queue a_cellNow a_cellNext a_walkNow a_walkNext a_used a_flowFrom a_flowTo a_cameBy a_line := by
  intro e
  induction e with
  | zero =>
    intro c n a_stepTo hc hn hi
    obtain ⟨n, rfl⟩ : ∃ m, n = m + 1 := ⟨n - 1, by omega⟩
    refine pk_le 12 c (fun _ => ?_) (fun h => by omega)
    obtain rfl : c = 12 := by omega
    exact h a_stepTo (xw_SLd hi)
  | succ e ih =>
    intro c n a_stepTo hc hn hi
    obtain ⟨n, rfl⟩ : ∃ m, n = m + 1 := ⟨n - 1, by omega⟩
    refine pk_le 12 c (fun _ => by omega) (fun hl => ?_)
    exact ⟨5, xw_lay10 hW hwy hl (fun a_stepTo hs => ih (c + 1) n a_stepTo (by omega) (by omega) hs) 4 0 5 a_stepTo (by omega) (by omega) hi⟩
theorem xw_laySteps {post : SX → Prop} {W : Nat} {wy : Nat → Nat} (hW : W < 4096) (hwy : ∀ c, c < 12 → a_waysOut c = nI (wy c) ∧ wy c < 16) (h : ∀ a_stepTo, cg_ST (cg_tg W wy) a_stepTo → post (nI W, f_placed, f_count, f_byEffort, f_best, f_turns, a_waysOut, a_placeOf, a_goalOf, a_stepTo, a_toGoal, a_distance, a_who, a_cost, a_origin, a_closed, a_onward, a_queue, a_cellNow, a_cellNext, a_walkNow, a_walkNext, a_used, a_flowFrom, a_flowTo, a_cameBy, a_line)) : wpX_laySteps post (nI W, f_placed, f_count, f_byEffort, f_best, f_turns, a_waysOut, a_placeOf, a_goalOf, a_stepTo, a_toGoal, a_distance, a_who, a_cost, a_origin, a_closed, a_onward, a_queue, a_cellNow, a_cellNext, a_walkNow, a_walkNext, a_used, a_flowFrom, a_flowTo, a_cameBy, a_line) :=
  ⟨13, xw_lay2 hW hwy h 12 0 13 a_stepTo (by omega) (by omega) (fun j hj => by omega)⟩
end
end
section
section
variable {tg : Nat → Nat → Option Nat} {op : Nat → Prop}
variable {f_walls f_placed f_count f_byEffort f_best f_turns : Int32} {a_waysOut a_placeOf a_goalOf a_stepTo a_toGoal a_distance a_who a_cost a_origin a_closed a_onward a_queue a_cellNow a_cellNext a_walkNow a_walkNext a_used a_flowFrom a_flowTo a_cameBy a_line : Nat → Int32}
theorem xw_leadsTo {post : Int32 → Prop} {c r : Nat} {dv : Nat → Nat} (ok : cg_OK tg op) (hst : cg_ST tg a_stepTo) (hc : c < 12) (hr : r < 2 ^ 31) (hd : ∀ c, c < 12 → a_distance c = nI (dv c) ∧ dv c < 2 ^ 31)
    (h1 : ∀ d o, d < 4 → tg c d = some o → dv o = r → post 1) (h0 : (∀ d o, d < 4 → tg c d = some o → dv o ≠ r) → post 0) : wpX_leadsTo post (f_walls, f_placed, f_count, f_byEffort, f_best, f_turns, a_waysOut, a_placeOf, a_goalOf, a_stepTo, a_toGoal, a_distance, a_who, a_cost, a_origin, a_closed, a_onward, a_queue, a_cellNow, a_cellNext, a_walkNow, a_walkNext, a_used, a_flowFrom, a_flowTo, a_cameBy, a_line) (nI c) (nI r) := by
  have key : ∀ e d n, d + e = 4 → e < n → (∀ d' o, d' < d → tg c d' = some o → dv o ≠ r) → wX_leadsTo_2 post (nI c) (nI r) f_walls f_placed f_count f_byEffort f_best f_turns a_waysOut a_placeOf a_goalOf a_stepTo a_toGoal a_distance a_who a_cost a_origin a_closed a_onward a_queue a_cellNow a_cellNext a_walkNow a_walkNext a_used a_flowFrom a_flowTo a_cameBy a_line n (nI d) := by
    intro e
    induction e with
    | zero =>
      intro d n hd hn hi
      obtain ⟨n, rfl⟩ : ∃ m, n = m + 1 := ⟨n - 1, by omega⟩
      refine pk_le 4 d (fun h => ?_) (fun h => by omega)
      exact h0 fun d' o hd' => hi d' o (by omega)
    | succ e ih =>
      intro d n hd' hn hi
      obtain ⟨n, rfl⟩ : ∃ m, n = m + 1 := ⟨n - 1, by omega⟩
      refine pk_le 4 d (fun h => by omega) (fun h => ?_)
      have hin : vp_in (4 * nI c + nI d) 48 := by rw [xb_ix4]; exact vp_in_nI (by omega) (by omega)
      have he : a_stepTo (4 * nI c + nI d).toNatClampNeg = cg_eO (tg c d) := by
        rw [xb_ix4, nI_clamp (by omega)]; exact hst c d hc (by omega)
      rcases hb : tg c d with _ | o
      · rw [hb] at he; replace he := he.trans (by first | exact cg_eOn | exact cg_eOs _)
        refine ⟨hin, nm_r he (br_t xb_neg (nm_r (nI_1 d) (ih (d + 1) n (by omega) (by omega) fun d' o hl ht => ?_)))⟩
        rcases Nat.decEq d' d with z | rfl
        · exact hi d' o (by omega) ht
        · rw [hb] at ht; cases ht
      · rw [hb] at he; replace he := he.trans (by first | exact cg_eOn | exact cg_eOs _)
        have ho := (ok c d o hc hb).1
        refine ⟨hin, nm_r he (br_f (nI_pos (by omega)) ⟨vp_in_nI ho (by omega), ?_⟩)⟩
        rw [nI_clamp (by omega), (hd o ho).1]
        have := (hd o ho).2
        refine pk_eq (dv o) r (fun z => h1 d o (by omega) hb z) (fun z => nm_r (nI_1 d) (ih (d + 1) n (by omega) (by omega) fun d' o' hl ht => ?_))
        rcases Nat.decEq d' d with y | rfl
        · exact hi d' o' (by omega) ht
        · rw [hb] at ht; cases ht; exact z
  exact ⟨5, key 4 0 5 (by omega) (by omega) (fun d' o z => by omega)⟩
/-- distances as far as they are known behind ring r -/
def xw_rv (D : Nat → Nat) (r c : Nat) : Nat := if D c ≤ r then D c else 1000000
def xw_q (D : Nat → Nat) (r j c : Nat) : Nat := if c < j then xw_rv D (r + 1) c else xw_rv D r c
theorem xw_rv_lt {D : Nat → Nat} {r c : Nat} (hr : r < 12) : xw_rv D r c < 2 ^ 31 := by unfold xw_rv; split <;> omega
theorem xw_q_lt {D : Nat → Nat} {r j c : Nat} (hr : r < 11) : xw_q D r j c < 2 ^ 31 := by
  unfold xw_q
  split
  · exact xw_rv_lt (by omega)
  · exact xw_rv_lt (by omega)
theorem xw_q_e {D : Nat → Nat} {r j c : Nat} (hr : r < 11) : xw_q D r j c = r ↔ D c = r := by
  unfold xw_q xw_rv
  constructor
  · intro h
    repeat' split at h
    all_goals omega
  · intro h
    repeat' split
    all_goals omega
theorem xw_find41 {post : SX → Prop} {J33 : Int32 → (Nat → Int32) → (Nat → Int32) → (Nat → Int32) → (Nat → Int32) → (Nat → Int32) → (Nat → Int32) → (Nat → Int32) → (Nat → Int32) → (Nat → Int32) → (Nat → Int32) → (Nat → Int32) → (Nat → Int32) → (Nat → Int32) → (Nat → Int32) → (Nat → Int32) → (Nat → Int32) → (Nat → Int32) → (Nat → Int32) → (Nat → Int32) → (Nat → Int32) → (Nat → Int32) → Prop} {g r : Nat} (ok : cg_OK tg op) (hst : cg_ST tg a_stepTo) (hg : g < 12) (hr : r < 11)
    (hJ : ∀ a_distance, (∀ c, c < 12 → a_distance c = nI (xw_rv (cg_td tg g) (r + 1) c)) → J33 (nI (r + 2)) a_waysOut a_placeOf a_goalOf a_stepTo a_toGoal a_distance a_who a_cost a_origin a_closed a_onward a_queue a_cellNow a_cellNext a_walkNow a_walkNext a_used a_flowFrom a_flowTo a_cameBy a_line) :
    ∀ e j n a_distance, j + e = 12 → e < n → (∀ c, c < 12 → a_distance c = nI (xw_q (cg_td tg g) r j c)) → wX_findDistances_41 post J33 (nI (r + 1)) f_walls f_placed f_count f_byEffort f_best f_turns n (nI j) a_waysOut a_placeOf a_goalOf a_stepTo a_toGoal a_distance a_who a_cost a_origin a_closed a_onward a_queue a_cellNow a_cellNext a_walkNow a_walkNext a_used a_flowFrom a_flowTo a_cameBy a_line := by
  intro e
  induction e with
  | zero =>
    intro j n a_distance hj hn hi
    obtain ⟨n, rfl⟩ : ∃ m, n = m + 1 := ⟨n - 1, by omega⟩
    refine pk_le 12 j (fun h => ?_) (fun h => by omega)
    refine nm_r (nI_1 (r + 1)) (hJ a_distance fun c hc => ?_)
    rw [hi c hc]
    unfold xw_q
    rw [if_pos (by omega)]
  | succ e ih =>
    intro j n a_distance hj hn hi
    obtain ⟨n, rfl⟩ : ∃ m, n = m + 1 := ⟨n - 1, by omega⟩
    refine pk_le 12 j (fun h => by omega) (fun h => ⟨vp_in_nI h (by omega), ?_⟩)
    rw [nI_clamp (by omega), hi j h]
    have hjv : xw_q (cg_td tg g) r j j = xw_rv (cg_td tg g) r j := if_neg (by omega)
    rw [hjv]
    have hle := cg_td_le ok hg j
    have keep : ∀ a_distance : Nat → Int32, (∀ c, c < 12 → c ≠ j → a_distance c = nI (xw_q (cg_td tg g) r j c)) → a_distance j = nI (xw_rv (cg_td tg g) (r + 1) j) → ∀ c, c < 12 → a_distance c = nI (xw_q (cg_td tg g) r (j + 1) c) := by
      intro a h1 h2 c hc
      rcases Nat.decEq c j with z | rfl
      · rw [h1 c hc z]
        unfold xw_q
        rcases Nat.lt_or_ge c j with y | y
        · rw [if_pos y, if_pos (by omega)]
        · rw [if_neg (by omega), if_neg (by omega)]
      · rw [h2]
        unfold xw_q
        rw [if_pos (by omega)]
    have hlt := xw_rv_lt (D := cg_td tg g) (c := j) (r := r) (by omega)
    refine pk_eq (xw_rv (cg_td tg g) r j) 1000000 (fun z => ?_) (fun z => nm_r (nI_1 j) (ih (j + 1) n a_distance (by omega) (by omega) (keep a_distance (fun c hc _ => hi c hc) ?_)))
    · have hgt : r < cg_td tg g j := by
        unfold xw_rv at z
        split at z <;> omega
      rw [nI_pred]
      refine xw_leadsTo (dv := xw_q (cg_td tg g) r j) ok hst h (by omega) (fun c hc => ⟨hi c hc, xw_q_lt hr⟩) (fun d o hd ht hv => ?_) (fun hv => ?_)
      · rw [xw_q_e hr] at hv
        have hte := cg_td_e ok hg h hd ht
        refine br_f (by decide) ⟨vp_in_nI h (by omega), nm_r rfl (nm_r (nI_1 j) (ih (j + 1) n _ (by omega) (by omega) (keep _ (fun c hc hn => ?_) ?_)))⟩
        · rw [pk_un hn]; exact hi c hc
        · rw [pk_us]
          unfold xw_rv
          rw [if_pos (by omega), show cg_td tg g j = r + 1 by omega]
      · refine br_t rfl (nm_r (nI_1 j) (ih (j + 1) n a_distance (by omega) (by omega) (keep a_distance (fun c hc _ => hi c hc) ?_)))
        rw [hi j h, hjv]
        unfold xw_rv
        rw [if_neg (by omega), if_neg ?_]
        intro hle2
        obtain ⟨d, o, h1, h2, h3⟩ := cg_td_s ok hg (c := j) (n := r) (by omega) (by omega)
        exact hv d o h1 h2 ((xw_q_e hr).mpr h3)
    · rw [hi j h, hjv]
      have : cg_td tg g j ≤ r := by
        unfold xw_rv at z
        split at z
        · assumption
        · exact absurd rfl z
      unfold xw_rv
      rw [if_pos this, if_pos (by omega)]
theorem xw_find33 {post : SX → Prop} {g : Nat} (ok : cg_OK tg op) (hst : cg_ST tg a_stepTo) (hg : g < 12)
    (h : ∀ a_distance, (∀ c, c < 12 → a_distance c = nI (cg_td tg g c)) → post (f_walls, f_placed, f_count, f_byEffort, f_best, f_turns, a_waysOut, a_placeOf, a_goalOf, a_stepTo, a_toGoal, a_distance, a_who, a_cost, a_origin, a_closed, a_onward, a_queue, a_cellNow, a_cellNext, a_walkNow, a_walkNext, a_used, a_flowFrom, a_flowTo, a_cameBy, a_line)) :
    ∀ e r n a_distance, r + e = 11 → e < n → (∀ c, c < 12 → a_distance c = nI (xw_rv (cg_td tg g) r c)) → wX_findDistances_33 post f_walls f_placed f_count f_byEffort f_best f_turns n (nI (r + 1)) a_waysOut a_placeOf a_goalOf a_stepTo a_toGoal a_distance a_who a_cost a_origin a_closed a_onward a_queue a_cellNow a_cellNext a_walkNow a_walkNext a_used a_flowFrom a_flowTo a_cameBy a_line := by
  intro e
  induction e with
  | zero =>
    intro r n a_distance hj hn hi
    obtain ⟨n, rfl⟩ : ∃ m, n = m + 1 := ⟨n - 1, by omega⟩
    refine pk_le 12 (r + 1) (fun _ => ?_) (fun h => by omega)
    refine h a_distance fun c hc => ?_
    rw [hi c hc]
    have := cg_td_le ok hg c
    unfold xw_rv
    split
    · rfl
    · rw [show cg_td tg g c = 1000000 by omega]
  | succ e ih =>
    intro r n a_distance hj hn hi
    obtain ⟨n, rfl⟩ : ∃ m, n = m + 1 := ⟨n - 1, by omega⟩
    refine pk_le 12 (r + 1) (fun _ => by omega) (fun _ => ?_)
    refine ⟨13, xw_find41 ok hst hg (by omega) (fun a_distance ha => ih (r + 1) n a_distance (by omega) (by omega) ha) 12 0 13 a_distance (by omega) (by omega) fun c hc => ?_⟩
    rw [hi c hc]
    unfold xw_q
    rw [if_neg (by omega)]
theorem xw_find2 {post : SX → Prop} {g : Nat} (ok : cg_OK tg op) (hst : cg_ST tg a_stepTo) (hg : g < 12)
    (h : ∀ a_distance, (∀ c, c < 12 → a_distance c = nI (cg_td tg g c)) → post (f_walls, f_placed, f_count, f_byEffort, f_best, f_turns, a_waysOut, a_placeOf, a_goalOf, a_stepTo, a_toGoal, a_distance, a_who, a_cost, a_origin, a_closed, a_onward, a_queue, a_cellNow, a_cellNext, a_walkNow, a_walkNext, a_used, a_flowFrom, a_flowTo, a_cameBy, a_line)) :
    ∀ e j n a_distance, j + e = 12 → e < n → (∀ c, c < j → a_distance c = nI (xw_rv (cg_td tg g) 0 c)) → wX_findDistances_2 post (nI g) f_walls f_placed f_count f_byEffort f_best f_turns n (nI j) a_waysOut a_placeOf a_goalOf a_stepTo a_toGoal a_distance a_who a_cost a_origin a_closed a_onward a_queue a_cellNow a_cellNext a_walkNow a_walkNext a_used a_flowFrom a_flowTo a_cameBy a_line := by
  intro e
  induction e with
  | zero =>
    intro j n a_distance hj hn hi
    obtain ⟨n, rfl⟩ : ∃ m, n = m + 1 := ⟨n - 1, by omega⟩
    refine pk_le 12 j (fun _ => ?_) (fun h => by omega)
    exact ⟨12, xw_find33 ok hst hg h 11 0 12 a_distance (by omega) (by omega) fun c hc => hi c (by omega)⟩
  | succ e ih =>
    intro j n a_distance hj hn hi
    obtain ⟨n, rfl⟩ : ∃ m, n = m + 1 := ⟨n - 1, by omega⟩
    refine pk_le 12 j (fun _ => by omega) (fun hlt => ?_)
    have step : ∀ v : Int32, v = nI (xw_rv (cg_td tg g) 0 j) → ∀ c, c < j + 1 → upd a_distance j v c = nI (xw_rv (cg_td tg g) 0 c) := by
      intro v hv c hc
      rcases Nat.decEq c j with z | rfl
      · rw [pk_un z]; exact hi c (by omega)
      · rw [pk_us]; exact hv
    refine pk_eq j g (fun z => ⟨vp_in_nI hlt (by omega), nm_r (by rw [nI_clamp (by omega)]) (nm_r (nI_1 j) (ih (j + 1) n _ (by omega) (by omega) (step 0 ?_)))⟩)
      (fun z => ⟨vp_in_nI hlt (by omega), nm_r (by rw [nI_clamp (by omega)]) (nm_r (nI_1 j) (ih (j + 1) n _ (by omega) (by omega) (step 1000000 ?_)))⟩)
    · subst z
      unfold xw_rv
      rw [cg_td0, if_pos (by omega)]; rfl
    · unfold xw_rv
      rw [if_neg (fun q => z (cg_td_z ok hg (by omega)))]; rfl
theorem xw_findDistances {post : SX → Prop} {g : Nat} (ok : cg_OK tg op) (hst : cg_ST tg a_stepTo) (hg : g < 12)
    (h : ∀ a_distance, (∀ c, c < 12 → a_distance c = nI (cg_td tg g c)) → post (f_walls, f_placed, f_count, f_byEffort, f_best, f_turns, a_waysOut, a_placeOf, a_goalOf, a_stepTo, a_toGoal, a_distance, a_who, a_cost, a_origin, a_closed, a_onward, a_queue, a_cellNow, a_cellNext, a_walkNow, a_walkNext, a_used, a_flowFrom, a_flowTo, a_cameBy, a_line)) : wpX_findDistances post (f_walls, f_placed, f_count, f_byEffort, f_best, f_turns, a_waysOut, a_placeOf, a_goalOf, a_stepTo, a_toGoal, a_distance, a_who, a_cost, a_origin, a_closed, a_onward, a_queue, a_cellNow, a_cellNext, a_walkNow, a_walkNext, a_used, a_flowFrom, a_flowTo, a_cameBy, a_line) (nI g) :=
  ⟨13, xw_find2 ok hst hg h 12 0 13 a_distance (by omega) (by omega) fun c hc => by omega⟩
/-- distances to the goals of a team's walkers -/
def xw_TG (tg : Nat → Nat → Option Nat) (T : Nat) (gl : Nat → Nat) (m : Nat) (a : Nat → Int32) : Prop := ∀ w, w < m → T.testBit w = true → ∀ c, c < 12 → a (12 * w + c) = nI (cg_td tg (gl w) c)
theorem xw_goal32 {post : SX → Prop} {J6 : Int32 → Int32 → Int32 → Int32 → Int32 → Int32 → Int32 → (Nat → Int32) → (Nat → Int32) → (Nat → Int32) → (Nat → Int32) → (Nat → Int32) → (Nat → Int32) → (Nat → Int32) → (Nat → Int32) → (Nat → Int32) → (Nat → Int32) → (Nat → Int32) → (Nat → Int32) → (Nat → Int32) → (Nat → Int32) → (Nat → Int32) → (Nat → Int32) → (Nat → Int32) → (Nat → Int32) → (Nat → Int32) → (Nat → Int32) → (Nat → Int32) → Prop} {T w : Nat} {gl : Nat → Nat} {x1 : Int32} (hw : w < 3) (hd : ∀ c, c < 12 → a_distance c = nI (cg_td tg (gl w) c))
    (hJ : ∀ a_toGoal, xw_TG tg T gl (w + 1) a_toGoal → J6 (nI (w + 1)) f_walls f_placed f_count f_byEffort f_best f_turns a_waysOut a_placeOf a_goalOf a_stepTo a_toGoal a_distance a_who a_cost a_origin a_closed a_onward a_queue a_cellNow a_cellNext a_walkNow a_walkNext a_used a_flowFrom a_flowTo a_cameBy a_line) :
    ∀ e j n a_toGoal, j + e = 12 → e < n → xw_TG tg T gl w a_toGoal → (∀ c, c < j → a_toGoal (12 * w + c) = nI (cg_td tg (gl w) c)) → wX_findGoalDistances_32 post J6 x1 (nI w) f_walls f_placed f_count f_byEffort f_best f_turns n (nI j) a_waysOut a_placeOf a_goalOf a_stepTo a_toGoal a_distance a_who a_cost a_origin a_closed a_onward a_queue a_cellNow a_cellNext a_walkNow a_walkNext a_used a_flowFrom a_flowTo a_cameBy a_line := by
  intro e
  induction e with
  | zero =>
    intro j n a_toGoal hj hn hi h2
    obtain ⟨n, rfl⟩ : ∃ m, n = m + 1 := ⟨n - 1, by omega⟩
    refine pk_le 12 j (fun _ => ?_) (fun h => by omega)
    refine nm_r (nI_1 w) (hJ a_toGoal fun v hv ht c hc => ?_)
    rcases Nat.decEq v w with z | rfl
    · exact hi v (by omega) ht c hc
    · exact h2 c (by omega)
  | succ e ih =>
    intro j n a_toGoal hj hn hi h2
    obtain ⟨n, rfl⟩ : ∃ m, n = m + 1 := ⟨n - 1, by omega⟩
    refine pk_le 12 j (fun _ => by omega) (fun hlt => ⟨vp_in_nI hlt (by omega), by rw [xb_ix12]; exact vp_in_nI (by omega) (by omega), nm_r (by rw [xb_ix12, nI_clamp (show 12 * w + j < 2 ^ 31 by omega), nI_clamp (show j < 2 ^ 31 by omega), hd j hlt]) (nm_r (nI_1 j) (ih (j + 1) n _ (by omega) (by omega) ?_ ?_))⟩)
    · intro v hv ht c hc
      rw [pk_un (by omega)]
      exact hi v hv ht c hc
    · intro c hc
      rcases Nat.decEq c j with z | rfl
      · rw [pk_un (by omega)]; exact h2 c (by omega)
      · exact pk_us
theorem xw_goal6 {post : SX → Prop} {T : Nat} {gl : Nat → Nat} (ok : cg_OK tg op) (hst : cg_ST tg a_stepTo) (hT : T < 8) (hgl : ∀ w, w < 3 → a_goalOf w = nI (gl w) ∧ gl w < 12)
    (h : ∀ a_distance a_toGoal, xw_TG tg T gl 3 a_toGoal → post (f_walls, f_placed, f_count, f_byEffort, f_best, f_turns, a_waysOut, a_placeOf, a_goalOf, a_stepTo, a_toGoal, a_distance, a_who, a_cost, a_origin, a_closed, a_onward, a_queue, a_cellNow, a_cellNext, a_walkNow, a_walkNext, a_used, a_flowFrom, a_flowTo, a_cameBy, a_line)) :
    ∀ e w n a_distance a_toGoal, w + e = 3 → e < n → xw_TG tg T gl w a_toGoal → wX_findGoalDistances_6 post (nI T) n (nI w) f_walls f_placed f_count f_byEffort f_best f_turns a_waysOut a_placeOf a_goalOf a_stepTo a_toGoal a_distance a_who a_cost a_origin a_closed a_onward a_queue a_cellNow a_cellNext a_walkNow a_walkNext a_used a_flowFrom a_flowTo a_cameBy a_line := by
  intro e
  induction e with
  | zero =>
    intro w n a_distance a_toGoal hw hn hi
    obtain ⟨n, rfl⟩ : ∃ m, n = m + 1 := ⟨n - 1, by omega⟩
    refine pk_le 3 w (fun _ => ?_) (fun h => by omega)
    obtain rfl : w = 3 := by omega
    exact h a_distance a_toGoal hi
  | succ e ih =>
    intro w n a_distance a_toGoal hw hn hi
    obtain ⟨n, rfl⟩ : ∃ m, n = m + 1 := ⟨n - 1, by omega⟩
    refine pk_le 3 w (fun _ => by omega) (fun hlt => xb_br (by omega) (by omega) (fun hb => ⟨vp_in_nI hlt (by omega), ?_⟩) (fun hb => nm_r (nI_1 w) (ih (w + 1) n a_distance a_toGoal (by omega) (by omega) fun v hv ht => ?_)))
    · rw [nI_clamp (by omega), (hgl w hlt).1]
      refine xw_findDistances ok hst (hgl w hlt).2 fun a_distance hd => ?_
      exact ⟨13, xw_goal32 hlt hd (fun a_toGoal ht => ih (w + 1) n a_distance a_toGoal (by omega) (by omega) ht) 12 0 13 a_toGoal (by omega) (by omega) hi fun c hc => by omega⟩
    · rcases Nat.decEq v w with z | rfl
      · exact hi v (by omega) ht
      · rw [hb] at ht; cases ht
theorem xw_nextAlone {post : Int32 → Prop} {w c g : Nat} (ok : cg_OK tg op) (hst : cg_ST tg a_stepTo) (hw : w < 3) (hg : g < 12) (hc : c < 12) (ht : ∀ c, c < 12 → a_toGoal (12 * w + c) = nI (cg_td tg g c))
    (h : post (nI (cg_na tg g c))) : wpX_nextAlone post (f_walls, f_placed, f_count, f_byEffort, f_best, f_turns, a_waysOut, a_placeOf, a_goalOf, a_stepTo, a_toGoal, a_distance, a_who, a_cost, a_origin, a_closed, a_onward, a_queue, a_cellNow, a_cellNext, a_walkNow, a_walkNext, a_used, a_flowFrom, a_flowTo, a_cameBy, a_line) (nI w) (nI c) := by
  have key : ∀ e d n, d + e = 4 → e < n → cg_nx tg (cg_td tg g) c e = cg_na tg g c → wX_nextAlone_2 post (nI w) (nI c) f_walls f_placed f_count f_byEffort f_best f_turns a_waysOut a_placeOf a_goalOf a_stepTo a_toGoal a_distance a_who a_cost a_origin a_closed a_onward a_queue a_cellNow a_cellNext a_walkNow a_walkNext a_used a_flowFrom a_flowTo a_cameBy a_line n (nI d) := by
    intro e
    induction e with
    | zero =>
      intro d n hd hn hi
      obtain ⟨n, rfl⟩ : ∃ m, n = m + 1 := ⟨n - 1, by omega⟩
      refine pk_le 4 d (fun _ => ?_) (fun h => by omega)
      rw [← hi] at h
      exact h
    | succ e ih =>
      intro d n hd hn hi
      obtain ⟨n, rfl⟩ : ∃ m, n = m + 1 := ⟨n - 1, by omega⟩
      refine pk_le 4 d (fun h => by omega) (fun _ => ?_)
      have hde : 3 - e = d := by omega
      have hin : vp_in (4 * nI c + nI d) 48 := by rw [xb_ix4]; exact vp_in_nI (by omega) (by omega)
      have he : a_stepTo (4 * nI c + nI d).toNatClampNeg = cg_eO (tg c d) := by
        rw [xb_ix4, nI_clamp (by omega)]; exact hst c d hc (by omega)
      rcases hb : tg c d with _ | o
      · rw [hb] at he; replace he := he.trans (by first | exact cg_eOn | exact cg_eOs _)
        refine ⟨hin, nm_r he (br_t xb_neg (nm_r (nI_1 d) (ih (d + 1) n (by omega) (by omega) ?_)))⟩
        rw [← hi]
        simp only [cg_nx, hde, hb]
      · rw [hb] at he; replace he := he.trans (by first | exact cg_eOn | exact cg_eOs _)
        have ho := (ok c d o hc hb).1
        have lo := cg_td_le ok hg o
        have lc := cg_td_le ok hg c
        refine ⟨hin, nm_r he (br_f (nI_pos (by omega)) ⟨by rw [xb_ix12]; exact vp_in_nI (by omega) (by omega), by rw [xb_ix12]; exact vp_in_nI (by omega) (by omega), ?_⟩)⟩
        rw [xb_ix12, xb_ix12, nI_clamp (show 12 * w + c < 2 ^ 31 by omega), nI_clamp (show 12 * w + o < 2 ^ 31 by omega), ht c hc, ht o ho]
        refine pk_le (cg_td tg g c) (cg_td tg g o) (fun z => nm_r (nI_1 d) (ih (d + 1) n (by omega) (by omega) ?_)) (fun z => ?_)
        · rw [← hi]
          simp only [cg_nx, hde, hb]
          rw [if_neg (by omega)]
        · have : cg_nx tg (cg_td tg g) c (e + 1) = o := by
            simp only [cg_nx, hde, hb]
            rw [if_pos z]
          rw [← hi, this] at h
          exact h
  exact ⟨5, key 4 0 5 (by omega) (by omega) rfl⟩
end
section
variable {f_walls f_placed f_count f_byEffort f_best f_turns : Int32} {a_waysOut a_placeOf a_goalOf a_stepTo a_toGoal a_distance a_who a_cost a_origin a_closed a_onward a_queue a_cellNow a_cellNext a_walkNow a_walkNext a_used a_flowFrom a_flowTo a_cameBy a_line : Nat → Int32}
theorem xw_findGoalDistances {post : SX → Prop} {W T : Nat} {wy gl : Nat → Nat} (hW : W < 4096) (hwy : ∀ c, c < 12 → a_waysOut c = nI (wy c) ∧ wy c < 16) (hT : T < 8) (hgl : ∀ w, w < 3 → a_goalOf w = nI (gl w) ∧ gl w < 12)
    (h : ∀ a_stepTo a_distance a_toGoal, cg_ST (cg_tg W wy) a_stepTo → xw_TG (cg_tg W wy) T gl 3 a_toGoal → post (nI W, f_placed, f_count, f_byEffort, f_best, f_turns, a_waysOut, a_placeOf, a_goalOf, a_stepTo, a_toGoal, a_distance, a_who, a_cost, a_origin, a_closed, a_onward, a_queue, a_cellNow, a_cellNext, a_walkNow, a_walkNext, a_used, a_flowFrom, a_flowTo, a_cameBy, a_line)) : wpX_findGoalDistances post (nI W, f_placed, f_count, f_byEffort, f_best, f_turns, a_waysOut, a_placeOf, a_goalOf, a_stepTo, a_toGoal, a_distance, a_who, a_cost, a_origin, a_closed, a_onward, a_queue, a_cellNow, a_cellNext, a_walkNow, a_walkNext, a_used, a_flowFrom, a_flowTo, a_cameBy, a_line) (nI T) := by
  refine xw_laySteps hW hwy fun a_stepTo hst => ?_
  exact ⟨4, xw_goal6 (cg_tg_ok W wy) hst hT hgl (fun a_distance a_toGoal ht => h a_stepTo a_distance a_toGoal hst ht) 3 0 4 a_distance a_toGoal (by omega) (by omega) fun w hw => by omega⟩
end
end
section
/-- how many walkers a team has, which ones, and how many of them come ahead of w -/
def tm_k (T : Nat) : Nat := T % 2 + T / 2 % 2 + T / 4 % 2
def tm_w (T i : Nat) : Nat := if T = 1 then 0 else if T = 2 then 1 else if T = 3 then i else if T = 4 then 2 else if T = 5 then 2 * i else if T = 6 then i + 1 else i
def tm_c (T w : Nat) : Nat := if w = 0 then 0 else if w = 1 then T % 2 else if w = 2 then T % 2 + T / 2 % 2 else T % 2 + T / 2 % 2 + T / 4 % 2
theorem tm_f1 : ∀ T, T < 8 → ∀ w, w < 3 → (T.testBit w = true → tm_w T (tm_c T w) = w ∧ tm_c T (w + 1) = tm_c T w + 1 ∧ tm_c T w < 3) ∧ (T.testBit w = false → tm_c T (w + 1) = tm_c T w) := by decide
theorem tm_f2 : ∀ T, T < 8 → 1 ≤ T → mo_K (tm_k T) ∧ ∀ i, i < 3 → i < tm_k T → tm_w T i < 3 ∧ T.testBit (tm_w T i) = true ∧ ∀ j, j < 3 → j < tm_k T → tm_w T i = tm_w T j → i = j := by
  intro T hT h1
  have : T = 1 ∨ T = 2 ∨ T = 3 ∨ T = 4 ∨ T = 5 ∨ T = 6 ∨ T = 7 := by omega
  rcases this with rfl | rfl | rfl | rfl | rfl | rfl | rfl
  · exact ⟨Or.inl rfl, by decide⟩
  · exact ⟨Or.inl rfl, by decide⟩
  · exact ⟨Or.inr (Or.inl rfl), by decide⟩
  · exact ⟨Or.inl rfl, by decide⟩
  · exact ⟨Or.inr (Or.inl rfl), by decide⟩
  · exact ⟨Or.inr (Or.inl rfl), by decide⟩
  · exact ⟨Or.inr (Or.inr rfl), by decide⟩
theorem tm_f3 : ∀ T, T < 8 → ∀ w, w < 3 → T.testBit w = true → ∃ i, i < tm_k T ∧ tm_w T i = w := by
  intro T hT w hw hb
  have h := (tm_f1 T hT w hw).1 hb
  refine ⟨tm_c T w, ?_, h.1⟩
  have : tm_c T w + 1 ≤ tm_k T := by
    rw [← h.2.1]
    have hw' : w = 0 ∨ w = 1 ∨ w = 2 := by omega
    unfold tm_c tm_k
    rcases hw' with rfl | rfl | rfl
    · simp only [Nat.reduceAdd, Nat.reduceEqDiff, if_true, if_false]; omega
    · simp only [Nat.reduceAdd, Nat.reduceEqDiff, if_true, if_false]; omega
    · simp only [Nat.reduceAdd, Nat.reduceEqDiff, if_true, if_false]; omega
  omega
/-- an arrangement's number -/
def tm_s (k : Nat) (p : Nat → Nat) : Nat := if k = 1 then p 0 else if k = 2 then p 0 + 12 * p 1 else p 0 + 12 * p 1 + 144 * p 2
theorem tm_s_lt {k : Nat} {p : Nat → Nat} (hk : mo_K k) (hp : ∀ i, i < k → p i < 12) : tm_s k p < mo_N k := by
  rcases hk with rfl | rfl | rfl
  · exact hp 0 (by omega)
  · have := hp 0 (by omega)
    have := hp 1 (by omega)
    show p 0 + 12 * p 1 < 144
    omega
  · have := hp 0 (by omega)
    have := hp 1 (by omega)
    have := hp 2 (by omega)
    show p 0 + 12 * p 1 + 144 * p 2 < 1728
    omega
theorem tm_s_d {k : Nat} {p : Nat → Nat} (hk : mo_K k) (hp : ∀ i, i < k → p i < 12) : tm_s k p % 12 = p 0 ∧ (2 ≤ k → tm_s k p / 12 % 12 = p 1) ∧ (3 ≤ k → tm_s k p / 144 % 12 = p 2) := by
  rcases hk with rfl | rfl | rfl
  · have := hp 0 (by omega)
    show p 0 % 12 = p 0 ∧ _ ∧ _
    exact ⟨by omega, fun z => by omega, fun z => by omega⟩
  · have := hp 0 (by omega)
    have := hp 1 (by omega)
    show (p 0 + 12 * p 1) % 12 = p 0 ∧ (_ → (p 0 + 12 * p 1) / 12 % 12 = p 1) ∧ _
    exact ⟨by omega, fun z => by omega, fun z => by omega⟩
  · have := hp 0 (by omega)
    have := hp 1 (by omega)
    have := hp 2 (by omega)
    show (p 0 + 12 * p 1 + 144 * p 2) % 12 = p 0 ∧ (_ → (p 0 + 12 * p 1 + 144 * p 2) / 12 % 12 = p 1) ∧ (_ → (p 0 + 12 * p 1 + 144 * p 2) / 144 % 12 = p 2)
    exact ⟨by omega, fun z => by omega, fun z => by omega⟩
/-- an array of cells that holds an arrangement's -/
def tm_C (k s : Nat) (a : Nat → Int32) : Prop := a 0 = nI (s % 12) ∧ (2 ≤ k → a 1 = nI (s / 12 % 12)) ∧ (3 ≤ k → a 2 = nI (s / 144 % 12))
/-- who is planned together -/
def tm_W (k : Nat) (wh : Nat → Nat) (a : Nat → Int32) : Prop := ∀ i, i < k → a i = nI (wh i) ∧ wh i < 3
section
variable {f_walls f_placed f_count f_byEffort f_best f_turns : Int32} {a_waysOut a_placeOf a_goalOf a_stepTo a_toGoal a_distance a_who a_cost a_origin a_closed a_onward a_queue a_cellNow a_cellNext a_walkNow a_walkNext a_used a_flowFrom a_flowTo a_cameBy a_line : Nat → Int32}
theorem xw_gath7 {post : SX → Prop} {T : Nat} (hT : T < 8) (h : ∀ a_who, (∀ i, i < tm_k T → a_who i = nI (tm_w T i)) → post (f_walls, f_placed, nI (tm_k T), f_byEffort, f_best, f_turns, a_waysOut, a_placeOf, a_goalOf, a_stepTo, a_toGoal, a_distance, a_who, a_cost, a_origin, a_closed, a_onward, a_queue, a_cellNow, a_cellNext, a_walkNow, a_walkNext, a_used, a_flowFrom, a_flowTo, a_cameBy, a_line)) :
    ∀ e w n a_who, w + e = 3 → e < n → (∀ i, i < tm_c T w → a_who i = nI (tm_w T i)) → wX_gather_7 post (nI T) f_walls f_placed f_byEffort f_best f_turns n (nI w) (nI (tm_c T w)) a_waysOut a_placeOf a_goalOf a_stepTo a_toGoal a_distance a_who a_cost a_origin a_closed a_onward a_queue a_cellNow a_cellNext a_walkNow a_walkNext a_used a_flowFrom a_flowTo a_cameBy a_line := by
  intro e
  induction e with
  | zero =>
    intro w n a_who hw hn hi
    obtain ⟨n, rfl⟩ : ∃ m, n = m + 1 := ⟨n - 1, by omega⟩
    obtain rfl : w = 3 := by omega
    exact br_t (by decide) (h a_who hi)
  | succ e ih =>
    intro w n a_who hw hn hi
    obtain ⟨n, rfl⟩ : ∃ m, n = m + 1 := ⟨n - 1, by omega⟩
    have f := tm_f1 T hT w (by omega)
    refine pk_le 3 w (fun _ => by omega) (fun hlt => xb_br (by omega) (by omega) (fun hb => ?_) (fun hb => ?_))
    · have f := f.1 hb
      refine ⟨vp_in_nI f.2.2 (by omega), nm_r (by rw [nI_clamp (by omega)]) (nm_r (nI_1 _) (nm_r (nI_1 w) ?_))⟩
      rw [← f.2.1]
      refine ih (w + 1) n _ (by omega) (by omega) fun i hl => ?_
      rw [f.2.1] at hl
      rcases Nat.decEq i (tm_c T w) with z | rfl
      · rw [pk_un z]; exact hi i (by omega)
      · rw [pk_us, f.1]
    · have f := f.2 hb
      refine nm_r (nI_1 w) ?_
      rw [← f]
      exact ih (w + 1) n a_who (by omega) (by omega) (by rw [f]; exact hi)
theorem xw_gather {post : SX → Prop} {T : Nat} (h1 : 1 ≤ T) (hT : T < 8) (h : ∀ a_who, tm_W (tm_k T) (tm_w T) a_who → post (f_walls, f_placed, nI (tm_k T), f_byEffort, f_best, f_turns, a_waysOut, a_placeOf, a_goalOf, a_stepTo, a_toGoal, a_distance, a_who, a_cost, a_origin, a_closed, a_onward, a_queue, a_cellNow, a_cellNext, a_walkNow, a_walkNext, a_used, a_flowFrom, a_flowTo, a_cameBy, a_line)) : wpX_gather post (f_walls, f_placed, f_count, f_byEffort, f_best, f_turns, a_waysOut, a_placeOf, a_goalOf, a_stepTo, a_toGoal, a_distance, a_who, a_cost, a_origin, a_closed, a_onward, a_queue, a_cellNow, a_cellNext, a_walkNow, a_walkNext, a_used, a_flowFrom, a_flowTo, a_cameBy, a_line) (nI T) :=
  ⟨4, xw_gath7 hT (fun a_who hw => h a_who fun i hi => ⟨hw i hi, by
    have hk := (tm_f2 T hT h1).1
    have : i < 3 := by rcases hk with e | e | e <;> omega
    exact ((tm_f2 T hT h1).2 i this hi).1⟩) 3 0 4 a_who (by omega) (by omega) fun i hi => by
      have : tm_c T 0 = 0 := rfl
      omega⟩
section
variable {k : Nat} {wh : Nat → Nat}
theorem xw_stP {post : Int32 → Prop} {pl : Nat → Nat} {n i st un : Nat} (hk : mo_K k) (hw : tm_W k wh a_who) (hp : ∀ w, w < 3 → a_placeOf w = nI (pl w) ∧ pl w < 12) (hi : i < k)
    (h : wX_stateOf_7 post 0 f_walls f_placed (nI k) f_byEffort f_best f_turns a_waysOut a_placeOf a_goalOf a_stepTo a_toGoal a_distance a_who a_cost a_origin a_closed a_onward a_queue a_cellNow a_cellNext a_walkNow a_walkNext a_used a_flowFrom a_flowTo a_cameBy a_line n (nI (st + un * pl (wh i))) (nI (un * 12)) (nI (i + 1))) : wX_stateOf_7 post 0 f_walls f_placed (nI k) f_byEffort f_best f_turns a_waysOut a_placeOf a_goalOf a_stepTo a_toGoal a_distance a_who a_cost a_origin a_closed a_onward a_queue a_cellNow a_cellNext a_walkNow a_walkNext a_used a_flowFrom a_flowTo a_cameBy a_line (n + 1) (nI st) (nI un) (nI i) := by
  have hk3 : k ≤ 3 := by rcases hk with e | e | e <;> omega
  refine pk_le k i (fun _ => by omega) (fun _ => br_t rfl ⟨vp_in_nI (by omega) (by omega), ?_⟩)
  rw [nI_clamp (by omega), (hw i hi).1]
  refine ⟨vp_in_nI (hw i hi).2 (by omega), ?_⟩
  have := (hw i hi).2
  rw [nI_clamp (by omega), (hp _ (hw i hi).2).1]
  exact nm_r (by rw [pk_mul, nI_add]) (nm_r (by rw [show (12 : Int32) = nI 12 from rfl, pk_mul]) (nm_r (nI_1 i) h))
theorem xw_stG {post : Int32 → Prop} {pl : Nat → Nat} {n i st un : Nat} (hk : mo_K k) (hw : tm_W k wh a_who) (hp : ∀ w, w < 3 → a_goalOf w = nI (pl w) ∧ pl w < 12) (hi : i < k)
    (h : wX_stateOf_7 post 1 f_walls f_placed (nI k) f_byEffort f_best f_turns a_waysOut a_placeOf a_goalOf a_stepTo a_toGoal a_distance a_who a_cost a_origin a_closed a_onward a_queue a_cellNow a_cellNext a_walkNow a_walkNext a_used a_flowFrom a_flowTo a_cameBy a_line n (nI (st + un * pl (wh i))) (nI (un * 12)) (nI (i + 1))) : wX_stateOf_7 post 1 f_walls f_placed (nI k) f_byEffort f_best f_turns a_waysOut a_placeOf a_goalOf a_stepTo a_toGoal a_distance a_who a_cost a_origin a_closed a_onward a_queue a_cellNow a_cellNext a_walkNow a_walkNext a_used a_flowFrom a_flowTo a_cameBy a_line (n + 1) (nI st) (nI un) (nI i) := by
  have hk3 : k ≤ 3 := by rcases hk with e | e | e <;> omega
  refine pk_le k i (fun _ => by omega) (fun _ => br_f (by decide) ⟨vp_in_nI (by omega) (by omega), ?_⟩)
  rw [nI_clamp (by omega), (hw i hi).1]
  refine ⟨vp_in_nI (hw i hi).2 (by omega), ?_⟩
  have := (hw i hi).2
  rw [nI_clamp (by omega), (hp _ (hw i hi).2).1]
  exact nm_r (by rw [pk_mul, nI_add]) (nm_r (by rw [show (12 : Int32) = nI 12 from rfl, pk_mul]) (nm_r (nI_1 i) h))
theorem xw_stE {post : Int32 → Prop} {x1 : Int32} {n st un : Nat} (hk : mo_K k) (h : post (nI st)) : wX_stateOf_7 post x1 f_walls f_placed (nI k) f_byEffort f_best f_turns a_waysOut a_placeOf a_goalOf a_stepTo a_toGoal a_distance a_who a_cost a_origin a_closed a_onward a_queue a_cellNow a_cellNext a_walkNow a_walkNext a_used a_flowFrom a_flowTo a_cameBy a_line (n + 1) (nI st) (nI un) (nI k) := by
  have hk3 : k ≤ 3 := by rcases hk with e | e | e <;> omega
  exact pk_le k k (fun _ => h) (fun _ => by omega)
theorem xw_stateP {post : Int32 → Prop} {pl : Nat → Nat} (hk : mo_K k) (hw : tm_W k wh a_who) (hp : ∀ w, w < 3 → a_placeOf w = nI (pl w) ∧ pl w < 12) (h : post (nI (tm_s k fun i => pl (wh i)))) : wpX_stateOf post (f_walls, f_placed, nI k, f_byEffort, f_best, f_turns, a_waysOut, a_placeOf, a_goalOf, a_stepTo, a_toGoal, a_distance, a_who, a_cost, a_origin, a_closed, a_onward, a_queue, a_cellNow, a_cellNext, a_walkNow, a_walkNext, a_used, a_flowFrom, a_flowTo, a_cameBy, a_line) 0 := by
  refine ⟨4, ?_⟩
  rcases hk with rfl | rfl | rfl
  · refine xw_stP (i := 0) (st := 0) (un := 1) (n := 3) (Or.inl rfl) hw hp (by omega) (xw_stE (k := 1) (n := 2) (Or.inl rfl) ?_)
    rw [show 0 + 1 * pl (wh 0) = tm_s 1 fun i => pl (wh i) by show 0 + 1 * pl (wh 0) = pl (wh 0); omega]
    exact h
  · refine xw_stP (i := 0) (st := 0) (un := 1) (n := 3) (Or.inr (Or.inl rfl)) hw hp (by omega) (xw_stP (i := 1) (n := 2) (Or.inr (Or.inl rfl)) hw hp (by omega) (xw_stE (k := 2) (n := 1) (Or.inr (Or.inl rfl)) ?_))
    rw [show 0 + 1 * pl (wh 0) + 1 * 12 * pl (wh 1) = tm_s 2 fun i => pl (wh i) by show 0 + 1 * pl (wh 0) + 1 * 12 * pl (wh 1) = pl (wh 0) + 12 * pl (wh 1); omega]
    exact h
  · refine xw_stP (i := 0) (st := 0) (un := 1) (n := 3) (Or.inr (Or.inr rfl)) hw hp (by omega) (xw_stP (i := 1) (n := 2) (Or.inr (Or.inr rfl)) hw hp (by omega) (xw_stP (i := 2) (n := 1) (Or.inr (Or.inr rfl)) hw hp (by omega) (xw_stE (k := 3) (n := 0) (Or.inr (Or.inr rfl)) ?_)))
    rw [show 0 + 1 * pl (wh 0) + 1 * 12 * pl (wh 1) + 1 * 12 * 12 * pl (wh 2) = tm_s 3 fun i => pl (wh i) by show 0 + 1 * pl (wh 0) + 1 * 12 * pl (wh 1) + 1 * 12 * 12 * pl (wh 2) = pl (wh 0) + 12 * pl (wh 1) + 144 * pl (wh 2); omega]
    exact h
theorem xw_stateG {post : Int32 → Prop} {pl : Nat → Nat} (hk : mo_K k) (hw : tm_W k wh a_who) (hp : ∀ w, w < 3 → a_goalOf w = nI (pl w) ∧ pl w < 12) (h : post (nI (tm_s k fun i => pl (wh i)))) : wpX_stateOf post (f_walls, f_placed, nI k, f_byEffort, f_best, f_turns, a_waysOut, a_placeOf, a_goalOf, a_stepTo, a_toGoal, a_distance, a_who, a_cost, a_origin, a_closed, a_onward, a_queue, a_cellNow, a_cellNext, a_walkNow, a_walkNext, a_used, a_flowFrom, a_flowTo, a_cameBy, a_line) 1 := by
  refine ⟨4, ?_⟩
  rcases hk with rfl | rfl | rfl
  · refine xw_stG (i := 0) (st := 0) (un := 1) (n := 3) (Or.inl rfl) hw hp (by omega) (xw_stE (k := 1) (n := 2) (Or.inl rfl) ?_)
    rw [show 0 + 1 * pl (wh 0) = tm_s 1 fun i => pl (wh i) by show 0 + 1 * pl (wh 0) = pl (wh 0); omega]
    exact h
  · refine xw_stG (i := 0) (st := 0) (un := 1) (n := 3) (Or.inr (Or.inl rfl)) hw hp (by omega) (xw_stG (i := 1) (n := 2) (Or.inr (Or.inl rfl)) hw hp (by omega) (xw_stE (k := 2) (n := 1) (Or.inr (Or.inl rfl)) ?_))
    rw [show 0 + 1 * pl (wh 0) + 1 * 12 * pl (wh 1) = tm_s 2 fun i => pl (wh i) by show 0 + 1 * pl (wh 0) + 1 * 12 * pl (wh 1) = pl (wh 0) + 12 * pl (wh 1); omega]
    exact h
  · refine xw_stG (i := 0) (st := 0) (un := 1) (n := 3) (Or.inr (Or.inr rfl)) hw hp (by omega) (xw_stG (i := 1) (n := 2) (Or.inr (Or.inr rfl)) hw hp (by omega) (xw_stG (i := 2) (n := 1) (Or.inr (Or.inr rfl)) hw hp (by omega) (xw_stE (k := 3) (n := 0) (Or.inr (Or.inr rfl)) ?_)))
    rw [show 0 + 1 * pl (wh 0) + 1 * 12 * pl (wh 1) + 1 * 12 * 12 * pl (wh 2) = tm_s 3 fun i => pl (wh i) by show 0 + 1 * pl (wh 0) + 1 * 12 * pl (wh 1) + 1 * 12 * 12 * pl (wh 2) = pl (wh 0) + 12 * pl (wh 1) + 144 * pl (wh 2); omega]
    exact h
theorem xw_lcS {post : SX → Prop} {n s i : Nat} (hk : mo_K k) (hs : s < 2 ^ 31) (hi : i < k)
    (h : wX_layCells_4 post f_walls f_placed (nI k) f_byEffort f_best f_turns n (nI (s / 12)) (nI (i + 1)) a_waysOut a_placeOf a_goalOf a_stepTo a_toGoal a_distance a_who a_cost a_origin a_closed a_onward a_queue (upd a_cellNow i (nI (s % 12))) a_cellNext a_walkNow a_walkNext a_used a_flowFrom a_flowTo a_cameBy a_line) : wX_layCells_4 post f_walls f_placed (nI k) f_byEffort f_best f_turns (n + 1) (nI s) (nI i) a_waysOut a_placeOf a_goalOf a_stepTo a_toGoal a_distance a_who a_cost a_origin a_closed a_onward a_queue a_cellNow a_cellNext a_walkNow a_walkNext a_used a_flowFrom a_flowTo a_cameBy a_line := by
  have hk3 : k ≤ 3 := by rcases hk with e | e | e <;> omega
  refine pk_le k i (fun _ => by omega) (fun _ => ⟨by decide, vp_in_nI (by omega) (by omega), nm_r (by rw [nI_clamp (by omega), xb_r 12 hs (by omega)]) ⟨by decide, nm_r (xb_d 12 hs (by omega)) (nm_r (nI_1 i) h)⟩⟩)
theorem xw_lcE {post : SX → Prop} {n s : Nat} (hk : mo_K k) (h : post (f_walls, f_placed, nI k, f_byEffort, f_best, f_turns, a_waysOut, a_placeOf, a_goalOf, a_stepTo, a_toGoal, a_distance, a_who, a_cost, a_origin, a_closed, a_onward, a_queue, a_cellNow, a_cellNext, a_walkNow, a_walkNext, a_used, a_flowFrom, a_flowTo, a_cameBy, a_line)) : wX_layCells_4 post f_walls f_placed (nI k) f_byEffort f_best f_turns (n + 1) (nI s) (nI k) a_waysOut a_placeOf a_goalOf a_stepTo a_toGoal a_distance a_who a_cost a_origin a_closed a_onward a_queue a_cellNow a_cellNext a_walkNow a_walkNext a_used a_flowFrom a_flowTo a_cameBy a_line := by
  have hk3 : k ≤ 3 := by rcases hk with e | e | e <;> omega
  exact pk_le k k (fun _ => h) (fun _ => by omega)
theorem xw_layCells {post : SX → Prop} {s : Nat} (hk : mo_K k) (hs : s < 1728) (h : ∀ a_cellNow, tm_C k s a_cellNow → post (f_walls, f_placed, nI k, f_byEffort, f_best, f_turns, a_waysOut, a_placeOf, a_goalOf, a_stepTo, a_toGoal, a_distance, a_who, a_cost, a_origin, a_closed, a_onward, a_queue, a_cellNow, a_cellNext, a_walkNow, a_walkNext, a_used, a_flowFrom, a_flowTo, a_cameBy, a_line)) : wpX_layCells post (f_walls, f_placed, nI k, f_byEffort, f_best, f_turns, a_waysOut, a_placeOf, a_goalOf, a_stepTo, a_toGoal, a_distance, a_who, a_cost, a_origin, a_closed, a_onward, a_queue, a_cellNow, a_cellNext, a_walkNow, a_walkNext, a_used, a_flowFrom, a_flowTo, a_cameBy, a_line) (nI s) := by
  refine ⟨4, ?_⟩
  rcases hk with rfl | rfl | rfl
  · refine xw_lcS (i := 0) (n := 3) (Or.inl rfl) (by omega) (by omega) (xw_lcE (k := 1) (n := 2) (Or.inl rfl) (h _ ⟨pk_us, fun z => by omega, fun z => by omega⟩))
  · refine xw_lcS (i := 0) (n := 3) (Or.inr (Or.inl rfl)) (by omega) (by omega) (xw_lcS (i := 1) (n := 2) (Or.inr (Or.inl rfl)) (by omega) (by omega) (xw_lcE (k := 2) (n := 1) (Or.inr (Or.inl rfl)) (h _ ⟨?_, fun z => pk_us, fun z => by omega⟩)))
    rw [pk_un (by decide), pk_us]
  · refine xw_lcS (i := 0) (n := 3) (Or.inr (Or.inr rfl)) (by omega) (by omega) (xw_lcS (i := 1) (n := 2) (Or.inr (Or.inr rfl)) (by omega) (by omega) (xw_lcS (i := 2) (n := 1) (Or.inr (Or.inr rfl)) (by omega) (by omega) (xw_lcE (k := 3) (n := 0) (Or.inr (Or.inr rfl)) (h _ ⟨?_, fun z => ?_, fun z => ?_⟩))))
    · rw [pk_un (by decide), pk_un (by decide), pk_us]
    · rw [pk_un (by decide), pk_us]
    · rw [pk_us, Nat.div_div_eq_div_mul]
theorem xw_choices {post : Int32 → Prop} (hk : mo_K k) (h : post (nI (mo_ch k))) : wpX_choices post (f_walls, f_placed, nI k, f_byEffort, f_best, f_turns, a_waysOut, a_placeOf, a_goalOf, a_stepTo, a_toGoal, a_distance, a_who, a_cost, a_origin, a_closed, a_onward, a_queue, a_cellNow, a_cellNext, a_walkNow, a_walkNext, a_used, a_flowFrom, a_flowTo, a_cameBy, a_line) := by
  rcases hk with rfl | rfl | rfl
  · exact br_t rfl h
  · exact br_f (by decide) (br_t rfl h)
  · exact br_f (by decide) (br_f (by decide) h)
theorem xw_keepClear {post : Int32 → Prop} {i j a b a' b' : Nat} (hi : i < 3) (hj : j < 3) (ha : a_cellNow i = nI a ∧ a < 12) (hb : a_cellNow j = nI b ∧ b < 12) (ha' : a_cellNext i = nI a' ∧ a' < 12) (hb' : a_cellNext j = nI b' ∧ b' < 12)
    (h1 : mo_cl a b a' b' → post 1) (h0 : ¬ mo_cl a b a' b' → post 0) : wpX_keepClear post (f_walls, f_placed, f_count, f_byEffort, f_best, f_turns, a_waysOut, a_placeOf, a_goalOf, a_stepTo, a_toGoal, a_distance, a_who, a_cost, a_origin, a_closed, a_onward, a_queue, a_cellNow, a_cellNext, a_walkNow, a_walkNext, a_used, a_flowFrom, a_flowTo, a_cameBy, a_line) (nI i) (nI j) := by
  have la := ha.2
  have lb := hb.2
  have la' := ha'.2
  have lb' := hb'.2
  have vi : vp_in (nI i) 3 := vp_in_nI hi (by omega)
  have vj : vp_in (nI j) 3 := vp_in_nI hj (by omega)
  have ci : (nI i).toNatClampNeg = i := nI_clamp (by omega)
  have cj : (nI j).toNatClampNeg = j := nI_clamp (by omega)
  have fin : ∀ z0 : Int32, (z0 = 0 → ¬ (a' = b ∧ b' = a)) → (z0 ≠ 0 → a' = b ∧ b' = a) → wX_keepClear_35 post (nI i) (nI j) z0 f_walls f_placed f_count f_byEffort f_best f_turns a_waysOut a_placeOf a_goalOf a_stepTo a_toGoal a_distance a_who a_cost a_origin a_closed a_onward a_queue a_cellNow a_cellNext a_walkNow a_walkNext a_used a_flowFrom a_flowTo a_cameBy a_line := by
    intro z0 hz1 hz2
    refine ⟨vi, vj, ?_⟩
    rw [ci, cj, ha'.1, hb'.1]
    refine pk_eq a' b' (fun e => h0 fun q => q.1 e) (fun e => br_c (fun z => h1 ⟨e, hz1 z⟩) (fun z => h0 fun q => q.2 (hz2 z)))
  refine ⟨vi, vj, ?_⟩
  rw [ci, cj, ha'.1, hb.1]
  refine pk_eq a' b (fun e => ⟨vj, vi, ?_⟩) (fun e => fin 0 (fun _ q => e q.1) (fun z => absurd rfl z))
  rw [hb'.1, ha.1]
  exact pk_eq b' a (fun e2 => fin 1 (fun z => by cases z) (fun _ => ⟨e, e2⟩)) (fun e2 => fin 0 (fun _ q => e2 q.2) (fun z => absurd rfl z))
end
end
end
section
def tm_b (b : Bool) : Int32 := if b = true then 1 else 0
theorem as_mx0 (x : Nat) : as_mx 0 x = x := by unfold as_mx; split <;> omega
section
variable {tg : Nat → Nat → Option Nat} {op : Nat → Prop} {k : Nat} {wh gs : Nat → Nat} {b : Bool}
variable {f_walls f_placed f_count f_byEffort f_best f_turns : Int32} {a_waysOut a_placeOf a_goalOf a_stepTo a_toGoal a_distance a_who a_cost a_origin a_closed a_onward a_queue a_cellNow a_cellNext a_walkNow a_walkNext a_used a_flowFrom a_flowTo a_cameBy a_line : Nat → Int32}
/-- distances to the goals of those planned together -/
def tm_T (tg : Nat → Nat → Option Nat) (k : Nat) (wh gs : Nat → Nat) (a : Nat → Int32) : Prop := ∀ i, i < k → gs i < 12 ∧ ∀ c, c < 12 → a (12 * wh i + c) = nI (cg_td tg (gs i) c)
theorem xw_guS {post : Int32 → Prop} {n r m s i : Nat} (hk : mo_K k) (ok : cg_OK tg op) (hw : tm_W k wh a_who) (ht : tm_T tg k wh gs a_toGoal) (hi : i < k) (hr : r < 2 ^ 31) (hm : m ≤ 1000000)
    (h : wX_guess_10 post f_walls f_placed (nI k) f_byEffort f_best f_turns a_waysOut a_placeOf a_goalOf a_stepTo a_toGoal a_distance a_who a_cost a_origin a_closed a_onward a_queue a_cellNow a_cellNext a_walkNow a_walkNext a_used a_flowFrom a_flowTo a_cameBy a_line n (nI (r / 12)) (nI (as_mx m (cg_td tg (gs i) (r % 12)))) (nI (s + cg_td tg (gs i) (r % 12))) (nI (i + 1))) :
    wX_guess_10 post f_walls f_placed (nI k) f_byEffort f_best f_turns a_waysOut a_placeOf a_goalOf a_stepTo a_toGoal a_distance a_who a_cost a_origin a_closed a_onward a_queue a_cellNow a_cellNext a_walkNow a_walkNext a_used a_flowFrom a_flowTo a_cameBy a_line (n + 1) (nI r) (nI m) (nI s) (nI i) := by
  have hk3 : k ≤ 3 := by rcases hk with e | e | e <;> omega
  have hwi := (hw i hi).2
  refine pk_le k i (fun _ => by omega) (fun _ => ⟨vp_in_nI (by omega) (by omega), by decide, ?_⟩)
  rw [nI_clamp (show i < 2 ^ 31 by omega), (hw i hi).1, xb_r 12 hr (by omega), xb_ix12]
  refine ⟨vp_in_nI (by omega) (by omega), ?_⟩
  rw [nI_clamp (show 12 * wh i + r % 12 < 2 ^ 31 by omega), (ht i hi).2 (r % 12) (by omega)]
  have hl := cg_td_le ok (ht i hi).1 (r % 12)
  generalize cg_td tg (gs i) (r % 12) = f at *
  refine nm_e ⟨by decide, nm_r (xb_d 12 hr (by omega)) ?_⟩
  refine pk_le f m (fun z => nm_r (nI_add s f) (nm_r (nI_1 i) ?_)) (fun z => nm_r (nI_add s f) (nm_r (nI_1 i) ?_))
  · rw [show as_mx m f = m from if_pos z] at h; exact h
  · rw [show as_mx m f = f from if_neg (by omega)] at h; exact h
theorem xw_guE {post : Int32 → Prop} {n r m s : Nat} (hk : mo_K k) (hm : m ≤ 1000000) (h : post (nI (as_hv b m s))) : wX_guess_10 post f_walls f_placed (nI k) (tm_b b) f_best f_turns a_waysOut a_placeOf a_goalOf a_stepTo a_toGoal a_distance a_who a_cost a_origin a_closed a_onward a_queue a_cellNow a_cellNext a_walkNow a_walkNext a_used a_flowFrom a_flowTo a_cameBy a_line (n + 1) (nI r) (nI m) (nI s) (nI k) := by
  have hk3 : k ≤ 3 := by rcases hk with e | e | e <;> omega
  refine pk_le k k (fun _ => ?_) (fun _ => by omega)
  unfold as_hv at h
  refine pk_eq m 1000000 (fun z => ?_) (fun z => ?_)
  · rw [if_pos z] at h; exact h
  · rw [if_neg z] at h
    cases b with
    | false => exact br_t rfl h
    | true => exact br_f (by decide) h
theorem xw_guess {post : Int32 → Prop} {s : Nat} (hk : mo_K k) (ok : cg_OK tg op) (hw : tm_W k wh a_who) (ht : tm_T tg k wh gs a_toGoal) (hs : s < 1728) (h : post (nI (as_h tg gs b k s))) :
    wpX_guess post (f_walls, f_placed, nI k, tm_b b, f_best, f_turns, a_waysOut, a_placeOf, a_goalOf, a_stepTo, a_toGoal, a_distance, a_who, a_cost, a_origin, a_closed, a_onward, a_queue, a_cellNow, a_cellNext, a_walkNow, a_walkNext, a_used, a_flowFrom, a_flowTo, a_cameBy, a_line) (nI s) := by
  refine ⟨4, ?_⟩
  have hmx : ∀ i c m, i < k → m ≤ 1000000 → as_mx m (cg_td tg (gs i) c) ≤ 1000000 := fun i c m hi hm => by
    have hl := cg_td_le ok (ht i hi).1 c
    unfold as_mx
    split <;> omega
  rcases hk with rfl | rfl | rfl
  · refine xw_guS (n := 3) (r := s) (m := 0) (s := 0) (i := 0) (Or.inl rfl) ok hw ht (by omega) (by omega) (by omega) (xw_guE (k := 1) (n := 2) (Or.inl rfl) (hmx 0 _ 0 (by omega) (by omega)) ?_)
    rw [as_mx0, Nat.zero_add]
    exact h
  · refine xw_guS (n := 3) (r := s) (m := 0) (s := 0) (i := 0) (Or.inr (Or.inl rfl)) ok hw ht (by omega) (by omega) (by omega) (xw_guS (n := 2) (i := 1) (Or.inr (Or.inl rfl)) ok hw ht (by omega) (by omega) (hmx 0 _ 0 (by omega) (by omega)) (xw_guE (k := 2) (n := 1) (Or.inr (Or.inl rfl)) (hmx 1 _ _ (by omega) (hmx 0 _ 0 (by omega) (by omega))) ?_))
    rw [as_mx0, Nat.zero_add]
    exact h
  · refine xw_guS (n := 3) (r := s) (m := 0) (s := 0) (i := 0) (Or.inr (Or.inr rfl)) ok hw ht (by omega) (by omega) (by omega) (xw_guS (n := 2) (i := 1) (Or.inr (Or.inr rfl)) ok hw ht (by omega) (by omega) (hmx 0 _ 0 (by omega) (by omega)) (xw_guS (n := 1) (i := 2) (Or.inr (Or.inr rfl)) ok hw ht (by omega) (by omega) (hmx 1 _ _ (by omega) (hmx 0 _ 0 (by omega) (by omega))) (xw_guE (k := 3) (n := 0) (Or.inr (Or.inr rfl)) (hmx 2 _ _ (by omega) (hmx 1 _ _ (by omega) (hmx 0 _ 0 (by omega) (by omega)))) ?_)))
    rw [as_mx0, Nat.zero_add, show s / 12 / 12 = s / 144 from Nat.div_div_eq_div_mul s 12 12]
    exact h
theorem xw_chS {post : Int32 → SX → Prop} {n i c r st un : Nat} (hk : mo_K k) (ok : cg_OK tg op) (hst : cg_ST tg a_stepTo) (hi : i < k) (hc : a_cellNow i = nI c ∧ c < 12) (hr : r < 2 ^ 31)
    (h0 : mo_nx tg c (r % 5) = none → post (-1) (f_walls, f_placed, nI k, f_byEffort, f_best, f_turns, a_waysOut, a_placeOf, a_goalOf, a_stepTo, a_toGoal, a_distance, a_who, a_cost, a_origin, a_closed, a_onward, a_queue, a_cellNow, a_cellNext, a_walkNow, a_walkNext, a_used, a_flowFrom, a_flowTo, a_cameBy, a_line))
    (h1 : ∀ x, mo_nx tg c (r % 5) = some x → wX_chosen_10 post f_walls f_placed (nI k) f_byEffort f_best f_turns n (nI (r / 5)) (nI (st + un * x)) (nI (un * 12)) (nI (i + 1)) a_waysOut a_placeOf a_goalOf a_stepTo a_toGoal a_distance a_who a_cost a_origin a_closed a_onward a_queue a_cellNow (upd a_cellNext i (nI x)) a_walkNow a_walkNext a_used a_flowFrom a_flowTo a_cameBy a_line) :
    wX_chosen_10 post f_walls f_placed (nI k) f_byEffort f_best f_turns (n + 1) (nI r) (nI st) (nI un) (nI i) a_waysOut a_placeOf a_goalOf a_stepTo a_toGoal a_distance a_who a_cost a_origin a_closed a_onward a_queue a_cellNow a_cellNext a_walkNow a_walkNext a_used a_flowFrom a_flowTo a_cameBy a_line := by
  have hk3 : k ≤ 3 := by rcases hk with e | e | e <;> omega
  have vi : vp_in (nI i) 3 := vp_in_nI (by omega) (by omega)
  have go : ∀ x, x < 12 → mo_nx tg c (r % 5) = some x → wX_chosen_62 post (wX_chosen_10 post f_walls f_placed (nI k) f_byEffort f_best f_turns n) (nI (r / 5)) (nI st) (nI un) (nI i) (nI x) f_walls f_placed (nI k) f_byEffort f_best f_turns a_waysOut a_placeOf a_goalOf a_stepTo a_toGoal a_distance a_who a_cost a_origin a_closed a_onward a_queue a_cellNow a_cellNext a_walkNow a_walkNext a_used a_flowFrom a_flowTo a_cameBy a_line := by
    intro x hx hn
    exact br_t (nI_pos' (by omega)) ⟨vi, nm_r (by rw [nI_clamp (by omega)]) (nm_r (by rw [pk_mul, nI_add]) (nm_r (by rw [show (12 : Int32) = nI 12 from rfl, pk_mul]) (nm_r (nI_1 i) (h1 x hn))))⟩
  refine pk_le k i (fun _ => by omega) (fun _ => ⟨by decide, nm_r (xb_r 5 hr (by omega)) ⟨by decide, nm_r (xb_d 5 hr (by omega)) ?_⟩⟩)
  have h5 : r % 5 < 5 := by omega
  have hc2 := hc.2
  refine pk_eq (r % 5) 0 (fun z => ⟨vi, ?_⟩) (fun z => ⟨vi, ?_⟩)
  · rw [nI_clamp (show i < 2 ^ 31 by omega), hc.1]
    exact go c hc.2 (by unfold mo_nx; rw [if_pos z])
  · rw [nI_clamp (show i < 2 ^ 31 by omega), hc.1, xb_ix4, show (1 : Int32) = nI 1 from rfl, pk_sub (by omega)]
    refine ⟨vp_in_nI (by omega) (by omega), ?_⟩
    have hnx : mo_nx tg c (r % 5) = tg c (r % 5 - 1) := by unfold mo_nx; rw [if_neg z]
    rw [nI_clamp (by omega), show 4 * c + r % 5 - 1 = 4 * c + (r % 5 - 1) by omega, hst c (r % 5 - 1) hc.2 (by omega)]
    rcases hb : tg c (r % 5 - 1) with _ | x
    · exact br_f (by decide) (h0 (by rw [hnx, hb]))
    · exact go x (ok c _ x hc.2 hb).1 (by rw [hnx, hb])
theorem xw_chosen {post : Int32 → SX → Prop} {s ch : Nat} (hk : mo_K k) (ok : cg_OK tg op) (hst : cg_ST tg a_stepTo) (hC : tm_C k s a_cellNow) (hch : ch < 125)
    (h0 : ∀ a_cellNext, (∀ t, ¬ mo_by tg k s ch t) → post (-1) (f_walls, f_placed, nI k, f_byEffort, f_best, f_turns, a_waysOut, a_placeOf, a_goalOf, a_stepTo, a_toGoal, a_distance, a_who, a_cost, a_origin, a_closed, a_onward, a_queue, a_cellNow, a_cellNext, a_walkNow, a_walkNext, a_used, a_flowFrom, a_flowTo, a_cameBy, a_line))
    (h1 : ∀ a_cellNext t, mo_by tg k s ch t → tm_C k t a_cellNext → post (nI t) (f_walls, f_placed, nI k, f_byEffort, f_best, f_turns, a_waysOut, a_placeOf, a_goalOf, a_stepTo, a_toGoal, a_distance, a_who, a_cost, a_origin, a_closed, a_onward, a_queue, a_cellNow, a_cellNext, a_walkNow, a_walkNext, a_used, a_flowFrom, a_flowTo, a_cameBy, a_line)) : wpX_chosen post (f_walls, f_placed, nI k, f_byEffort, f_best, f_turns, a_waysOut, a_placeOf, a_goalOf, a_stepTo, a_toGoal, a_distance, a_who, a_cost, a_origin, a_closed, a_onward, a_queue, a_cellNow, a_cellNext, a_walkNow, a_walkNext, a_used, a_flowFrom, a_flowTo, a_cameBy, a_line) (nI ch) := by
  refine ⟨4, ?_⟩
  have c0 : a_cellNow 0 = nI (s % 12) ∧ s % 12 < 12 := ⟨hC.1, by omega⟩
  rcases hk with rfl | rfl | rfl
  · refine xw_chS (n := 3) (r := ch) (st := 0) (un := 1) (i := 0) (Or.inl rfl) ok hst (by omega) c0 (by omega) (fun z => h0 _ fun t ht => nomatch z.symm.trans ht.2.1) (fun x hx => ?_)
    have lx := mo_nx_lt ok c0.2 hx
    refine br_t (by decide) (br_t (by decide) (br_f (by decide) ?_))
    rw [show 0 + 1 * x = x by omega]
    refine h1 _ x ⟨lx, ?_, fun z => by omega, fun z => by omega⟩ ⟨?_, fun z => by omega, fun z => by omega⟩
    · rw [Nat.mod_eq_of_lt lx]; exact hx
    · rw [Nat.mod_eq_of_lt lx]; exact pk_us
  · have c1 : a_cellNow 1 = nI (s / 12 % 12) ∧ s / 12 % 12 < 12 := ⟨hC.2.1 (by omega), by omega⟩
    refine xw_chS (n := 3) (r := ch) (st := 0) (un := 1) (i := 0) (Or.inr (Or.inl rfl)) ok hst (by omega) c0 (by omega) (fun z => h0 _ fun t ht => nomatch z.symm.trans ht.2.1) (fun x hx => ?_)
    have lx := mo_nx_lt ok c0.2 hx
    refine xw_chS (n := 2) (r := ch / 5) (i := 1) (Or.inr (Or.inl rfl)) ok hst (by omega) c1 (by omega) (fun z => h0 _ fun t ht => nomatch z.symm.trans (ht.2.2.1 (by omega)).1) (fun y hy => ?_)
    have ly := mo_nx_lt ok c1.2 hy
    have d0 : (x + 12 * y) % 12 = x := by omega
    have d1 : (x + 12 * y) / 12 % 12 = y := by omega
    rw [show 0 + 1 * x + 1 * 12 * y = x + 12 * y by omega]
    refine br_t (by decide) (br_f (by decide) ?_)
    refine xw_keepClear (i := 0) (j := 1) (by omega) (by omega) c0 c1 (a' := x) (b' := y) ⟨by rw [pk_un (by decide), pk_us], lx⟩ ⟨by rw [pk_us], ly⟩ (fun q => ?_) (fun q => ?_)
    · refine br_f (by decide) (br_t (by decide) (br_f (by decide) (h1 _ (x + 12 * y) ⟨by show x + 12 * y < 144; omega, by rw [d0]; exact hx, fun _ => ⟨by rw [d1]; exact hy, by rw [d0, d1]; exact q⟩, fun z => by omega⟩ ⟨?_, fun _ => ?_, fun z => by omega⟩)))
      · rw [d0, pk_un (by decide), pk_us]
      · rw [d1, pk_us]
    · refine br_t rfl (br_t rfl (h0 _ fun t ht => q ?_))
      have e0 := ht.2.1.symm.trans hx
      have e1 := (ht.2.2.1 (by omega)).1.symm.trans hy
      have e2 := (ht.2.2.1 (by omega)).2
      cases e0
      cases e1
      exact e2
  · have c1 : a_cellNow 1 = nI (s / 12 % 12) ∧ s / 12 % 12 < 12 := ⟨hC.2.1 (by omega), by omega⟩
    have c2 : a_cellNow 2 = nI (s / 144 % 12) ∧ s / 144 % 12 < 12 := ⟨hC.2.2 (by omega), by omega⟩
    refine xw_chS (n := 3) (r := ch) (st := 0) (un := 1) (i := 0) (Or.inr (Or.inr rfl)) ok hst (by omega) c0 (by omega) (fun z => h0 _ fun t ht => nomatch z.symm.trans ht.2.1) (fun x hx => ?_)
    have lx := mo_nx_lt ok c0.2 hx
    refine xw_chS (n := 2) (r := ch / 5) (i := 1) (Or.inr (Or.inr rfl)) ok hst (by omega) c1 (by omega) (fun z => h0 _ fun t ht => nomatch z.symm.trans (ht.2.2.1 (by omega)).1) (fun y hy => ?_)
    have ly := mo_nx_lt ok c1.2 hy
    have e5 : ch / 5 / 5 = ch / 25 := Nat.div_div_eq_div_mul ch 5 5
    rw [e5]
    refine xw_chS (n := 1) (r := ch / 25) (i := 2) (Or.inr (Or.inr rfl)) ok hst (by omega) c2 (by omega) (fun z => h0 _ fun t ht => nomatch z.symm.trans (ht.2.2.2 (by omega)).1) (fun v hv => ?_)
    have lv := mo_nx_lt ok c2.2 hv
    obtain ⟨d0, d1, d2, d3⟩ := mo_dig lx ly lv
    rw [show 0 + 1 * x + 1 * 12 * y + 1 * 12 * 12 * v = x + 12 * y + 144 * v by omega]
    have n0 : upd (upd (upd a_cellNext 0 (nI x)) 1 (nI y)) 2 (nI v) 0 = nI x := by rw [pk_un (by decide), pk_un (by decide), pk_us]
    have n1 : upd (upd (upd a_cellNext 0 (nI x)) 1 (nI y)) 2 (nI v) 1 = nI y := by rw [pk_un (by decide), pk_us]
    have n2 : upd (upd (upd a_cellNext 0 (nI x)) 1 (nI y)) 2 (nI v) 2 = nI v := pk_us
    have no : ∀ t, mo_by tg 3 s ch t → mo_cl (s % 12) (s / 12 % 12) x y ∧ mo_cl (s % 12) (s / 144 % 12) x v ∧ mo_cl (s / 12 % 12) (s / 144 % 12) y v := by
      intro t ht
      have e0 := ht.2.1.symm.trans hx
      have e1 := (ht.2.2.1 (by omega)).1.symm.trans hy
      have e2 := (ht.2.2.2 (by omega)).1.symm.trans hv
      have q1 := (ht.2.2.1 (by omega)).2
      have q2 := (ht.2.2.2 (by omega)).2
      cases e0
      cases e1
      cases e2
      exact ⟨q1, q2⟩
    refine br_t (by decide) (br_f (by decide) ?_)
    refine xw_keepClear (i := 0) (j := 1) (by omega) (by omega) c0 c1 (a' := x) (b' := y) ⟨n0, lx⟩ ⟨n1, ly⟩ (fun q1 => ?_) (fun q => br_t rfl (br_t rfl (h0 _ fun t ht => q (no t ht).1)))
    refine br_f (by decide) (br_f (by decide) ?_)
    refine xw_keepClear (i := 0) (j := 2) (by omega) (by omega) c0 c2 (a' := x) (b' := v) ⟨n0, lx⟩ ⟨n2, lv⟩ (fun q2 => ?_) (fun q => br_t rfl (br_t rfl (h0 _ fun t ht => q (no t ht).2.1)))
    refine br_f (by decide) ?_
    refine xw_keepClear (i := 1) (j := 2) (by omega) (by omega) c1 c2 (a' := y) (b' := v) ⟨n1, ly⟩ ⟨n2, lv⟩ (fun q3 => ?_) (fun q => br_t rfl (br_t rfl (h0 _ fun t ht => q (no t ht).2.2)))
    refine br_f (by decide) (br_f (by decide) (h1 _ (x + 12 * y + 144 * v) ⟨d3, by rw [d0]; exact hx, fun _ => ⟨by rw [d1]; exact hy, by rw [d0, d1]; exact q1⟩, fun _ => ⟨by rw [d2]; exact hv, by rw [d0, d2]; exact q2, by rw [d1, d2]; exact q3⟩⟩ ⟨by rw [d0]; exact n0, fun _ => by rw [d1]; exact n1, fun _ => by rw [d2]; exact n2⟩))
theorem xw_spS {post : Int32 → Prop} {n m i x c : Nat} (hk : mo_K k) (hi : i < k) (hx : a_cellNext i = nI x ∧ x < 12) (hc : a_cellNow i = nI c ∧ c < 12) (h : wX_steps_4 post f_walls f_placed (nI k) f_byEffort f_best f_turns a_waysOut a_placeOf a_goalOf a_stepTo a_toGoal a_distance a_who a_cost a_origin a_closed a_onward a_queue a_cellNow a_cellNext a_walkNow a_walkNext a_used a_flowFrom a_flowTo a_cameBy a_line n (nI (m + mo_ne x c)) (nI (i + 1))) :
    wX_steps_4 post f_walls f_placed (nI k) f_byEffort f_best f_turns a_waysOut a_placeOf a_goalOf a_stepTo a_toGoal a_distance a_who a_cost a_origin a_closed a_onward a_queue a_cellNow a_cellNext a_walkNow a_walkNext a_used a_flowFrom a_flowTo a_cameBy a_line (n + 1) (nI m) (nI i) := by
  have hk3 : k ≤ 3 := by rcases hk with e | e | e <;> omega
  have lx := hx.2
  have lc := hc.2
  refine pk_le k i (fun _ => by omega) (fun _ => ⟨vp_in_nI (by omega) (by omega), vp_in_nI (by omega) (by omega), ?_⟩)
  rw [nI_clamp (by omega), hx.1, hc.1]
  refine pk_eq x c (fun z => ?_) (fun z => ?_)
  · rw [z, mo_ne_s] at h
    exact nm_r (nI_add m 0) (nm_r (nI_1 i) h)
  · rw [mo_ne_n z] at h
    exact nm_r (nI_1 m) (nm_r (nI_1 i) h)
theorem xw_spE {post : Int32 → Prop} {n m : Nat} (hk : mo_K k) (h : post (nI m)) : wX_steps_4 post f_walls f_placed (nI k) f_byEffort f_best f_turns a_waysOut a_placeOf a_goalOf a_stepTo a_toGoal a_distance a_who a_cost a_origin a_closed a_onward a_queue a_cellNow a_cellNext a_walkNow a_walkNext a_used a_flowFrom a_flowTo a_cameBy a_line (n + 1) (nI m) (nI k) := by
  have hk3 : k ≤ 3 := by rcases hk with e | e | e <;> omega
  exact pk_le k k (fun _ => h) (fun _ => by omega)
theorem xw_steps {post : Int32 → Prop} {s t : Nat} (hk : mo_K k) (hC : tm_C k s a_cellNow) (hD : tm_C k t a_cellNext) (h : post (nI (mo_ef k s t))) : wpX_steps post (f_walls, f_placed, nI k, f_byEffort, f_best, f_turns, a_waysOut, a_placeOf, a_goalOf, a_stepTo, a_toGoal, a_distance, a_who, a_cost, a_origin, a_closed, a_onward, a_queue, a_cellNow, a_cellNext, a_walkNow, a_walkNext, a_used, a_flowFrom, a_flowTo, a_cameBy, a_line) := by
  refine ⟨4, ?_⟩
  rcases hk with rfl | rfl | rfl
  · refine xw_spS (n := 3) (m := 0) (i := 0) (Or.inl rfl) (by omega) ⟨hD.1, by omega⟩ ⟨hC.1, by omega⟩ (xw_spE (k := 1) (n := 2) (Or.inl rfl) ?_)
    rw [Nat.zero_add]; exact h
  · refine xw_spS (n := 3) (m := 0) (i := 0) (Or.inr (Or.inl rfl)) (by omega) ⟨hD.1, by omega⟩ ⟨hC.1, by omega⟩ (xw_spS (n := 2) (i := 1) (Or.inr (Or.inl rfl)) (by omega) ⟨hD.2.1 (by omega), by omega⟩ ⟨hC.2.1 (by omega), by omega⟩ (xw_spE (k := 2) (n := 1) (Or.inr (Or.inl rfl)) ?_))
    rw [Nat.zero_add]; exact h
  · refine xw_spS (n := 3) (m := 0) (i := 0) (Or.inr (Or.inr rfl)) (by omega) ⟨hD.1, by omega⟩ ⟨hC.1, by omega⟩ (xw_spS (n := 2) (i := 1) (Or.inr (Or.inr rfl)) (by omega) ⟨hD.2.1 (by omega), by omega⟩ ⟨hC.2.1 (by omega), by omega⟩ (xw_spS (n := 1) (i := 2) (Or.inr (Or.inr rfl)) (by omega) ⟨hD.2.2 (by omega), by omega⟩ ⟨hC.2.2 (by omega), by omega⟩ (xw_spE (k := 3) (n := 0) (Or.inr (Or.inr rfl)) ?_)))
    rw [Nat.zero_add]; exact h
end
end
section
theorem mo_by_u {tg : Nat → Nat → Option Nat} {k s ch t t' : Nat} (hk : mo_K k) (h : mo_by tg k s ch t) (h' : mo_by tg k s ch t') : t = t' := by
  have o : ∀ {a : Option Nat} {x y : Nat}, a = some x → a = some y → x = y := fun h1 h2 => by
    have := h1.symm.trans h2
    cases this; rfl
  exact mo_ext hk h.1 h'.1 (o h.2.1 h'.2.1) (fun z => o (h.2.2.1 z).1 (h'.2.2.1 z).1) (fun z => o (h.2.2.2 z).1 (h'.2.2.2 z).1)
theorem mo_by_0 {tg : Nat → Nat → Option Nat} {k s t : Nat} (hk : mo_K k) (hs : s < mo_N k) (h : mo_by tg k s 0 t) : t = s := by
  have o : ∀ {x y : Nat}, mo_nx tg x (0 % 5) = some y → y = x := fun {x y} h1 => by
    have h2 : mo_nx tg x (0 % 5) = some x := rfl
    have := h1.symm.trans h2
    cases this; rfl
  exact mo_ext hk h.1 hs (o h.2.1) (fun z => o (h.2.2.1 z).1) (fun z => o (h.2.2.2 z).1)
theorem as_mono {E : Nat → Nat → Nat → Prop} {h : Nat → Nat} {N st : Nat} {D D' : Nat → Nat → Prop} {K : Nat → Nat} {cl : Nat → Prop} {og : Nat → Nat} {best : Nat} (hd : ∀ x t w, E x t w → D' x t → D x t) (I : as_I E h N st D K cl og best) : as_I E h N st D' K cl og best := by
  obtain ⟨i1, i2, i3, i4, i5, i6, i7, i8⟩ := I
  exact ⟨i1, i2, i3, i4, i5, fun s t w a e d => i6 s t w a e (hd s t w e d), i7, i8⟩
/-- the arrays that hold what is known -/
def as_R (K : Nat → Nat) (cl : Nat → Prop) (og : Nat → Nat) (ac aq ao : Nat → Int32) : Prop :=
  ∀ s, s < 1728 → ac s = nI (K s) ∧ (cl s → aq s = 1) ∧ (¬ cl s → aq s = 0) ∧ (K s < 1000000 → ao s = nI (og s))
theorem as_Ru {K : Nat → Nat} {cl : Nat → Prop} {og : Nat → Nat} {ac aq ao : Nat → Int32} (R : as_R K cl og ac aq ao) (t v s : Nat) : as_R (ag_up K t v) cl (ag_up og t s) (upd ac t (nI v)) aq (upd ao t (nI s)) := by
  intro x hx
  obtain ⟨r1, r2, r3, r4⟩ := R x hx
  rcases Nat.decEq x t with e | rfl
  · rw [ag_un _ _ e, ag_un _ _ e, pk_un e, pk_un e]
    exact ⟨r1, r2, r3, r4⟩
  · rw [ag_us, ag_us, pk_us, pk_us]
    exact ⟨rfl, r2, r3, fun _ => rfl⟩
section
variable {tg : Nat → Nat → Option Nat} {op : Nat → Prop} {k : Nat} {b : Bool} {hh : Nat → Nat} {st g : Nat}
variable {f_walls f_placed f_count f_byEffort f_best f_turns : Int32} {a_waysOut a_placeOf a_goalOf a_stepTo a_toGoal a_distance a_who a_cost a_origin a_closed a_onward a_queue a_cellNow a_cellNext a_walkNow a_walkNext a_used a_flowFrom a_flowTo a_cameBy a_line : Nat → Int32}
def as_D (tg : Nat → Nat → Option Nat) (k s m : Nat) (x t : Nat) : Prop := x ≠ s ∨ t = s ∨ ∃ ch, ch < m ∧ mo_by tg k s ch t
theorem xw_exp50 {post : SX → Prop} {J12 : Int32 → Int32 → Int32 → Int32 → Int32 → Int32 → Int32 → (Nat → Int32) → (Nat → Int32) → (Nat → Int32) → (Nat → Int32) → (Nat → Int32) → (Nat → Int32) → (Nat → Int32) → (Nat → Int32) → (Nat → Int32) → (Nat → Int32) → (Nat → Int32) → (Nat → Int32) → (Nat → Int32) → (Nat → Int32) → (Nat → Int32) → (Nat → Int32) → (Nat → Int32) → (Nat → Int32) → (Nat → Int32) → (Nat → Int32) → (Nat → Int32) → Prop} {s t ch w : Nat} {x2 : Int32} {K : Nat → Nat} {cl : Nat → Prop} {og : Nat → Nat} {best : Nat} (hk : mo_K k) (H : as_H (mo_E tg b k) hh (mo_N k) g) (he : mo_E tg b k s t w) (hby : mo_by tg k s ch t)
    (I : as_I (mo_E tg b k) hh (mo_N k) st (as_D tg k s ch) K cl og best) (R : as_R K cl og a_cost a_closed a_origin) (hcl : cl s) (hf : K s + hh s = best) (h3 : K s + 3 ≤ 3 * ct_n cl (mo_N k))
    (hJ : ∀ K' og' a_cost a_origin, as_I (mo_E tg b k) hh (mo_N k) st (as_D tg k s (ch + 1)) K' cl og' best → as_R K' cl og' a_cost a_closed a_origin → K' s = K s → J12 (nI (ch + 1)) f_walls f_placed f_count f_byEffort f_best f_turns a_waysOut a_placeOf a_goalOf a_stepTo a_toGoal a_distance a_who a_cost a_origin a_closed a_onward a_queue a_cellNow a_cellNext a_walkNow a_walkNext a_used a_flowFrom a_flowTo a_cameBy a_line) :
    wX_expand_50 post J12 (nI s) x2 (nI ch) (nI t) (nI w) (nI (K s)) f_walls f_placed f_count f_byEffort f_best f_turns a_waysOut a_placeOf a_goalOf a_stepTo a_toGoal a_distance a_who a_cost a_origin a_closed a_onward a_queue a_cellNow a_cellNext a_walkNow a_walkNext a_used a_flowFrom a_flowTo a_cameBy a_line := by
  have lt := Nat.lt_of_lt_of_le (mo_E_lt he).2 (mo_Nle k)
  have ls := Nat.lt_of_lt_of_le (mo_E_lt he).1 (mo_Nle k)
  have vt : vp_in (nI t) 1728 := vp_in_nI lt (by omega)
  have ct : (nI t).toNatClampNeg = t := nI_clamp (by omega)
  have hw := mo_E_3 he
  have hKs := I.2.2.1 s
  have hKt := I.2.2.1 t
  have hD : ∀ x y w', mo_E tg b k x y w' → as_D tg k s (ch + 1) x y → as_D tg k s ch x y ∨ (x = s ∧ y = t) := by
    intro x y w' _ hd
    rcases hd with z | z | ⟨c, hc, z⟩
    · exact Or.inl (Or.inl z)
    · exact Or.inl (Or.inr (Or.inl z))
    · rcases Nat.decEq x s with e | e
      · exact Or.inl (Or.inl e)
      · rcases Nat.lt_or_ge c ch with q | q
        · exact Or.inl (Or.inr (Or.inr ⟨c, q, z⟩))
        · have : c = ch := by omega
          subst this
          exact Or.inr ⟨e, mo_by_u hk z hby⟩
  refine nm_r (nI_add (K s) w) ⟨vt, ?_⟩
  rw [ct, (R t lt).1]
  refine pk_le (K t) (K s + w) (fun z => nm_r (nI_1 ch) (hJ K og a_cost a_origin (as_mono hD (as_keep H I he z)) R rfl)) (fun z => ⟨vt, nm_e ⟨vt, nm_e (nm_r (nI_1 ch) (hJ _ _ _ _ (as_mono hD (as_relax H I hcl hf h3 he z)) (as_Ru R t (K s + w) s) ?_))⟩⟩)
  have hne : s ≠ t := fun e => by rw [e] at z; omega
  exact ag_un _ _ hne
theorem xw_exp12 {post : SX → Prop} {s : Nat} {cl : Nat → Prop} {best : Nat} (hk : mo_K k) (ok : cg_OK tg op) (hst : cg_ST tg a_stepTo) (H : as_H (mo_E tg b k) hh (mo_N k) g) (hs : s < mo_N k) (hC : tm_C k s a_cellNow) (hcl : cl s)
    (hp : ∀ K og a_cost a_origin a_cellNext, as_I (mo_E tg b k) hh (mo_N k) st (fun _ _ => True) K cl og best → as_R K cl og a_cost a_closed a_origin → post (f_walls, f_placed, nI k, tm_b b, f_best, f_turns, a_waysOut, a_placeOf, a_goalOf, a_stepTo, a_toGoal, a_distance, a_who, a_cost, a_origin, a_closed, a_onward, a_queue, a_cellNow, a_cellNext, a_walkNow, a_walkNext, a_used, a_flowFrom, a_flowTo, a_cameBy, a_line)) :
    ∀ e ch n K og a_cost a_origin a_cellNext, ch + e = mo_ch k → e < n → as_I (mo_E tg b k) hh (mo_N k) st (as_D tg k s ch) K cl og best → as_R K cl og a_cost a_closed a_origin → K s + hh s = best → K s + 3 ≤ 3 * ct_n cl (mo_N k) →
      wX_expand_12 post (nI s) (nI (mo_ch k)) n (nI ch) f_walls f_placed (nI k) (tm_b b) f_best f_turns a_waysOut a_placeOf a_goalOf a_stepTo a_toGoal a_distance a_who a_cost a_origin a_closed a_onward a_queue a_cellNow a_cellNext a_walkNow a_walkNext a_used a_flowFrom a_flowTo a_cameBy a_line := by
  have hm := mo_ch_le k
  have ls := Nat.lt_of_lt_of_le hs (mo_Nle k)
  intro e
  induction e with
  | zero =>
    intro ch n K og a_cost a_origin a_cellNext he hn I R hf h3
    obtain ⟨n, rfl⟩ : ∃ m, n = m + 1 := ⟨n - 1, by omega⟩
    refine pk_le (mo_ch k) ch (fun _ => hp K og a_cost a_origin a_cellNext (as_mono ?_ I) R) (fun h => by omega)
    intro x t w e _
    rcases Nat.decEq x s with z | rfl
    · exact Or.inl z
    · obtain ⟨c, hc, hb, _⟩ := mo_M_by hk e.1 e.2.1
      exact Or.inr (Or.inr ⟨c, by omega, hb⟩)
  | succ e ih =>
    intro ch n K og a_cost a_origin a_cellNext he hn I R hf h3
    obtain ⟨n, rfl⟩ : ∃ m, n = m + 1 := ⟨n - 1, by omega⟩
    refine pk_le (mo_ch k) ch (fun _ => by omega) (fun hlt => ?_)
    refine xw_chosen hk ok hst hC (by omega) (fun a_cellNext hno => ?_) (fun a_cellNext t hby hD => ?_)
    · refine br_t xb_neg (nm_r (nI_1 ch) (ih (ch + 1) n K og a_cost a_origin a_cellNext (by omega) (by omega) (as_mono ?_ I) R hf h3))
      intro x t w _ hd
      rcases hd with z | z | ⟨c, hc, z⟩
      · exact Or.inl z
      · exact Or.inr (Or.inl z)
      · rcases Nat.lt_or_ge c ch with q | q
        · exact Or.inr (Or.inr ⟨c, q, z⟩)
        · have : c = ch := by omega
          subst this
          exact absurd z (hno t)
    · have hM := mo_by_M hby
      have lt := Nat.lt_of_lt_of_le hM.1 (mo_Nle k)
      refine br_f (nI_pos (by omega)) ⟨vp_in_nI ls (by omega), ?_⟩
      rw [nI_clamp (show s < 2 ^ 31 by omega), (R s ls).1]
      have go : ∀ w, mo_E tg b k s t w → wX_expand_50 post (wX_expand_12 post (nI s) (nI (mo_ch k)) n) (nI s) (nI (mo_ch k)) (nI ch) (nI t) (nI w) (nI (K s)) f_walls f_placed (nI k) (tm_b b) f_best f_turns a_waysOut a_placeOf a_goalOf a_stepTo a_toGoal a_distance a_who a_cost a_origin a_closed a_onward a_queue a_cellNow a_cellNext a_walkNow a_walkNext a_used a_flowFrom a_flowTo a_cameBy a_line := fun w hE =>
        xw_exp50 hk H hE hby I R hcl hf h3 (fun K' og' a_cost a_origin I' R' e' => ih (ch + 1) n K' og' a_cost a_origin a_cellNext (by omega) (by omega) I' R' (by rw [e']; exact hf) (by rw [e']; exact h3))
      cases b with
      | false => exact br_t rfl (go 1 ⟨hs, hM, rfl⟩)
      | true => exact br_f (by decide) (xw_steps hk hC hD (go (mo_ef k s t) ⟨hs, hM, rfl⟩))
theorem xw_expand {post : SX → Prop} {s : Nat} {K : Nat → Nat} {cl : Nat → Prop} {og : Nat → Nat} {best : Nat} (hk : mo_K k) (ok : cg_OK tg op) (hst : cg_ST tg a_stepTo) (H : as_H (mo_E tg b k) hh (mo_N k) g) (hs : s < mo_N k) (hcl : cl s)
    (I : as_I (mo_E tg b k) hh (mo_N k) st (fun x t => x ≠ s ∨ t = s) K cl og best) (R : as_R K cl og a_cost a_closed a_origin) (hf : K s + hh s = best) (h3 : K s + 3 ≤ 3 * ct_n cl (mo_N k))
    (hp : ∀ K og a_cost a_origin a_cellNow a_cellNext, as_I (mo_E tg b k) hh (mo_N k) st (fun _ _ => True) K cl og best → as_R K cl og a_cost a_closed a_origin → post (f_walls, f_placed, nI k, tm_b b, f_best, f_turns, a_waysOut, a_placeOf, a_goalOf, a_stepTo, a_toGoal, a_distance, a_who, a_cost, a_origin, a_closed, a_onward, a_queue, a_cellNow, a_cellNext, a_walkNow, a_walkNext, a_used, a_flowFrom, a_flowTo, a_cameBy, a_line)) :
    wpX_expand post (f_walls, f_placed, nI k, tm_b b, f_best, f_turns, a_waysOut, a_placeOf, a_goalOf, a_stepTo, a_toGoal, a_distance, a_who, a_cost, a_origin, a_closed, a_onward, a_queue, a_cellNow, a_cellNext, a_walkNow, a_walkNext, a_used, a_flowFrom, a_flowTo, a_cameBy, a_line) (nI s) := by
  have ls := Nat.lt_of_lt_of_le hs (mo_Nle k)
  have h1 : 1 ≤ mo_ch k := by rcases hk with rfl | rfl | rfl <;> decide
  refine xw_layCells hk ls fun a_cellNow hC => xw_choices hk ⟨126, ?_⟩
  refine xw_exp12 hk ok hst H hs hC hcl (fun K og a_cost a_origin a_cellNext I R => hp K og a_cost a_origin a_cellNow a_cellNext I R) (mo_ch k - 1) 1 126 K og a_cost a_origin a_cellNext (by omega) (by have := mo_ch_le k; omega) (as_mono ?_ I) R hf h3
  intro x t w _ hd
  rcases hd with z | z | ⟨c, hc, z⟩
  · exact Or.inl z
  · exact Or.inr z
  · have : c = 0 := by omega
    subst this
    exact Or.inr (mo_by_0 hk hs z)
end
end
section
theorem as_Rc {K : Nat → Nat} {cl : Nat → Prop} {og : Nat → Nat} {ac aq ao : Nat → Int32} (R : as_R K cl og ac aq ao) (s : Nat) : as_R K (fun x => cl x ∨ x = s) og ac (upd aq s 1) ao := by
  intro x hx
  obtain ⟨r1, r2, r3, r4⟩ := R x hx
  rcases Nat.decEq x s with e | rfl
  · rw [pk_un e]
    exact ⟨r1, fun z => r2 (z.elim id fun q => absurd q e), fun z => r3 fun q => z (Or.inl q), r4⟩
  · rw [pk_us]
    exact ⟨r1, fun _ => rfl, fun z => absurd (Or.inr rfl) z, r4⟩
section
variable {tg : Nat → Nat → Option Nat} {op : Nat → Prop} {k : Nat} {wh gs : Nat → Nat} {b : Bool} {st g : Nat}
variable {f_walls f_placed f_count f_byEffort f_best f_turns : Int32} {a_waysOut a_placeOf a_goalOf a_stepTo a_toGoal a_distance a_who a_cost a_origin a_closed a_onward a_queue a_cellNow a_cellNext a_walkNow a_walkNext a_used a_flowFrom a_flowTo a_cameBy a_line : Nat → Int32}
theorem xw_close4 {post : Int32 → SX → Prop} {best : Nat} {K0 : Nat → Nat} {cl0 : Nat → Prop} (hk : mo_K k) (ok : cg_OK tg op) (hst : cg_ST tg a_stepTo) (hw : tm_W k wh a_who) (ht : tm_T tg k wh gs a_toGoal)
    (H : as_H (mo_E tg b k) (as_h tg gs b k) (mo_N k) g) (hb : best < 1000000)
    (hp0 : ∀ og a_cost a_origin a_closed a_cellNow a_cellNext, as_I (mo_E tg b k) (as_h tg gs b k) (mo_N k) st (fun _ _ => True) K0 cl0 og best → as_R K0 cl0 og a_cost a_closed a_origin → (∀ s, s < 1728 → K0 s < 1000000 → ¬ cl0 s → K0 s + as_h tg gs b k s ≠ best) → post 0 (f_walls, f_placed, nI k, tm_b b, nI best, f_turns, a_waysOut, a_placeOf, a_goalOf, a_stepTo, a_toGoal, a_distance, a_who, a_cost, a_origin, a_closed, a_onward, a_queue, a_cellNow, a_cellNext, a_walkNow, a_walkNext, a_used, a_flowFrom, a_flowTo, a_cameBy, a_line))
    (hp1 : ∀ K cl og a_cost a_origin a_closed a_cellNow a_cellNext, as_I (mo_E tg b k) (as_h tg gs b k) (mo_N k) st (fun _ _ => True) K cl og best → as_R K cl og a_cost a_closed a_origin → ct_n cl0 (mo_N k) < ct_n cl (mo_N k) → post 1 (f_walls, f_placed, nI k, tm_b b, nI best, f_turns, a_waysOut, a_placeOf, a_goalOf, a_stepTo, a_toGoal, a_distance, a_who, a_cost, a_origin, a_closed, a_onward, a_queue, a_cellNow, a_cellNext, a_walkNow, a_walkNext, a_used, a_flowFrom, a_flowTo, a_cameBy, a_line)) :
    ∀ e i n x1 K cl og a_cost a_origin a_closed a_cellNow a_cellNext, i + e = 1728 → e < n → as_I (mo_E tg b k) (as_h tg gs b k) (mo_N k) st (fun _ _ => True) K cl og best → as_R K cl og a_cost a_closed a_origin →
      ((x1 = 0 ∧ K = K0 ∧ cl = cl0 ∧ ∀ s, s < i → K s < 1000000 → ¬ cl s → K s + as_h tg gs b k s ≠ best) ∨ (x1 = 1 ∧ ct_n cl0 (mo_N k) < ct_n cl (mo_N k))) →
      wX_closeBest_4 post n x1 (nI i) f_walls f_placed (nI k) (tm_b b) (nI best) f_turns a_waysOut a_placeOf a_goalOf a_stepTo a_toGoal a_distance a_who a_cost a_origin a_closed a_onward a_queue a_cellNow a_cellNext a_walkNow a_walkNext a_used a_flowFrom a_flowTo a_cameBy a_line := by
  intro e
  induction e with
  | zero =>
    intro i n x1 K cl og a_cost a_origin a_closed a_cellNow a_cellNext he hn I R hx
    obtain ⟨n, rfl⟩ : ∃ m, n = m + 1 := ⟨n - 1, by omega⟩
    refine pk_le 1728 i (fun _ => ?_) (fun h => by omega)
    rcases hx with ⟨rfl, rfl, rfl, h⟩ | ⟨rfl, h⟩
    · exact ⟨rfl, hp0 og a_cost a_origin a_closed a_cellNow a_cellNext I R fun s hs => h s (by omega)⟩
    · exact ⟨rfl, hp1 K cl og a_cost a_origin a_closed a_cellNow a_cellNext I R h⟩
  | succ e ih =>
    intro i n x1 K cl og a_cost a_origin a_closed a_cellNow a_cellNext he hn I R hx
    obtain ⟨n, rfl⟩ : ∃ m, n = m + 1 := ⟨n - 1, by omega⟩
    refine pk_le 1728 i (fun _ => by omega) (fun hlt => ?_)
    have vi : vp_in (nI i) 1728 := vp_in_nI hlt (by omega)
    have ci : (nI i).toNatClampNeg = i := nI_clamp (by omega)
    have hK := I.2.2.1 i
    have hh := H.2.2.2.2.2.1 i
    have next : (K i < 1000000 → ¬ cl i → K i + as_h tg gs b k i ≠ best) → wX_closeBest_4 post n x1 (nI (i + 1)) f_walls f_placed (nI k) (tm_b b) (nI best) f_turns a_waysOut a_placeOf a_goalOf a_stepTo a_toGoal a_distance a_who a_cost a_origin a_closed a_onward a_queue a_cellNow a_cellNext a_walkNow a_walkNext a_used a_flowFrom a_flowTo a_cameBy a_line := fun q => by
      refine ih (i + 1) n x1 K cl og a_cost a_origin a_closed a_cellNow a_cellNext (by omega) (by omega) I R ?_
      rcases hx with ⟨h1, h2, h3, h⟩ | h
      · refine Or.inl ⟨h1, h2, h3, fun s hs => ?_⟩
        rcases Nat.decEq s i with z | rfl
        · exact h s (by omega)
        · exact q
      · exact Or.inr h
    refine ⟨vi, ?_⟩
    rw [ci, (R i hlt).1]
    refine pk_le 1000000 (K i) (fun z => nm_r (nI_1 i) (next fun q => by omega)) (fun z => ⟨vi, ?_⟩)
    rcases Classical.em (cl i) with hc | hc
    · rw [(R i hlt).2.1 hc]
      exact br_f (by decide) (nm_r (nI_1 i) (next fun _ q => absurd hc q))
    · rw [(R i hlt).2.2.1 hc]
      refine br_t rfl ⟨vi, xw_guess hk ok hw ht hlt (nm_r (nI_add _ _) ?_)⟩
      refine pk_eq (K i + as_h tg gs b k i) best (fun q => ?_) (fun q => nm_r (nI_1 i) (next fun _ _ => q))
      have hiN := (I.2.2.2.1 i z).1
      obtain ⟨I', h3⟩ := as_close I z hc q
      refine ⟨vi, nm_r (by rw [xb_b1]) ?_⟩
      refine xw_expand hk ok hst H hiN (Or.inr rfl) I' (as_Rc R i) q h3 fun K' og' a_cost a_origin a_cellNow a_cellNext I2 R2 => ?_
      refine nm_r (nI_1 i) (ih (i + 1) n 1 K' _ og' a_cost a_origin _ a_cellNow a_cellNext (by omega) (by omega) I2 R2 (Or.inr ⟨rfl, ?_⟩))
      rw [ct_add hc hiN]
      rcases hx with ⟨_, _, rfl, _⟩ | ⟨_, h⟩
      · omega
      · omega
theorem xw_closeBest {post : Int32 → SX → Prop} {best : Nat} {K : Nat → Nat} {cl : Nat → Prop} {og : Nat → Nat} (hk : mo_K k) (ok : cg_OK tg op) (hst : cg_ST tg a_stepTo) (hw : tm_W k wh a_who) (ht : tm_T tg k wh gs a_toGoal)
    (H : as_H (mo_E tg b k) (as_h tg gs b k) (mo_N k) g) (hb : best < 1000000) (I : as_I (mo_E tg b k) (as_h tg gs b k) (mo_N k) st (fun _ _ => True) K cl og best) (R : as_R K cl og a_cost a_closed a_origin)
    (hp0 : ∀ og a_cost a_origin a_closed a_cellNow a_cellNext, as_I (mo_E tg b k) (as_h tg gs b k) (mo_N k) st (fun _ _ => True) K cl og best → as_R K cl og a_cost a_closed a_origin → (∀ s, s < 1728 → K s < 1000000 → ¬ cl s → K s + as_h tg gs b k s ≠ best) → post 0 (f_walls, f_placed, nI k, tm_b b, nI best, f_turns, a_waysOut, a_placeOf, a_goalOf, a_stepTo, a_toGoal, a_distance, a_who, a_cost, a_origin, a_closed, a_onward, a_queue, a_cellNow, a_cellNext, a_walkNow, a_walkNext, a_used, a_flowFrom, a_flowTo, a_cameBy, a_line))
    (hp1 : ∀ K' cl' og a_cost a_origin a_closed a_cellNow a_cellNext, as_I (mo_E tg b k) (as_h tg gs b k) (mo_N k) st (fun _ _ => True) K' cl' og best → as_R K' cl' og a_cost a_closed a_origin → ct_n cl (mo_N k) < ct_n cl' (mo_N k) → post 1 (f_walls, f_placed, nI k, tm_b b, nI best, f_turns, a_waysOut, a_placeOf, a_goalOf, a_stepTo, a_toGoal, a_distance, a_who, a_cost, a_origin, a_closed, a_onward, a_queue, a_cellNow, a_cellNext, a_walkNow, a_walkNext, a_used, a_flowFrom, a_flowTo, a_cameBy, a_line)) :
    wpX_closeBest post (f_walls, f_placed, nI k, tm_b b, nI best, f_turns, a_waysOut, a_placeOf, a_goalOf, a_stepTo, a_toGoal, a_distance, a_who, a_cost, a_origin, a_closed, a_onward, a_queue, a_cellNow, a_cellNext, a_walkNow, a_walkNext, a_used, a_flowFrom, a_flowTo, a_cameBy, a_line) :=
  ⟨1729, xw_close4 hk ok hst hw ht H hb hp0 hp1 1728 0 1729 0 K cl og a_cost a_origin a_closed a_cellNow a_cellNext (by omega) (by omega) I R (Or.inl ⟨rfl, rfl, rfl, fun s hs => by omega⟩)⟩
theorem xw_raise5 {post : SX → Prop} {K : Nat → Nat} {cl : Nat → Prop} {og : Nat → Nat} (hk : mo_K k) (ok : cg_OK tg op) (hw : tm_W k wh a_who) (ht : tm_T tg k wh gs a_toGoal) (hK : ∀ s, K s ≤ 1000000) (hh : ∀ s, as_h tg gs b k s ≤ 1000000)
    (R : as_R K cl og a_cost a_closed a_origin)
    (hp : ∀ l, l ≤ 1000000 → (∀ s, s < 1728 → K s < 1000000 → ¬ cl s → l ≤ K s + as_h tg gs b k s) → (l < 1000000 → ∃ s, s < 1728 ∧ K s < 1000000 ∧ ¬ cl s ∧ K s + as_h tg gs b k s = l) → post (f_walls, f_placed, nI k, tm_b b, nI l, f_turns, a_waysOut, a_placeOf, a_goalOf, a_stepTo, a_toGoal, a_distance, a_who, a_cost, a_origin, a_closed, a_onward, a_queue, a_cellNow, a_cellNext, a_walkNow, a_walkNext, a_used, a_flowFrom, a_flowTo, a_cameBy, a_line)) :
    ∀ e i n l, i + e = 1728 → e < n → l ≤ 1000000 → (∀ s, s < i → K s < 1000000 → ¬ cl s → l ≤ K s + as_h tg gs b k s) → (l < 1000000 → ∃ s, s < 1728 ∧ K s < 1000000 ∧ ¬ cl s ∧ K s + as_h tg gs b k s = l) →
      wX_raiseBest_5 post f_walls f_placed (nI k) (tm_b b) f_best f_turns a_waysOut a_placeOf a_goalOf a_stepTo a_toGoal a_distance a_who a_cost a_origin a_closed a_onward a_queue a_cellNow a_cellNext a_walkNow a_walkNext a_used a_flowFrom a_flowTo a_cameBy a_line n (nI l) (nI i) := by
  intro e
  induction e with
  | zero =>
    intro i n l he hn hl h1 h2
    obtain ⟨n, rfl⟩ : ∃ m, n = m + 1 := ⟨n - 1, by omega⟩
    exact pk_le 1728 i (fun _ => hp l hl (fun s hs => h1 s (by omega)) h2) (fun h => by omega)
  | succ e ih =>
    intro i n l he hn hl h1 h2
    obtain ⟨n, rfl⟩ : ∃ m, n = m + 1 := ⟨n - 1, by omega⟩
    refine pk_le 1728 i (fun _ => by omega) (fun hlt => ?_)
    have vi : vp_in (nI i) 1728 := vp_in_nI hlt (by omega)
    have ci : (nI i).toNatClampNeg = i := nI_clamp (by omega)
    have hKi := hK i
    have hhi := hh i
    have next : (K i < 1000000 → ¬ cl i → l ≤ K i + as_h tg gs b k i) → wX_raiseBest_5 post f_walls f_placed (nI k) (tm_b b) f_best f_turns a_waysOut a_placeOf a_goalOf a_stepTo a_toGoal a_distance a_who a_cost a_origin a_closed a_onward a_queue a_cellNow a_cellNext a_walkNow a_walkNext a_used a_flowFrom a_flowTo a_cameBy a_line n (nI l) (nI (i + 1)) := fun q => by
      refine ih (i + 1) n l (by omega) (by omega) hl (fun s hs => ?_) h2
      rcases Nat.decEq s i with z | rfl
      · exact h1 s (by omega)
      · exact q
    refine ⟨vi, ?_⟩
    rw [ci, (R i hlt).1]
    refine pk_le 1000000 (K i) (fun z => nm_r (nI_1 i) (next fun q => by omega)) (fun z => ⟨vi, ?_⟩)
    rcases Classical.em (cl i) with hc | hc
    · rw [(R i hlt).2.1 hc]
      exact br_f (by decide) (nm_r (nI_1 i) (next fun _ q => absurd hc q))
    · rw [(R i hlt).2.2.1 hc]
      refine br_t rfl ⟨vi, xw_guess hk ok hw ht hlt (nm_r (nI_add _ _) ?_)⟩
      refine pk_le l (K i + as_h tg gs b k i) (fun q => nm_r (nI_1 i) (next fun _ _ => q)) (fun q => nm_r (nI_1 i) ?_)
      refine ih (i + 1) n _ (by omega) (by omega) (by omega) (fun s hs hs1 hs2 => ?_) (fun _ => ⟨i, hlt, z, hc, rfl⟩)
      rcases Nat.decEq s i with y | rfl
      · have := h1 s (by omega) hs1 hs2
        omega
      · exact Nat.le_refl _
theorem xw_raiseBest {post : SX → Prop} {K : Nat → Nat} {cl : Nat → Prop} {og : Nat → Nat} (hk : mo_K k) (ok : cg_OK tg op) (hw : tm_W k wh a_who) (ht : tm_T tg k wh gs a_toGoal) (hK : ∀ s, K s ≤ 1000000) (hh : ∀ s, as_h tg gs b k s ≤ 1000000)
    (R : as_R K cl og a_cost a_closed a_origin)
    (hp : ∀ l, l ≤ 1000000 → (∀ s, s < 1728 → K s < 1000000 → ¬ cl s → l ≤ K s + as_h tg gs b k s) → (l < 1000000 → ∃ s, s < 1728 ∧ K s < 1000000 ∧ ¬ cl s ∧ K s + as_h tg gs b k s = l) → post (f_walls, f_placed, nI k, tm_b b, nI l, f_turns, a_waysOut, a_placeOf, a_goalOf, a_stepTo, a_toGoal, a_distance, a_who, a_cost, a_origin, a_closed, a_onward, a_queue, a_cellNow, a_cellNext, a_walkNow, a_walkNext, a_used, a_flowFrom, a_flowTo, a_cameBy, a_line)) :
    wpX_raiseBest post (f_walls, f_placed, nI k, tm_b b, f_best, f_turns, a_waysOut, a_placeOf, a_goalOf, a_stepTo, a_toGoal, a_distance, a_who, a_cost, a_origin, a_closed, a_onward, a_queue, a_cellNow, a_cellNext, a_walkNow, a_walkNext, a_used, a_flowFrom, a_flowTo, a_cameBy, a_line) :=
  ⟨1729, xw_raise5 hk ok hw ht hK hh R hp 1728 0 1729 1000000 (by omega) (by omega) (by omega) (fun s hs => by omega) (fun h => by omega)⟩
theorem xw_solve77 {post : Int32 → SX → Prop} (hk : mo_K k) (ok : cg_OK tg op) (hst : cg_ST tg a_stepTo) (hw : tm_W k wh a_who) (ht : tm_T tg k wh gs a_toGoal) (hg : g < mo_N k)
    (H : as_H (mo_E tg b k) (as_h tg gs b k) (mo_N k) g)
    (hp1 : ∀ best K cl og a_cost a_origin a_closed a_cellNow a_cellNext, as_I (mo_E tg b k) (as_h tg gs b k) (mo_N k) st (fun _ _ => True) K cl og best → as_R K cl og a_cost a_closed a_origin → cl g → post (nI (K g)) (f_walls, f_placed, nI k, tm_b b, nI best, f_turns, a_waysOut, a_placeOf, a_goalOf, a_stepTo, a_toGoal, a_distance, a_who, a_cost, a_origin, a_closed, a_onward, a_queue, a_cellNow, a_cellNext, a_walkNow, a_walkNext, a_used, a_flowFrom, a_flowTo, a_cameBy, a_line))
    (hp0 : ∀ best a_cost a_origin a_closed a_cellNow a_cellNext, (∀ c, ¬ gr_R (mo_E tg b k) c st g) → post (-2) (f_walls, f_placed, nI k, tm_b b, nI best, f_turns, a_waysOut, a_placeOf, a_goalOf, a_stepTo, a_toGoal, a_distance, a_who, a_cost, a_origin, a_closed, a_onward, a_queue, a_cellNow, a_cellNext, a_walkNow, a_walkNext, a_used, a_flowFrom, a_flowTo, a_cameBy, a_line)) :
    ∀ m i n best K cl og a_cost a_origin a_closed a_cellNow a_cellNext, i + m = 20000 → m < n → best ≤ 1000000 → as_I (mo_E tg b k) (as_h tg gs b k) (mo_N k) st (fun _ _ => True) K cl og best → as_R K cl og a_cost a_closed a_origin →
      (i ≤ 2 * ct_n cl (mo_N k) ∨ (i ≤ 2 * ct_n cl (mo_N k) + 1 ∧ (best < 1000000 → ∃ s, s < 1728 ∧ K s < 1000000 ∧ ¬ cl s ∧ K s + as_h tg gs b k s = best))) →
      wX_solve_77 post (nI g) n (nI i) f_walls f_placed (nI k) (tm_b b) (nI best) f_turns a_waysOut a_placeOf a_goalOf a_stepTo a_toGoal a_distance a_who a_cost a_origin a_closed a_onward a_queue a_cellNow a_cellNext a_walkNow a_walkNext a_used a_flowFrom a_flowTo a_cameBy a_line := by
  have lg := Nat.lt_of_lt_of_le hg (mo_Nle k)
  have vg : vp_in (nI g) 1728 := vp_in_nI lg (by omega)
  have cg : (nI g).toNatClampNeg = g := nI_clamp (by omega)
  intro m
  induction m with
  | zero =>
    intro i n best K cl og a_cost a_origin a_closed a_cellNow a_cellNext hm hn hb I R hi
    have h1 := ct_le cl (mo_N k)
    have h2 := mo_Nle k
    omega
  | succ m ih =>
    intro i n best K cl og a_cost a_origin a_closed a_cellNow a_cellNext hm hn hb I R hi
    obtain ⟨n, rfl⟩ : ∃ m, n = m + 1 := ⟨n - 1, by omega⟩
    have fin : (1000000 ≤ best ∨ cl g) → wX_solve_124 post (nI g) f_walls f_placed (nI k) (tm_b b) (nI best) f_turns a_waysOut a_placeOf a_goalOf a_stepTo a_toGoal a_distance a_who a_cost a_origin a_closed a_onward a_queue a_cellNow a_cellNext a_walkNow a_walkNext a_used a_flowFrom a_flowTo a_cameBy a_line := fun q => by
      refine ⟨vg, ?_⟩
      rw [cg]
      rcases Classical.em (cl g) with hc | hc
      · rw [(R g lg).2.1 hc]
        refine br_f (by decide) ⟨vg, ?_⟩
        rw [(R g lg).1]
        exact hp1 best K cl og a_cost a_origin a_closed a_cellNow a_cellNext I R hc
      · rw [(R g lg).2.2.1 hc]
        refine br_t rfl (hp0 best a_cost a_origin a_closed a_cellNow a_cellNext (as_none (mo_Nle k) H I (q.resolve_right hc) hc))
    refine pk_le 20000 i (fun _ => by omega) (fun _ => ?_)
    refine pk_le 1000000 best (fun z => fin (Or.inl z)) (fun z => ⟨vg, ?_⟩)
    rw [cg]
    rcases Classical.em (cl g) with hc | hc
    · rw [(R g lg).2.1 hc]
      exact br_f (by decide) (fin (Or.inr hc))
    · rw [(R g lg).2.2.1 hc]
      refine br_t rfl (xw_closeBest hk ok hst hw ht H z I R (fun og a_cost a_origin a_closed a_cellNow a_cellNext I R hno => ?_) (fun K' cl' og a_cost a_origin a_closed a_cellNow a_cellNext I R hlt => ?_))
      · refine br_t rfl (xw_raiseBest hk ok hw ht I.2.2.1 H.2.2.2.2.2.1 R fun l hl h1 h2 => nm_r (nI_1 i) ?_)
        have hbl : best ≤ l := by
          rcases Nat.lt_or_ge l 1000000 with y | y
          · obtain ⟨s, hs, a1, a2, a3⟩ := h2 y
            have := I.2.2.2.2.2.2.1 s a1 a2
            omega
          · omega
        refine ih (i + 1) n l K cl og a_cost a_origin a_closed a_cellNow a_cellNext (by omega) (by omega) hl ?_ R (Or.inr ⟨?_, h2⟩)
        · obtain ⟨i1, i2, i3, i4, i5, i6, i7, i8⟩ := I
          exact ⟨i1, i2, i3, i4, fun s hs => ⟨(i5 s hs).1, Nat.le_trans (i5 s hs).2 hbl⟩, i6, fun s a b => h1 s (Nat.lt_of_lt_of_le (i4 s a).1 (mo_Nle k)) a b, i8⟩
        · rcases hi with hi | ⟨hi, hx⟩
          · omega
          · obtain ⟨s, hs, a1, a2, a3⟩ := hx z
            exact absurd a3 (hno s hs a1 a2)
      · refine br_f (by decide) (nm_r (nI_1 i) (ih (i + 1) n best K' cl' og a_cost a_origin a_closed a_cellNow a_cellNext (by omega) (by omega) hb I R (Or.inl ?_)))
        omega
theorem xw_solve20 {post : Int32 → SX → Prop} (hk : mo_K k) (ok : cg_OK tg op) (hst : cg_ST tg a_stepTo) (hw : tm_W k wh a_who) (ht : tm_T tg k wh gs a_toGoal) (hs : st < mo_N k) (hg : g < mo_N k)
    (H : as_H (mo_E tg b k) (as_h tg gs b k) (mo_N k) g)
    (hp1 : ∀ best K cl og a_cost a_origin a_closed a_cellNow a_cellNext, as_I (mo_E tg b k) (as_h tg gs b k) (mo_N k) st (fun _ _ => True) K cl og best → as_R K cl og a_cost a_closed a_origin → cl g → post (nI (K g)) (f_walls, f_placed, nI k, tm_b b, nI best, f_turns, a_waysOut, a_placeOf, a_goalOf, a_stepTo, a_toGoal, a_distance, a_who, a_cost, a_origin, a_closed, a_onward, a_queue, a_cellNow, a_cellNext, a_walkNow, a_walkNext, a_used, a_flowFrom, a_flowTo, a_cameBy, a_line))
    (hp0 : ∀ best a_cost a_origin a_closed a_cellNow a_cellNext, (∀ c, ¬ gr_R (mo_E tg b k) c st g) → post (-2) (f_walls, f_placed, nI k, tm_b b, nI best, f_turns, a_waysOut, a_placeOf, a_goalOf, a_stepTo, a_toGoal, a_distance, a_who, a_cost, a_origin, a_closed, a_onward, a_queue, a_cellNow, a_cellNext, a_walkNow, a_walkNext, a_used, a_flowFrom, a_flowTo, a_cameBy, a_line)) :
    ∀ e i n a_cost a_closed, i + e = 1728 → e < n → (∀ s, s < i → a_cost s = nI 1000000 ∧ a_closed s = 0) →
      wX_solve_20 post (nI st) (nI g) f_walls f_placed (nI k) (tm_b b) f_best f_turns n (nI i) a_waysOut a_placeOf a_goalOf a_stepTo a_toGoal a_distance a_who a_cost a_origin a_closed a_onward a_queue a_cellNow a_cellNext a_walkNow a_walkNext a_used a_flowFrom a_flowTo a_cameBy a_line := by
  have ls := Nat.lt_of_lt_of_le hs (mo_Nle k)
  have vs : vp_in (nI st) 1728 := vp_in_nI ls (by omega)
  have cs : (nI st).toNatClampNeg = st := nI_clamp (by omega)
  intro e
  induction e with
  | zero =>
    intro i n a_cost a_closed he hn hi
    obtain ⟨n, rfl⟩ : ∃ m, n = m + 1 := ⟨n - 1, by omega⟩
    refine pk_le 1728 i (fun _ => ⟨vs, nm_r (by rw [cs]) ⟨vs, nm_r (by rw [cs]) ?_⟩⟩) (fun h => by omega)
    refine xw_guess hk ok hw ht ls ⟨20001, ?_⟩
    refine xw_solve77 hk ok hst hw ht hg H hp1 hp0 20000 0 20001 (as_h tg gs b k st) _ _ (fun x => if x = st then st else 0) _ _ _ _ _ (by omega) (by omega) (H.2.2.2.2.2.1 st) (as_init hs (if_pos rfl)) ?_ (Or.inl (Nat.zero_le _))
    intro s hs'
    rcases Nat.decEq s st with z | rfl
    · rw [pk_un z, pk_un z]
      dsimp only
      rw [if_neg z]
      exact ⟨(hi s (by omega)).1, fun q => q.elim, fun _ => (hi s (by omega)).2, fun q => by omega⟩
    · rw [pk_us, pk_us]
      dsimp only
      rw [if_pos rfl, if_pos rfl]
      exact ⟨rfl, fun q => q.elim, fun _ => (hi s (by omega)).2, fun q => rfl⟩
  | succ e ih =>
    intro i n a_cost a_closed he hn hi
    obtain ⟨n, rfl⟩ : ∃ m, n = m + 1 := ⟨n - 1, by omega⟩
    refine pk_le 1728 i (fun _ => by omega) (fun hlt => ?_)
    have vi : vp_in (nI i) 1728 := vp_in_nI hlt (by omega)
    have ci : (nI i).toNatClampNeg = i := nI_clamp (by omega)
    refine ⟨vi, nm_r (by rw [ci]) ⟨vi, nm_r (by rw [ci, xb_b0]) (nm_r (nI_1 i) (ih (i + 1) n _ _ (by omega) (by omega) fun s hs => ?_))⟩⟩
    rcases Nat.decEq s i with z | rfl
    · rw [pk_un z, pk_un z]; exact hi s (by omega)
    · rw [pk_us, pk_us]; exact ⟨rfl, rfl⟩
theorem xw_solve {post : Int32 → SX → Prop} {T : Nat} {pl gl : Nat → Nat} (h1 : 1 ≤ T) (hT : T < 8) (ok : cg_OK tg op) (hst : cg_ST tg a_stepTo) (hp : ∀ w, w < 3 → a_placeOf w = nI (pl w) ∧ pl w < 12) (hg : ∀ w, w < 3 → a_goalOf w = nI (gl w) ∧ gl w < 12)
    (ht : tm_T tg (tm_k T) (tm_w T) (fun i => gl (tm_w T i)) a_toGoal)
    (hp1 : ∀ best K cl og a_who a_cost a_origin a_closed a_cellNow a_cellNext, tm_W (tm_k T) (tm_w T) a_who → as_I (mo_E tg b (tm_k T)) (as_h tg (fun i => gl (tm_w T i)) b (tm_k T)) (mo_N (tm_k T)) (tm_s (tm_k T) fun i => pl (tm_w T i)) (fun _ _ => True) K cl og best → as_R K cl og a_cost a_closed a_origin →
      cl (tm_s (tm_k T) fun i => gl (tm_w T i)) → post (nI (K (tm_s (tm_k T) fun i => gl (tm_w T i)))) (f_walls, f_placed, nI (tm_k T), tm_b b, nI best, f_turns, a_waysOut, a_placeOf, a_goalOf, a_stepTo, a_toGoal, a_distance, a_who, a_cost, a_origin, a_closed, a_onward, a_queue, a_cellNow, a_cellNext, a_walkNow, a_walkNext, a_used, a_flowFrom, a_flowTo, a_cameBy, a_line))
    (hp0 : ∀ best a_who a_cost a_origin a_closed a_cellNow a_cellNext, (∀ c, ¬ gr_R (mo_E tg b (tm_k T)) c (tm_s (tm_k T) fun i => pl (tm_w T i)) (tm_s (tm_k T) fun i => gl (tm_w T i))) → post (-2) (f_walls, f_placed, nI (tm_k T), tm_b b, nI best, f_turns, a_waysOut, a_placeOf, a_goalOf, a_stepTo, a_toGoal, a_distance, a_who, a_cost, a_origin, a_closed, a_onward, a_queue, a_cellNow, a_cellNext, a_walkNow, a_walkNext, a_used, a_flowFrom, a_flowTo, a_cameBy, a_line)) :
    wpX_solve post (f_walls, f_placed, f_count, tm_b b, f_best, f_turns, a_waysOut, a_placeOf, a_goalOf, a_stepTo, a_toGoal, a_distance, a_who, a_cost, a_origin, a_closed, a_onward, a_queue, a_cellNow, a_cellNext, a_walkNow, a_walkNext, a_used, a_flowFrom, a_flowTo, a_cameBy, a_line) (nI T) := by
  obtain ⟨hk, hf⟩ := tm_f2 T hT h1
  have h3 : ∀ i, i < tm_k T → i < 3 := fun i hi => by rcases hk with e | e | e <;> omega
  have lp : ∀ i, i < tm_k T → pl (tm_w T i) < 12 := fun i hi => (hp _ (hf i (h3 i hi) hi).1).2
  have lg : ∀ i, i < tm_k T → gl (tm_w T i) < 12 := fun i hi => (hg _ (hf i (h3 i hi) hi).1).2
  have dg := tm_s_d hk lg
  refine xw_gather (f_count := f_count) h1 hT fun a_who hw => xw_stateP hk hw hp (xw_stateG hk hw hg ⟨1729, ?_⟩)
  exact xw_solve20 hk ok hst hw ht (tm_s_lt hk lp) (tm_s_lt hk lg) (as_H_ok hk ok lg dg.1 dg.2.1 dg.2.2) (fun best K cl og a_cost a_origin a_closed a_cellNow a_cellNext I R hc => hp1 best K cl og a_who a_cost a_origin a_closed a_cellNow a_cellNext hw I R hc)
    (fun best a_cost a_origin a_closed a_cellNow a_cellNext hno => hp0 best a_who a_cost a_origin a_closed a_cellNow a_cellNext hno) 1728 0 1729 a_cost a_closed (by omega) (by omega) fun s hs => by omega
end
end
section
/-- a way that the array ow knows: from u to g by L edges, each of which costs what K grows by -/
def wy_P (E : Nat → Nat → Nat → Prop) (K : Nat → Nat) (ow : Nat → Int32) (q : Nat → Nat) (L u g : Nat) : Prop :=
  q 0 = u ∧ q L = g ∧ (∀ i, i < L → ∃ w, E (q i) (q (i + 1)) w ∧ K (q i) + w = K (q (i + 1)) ∧ 1 ≤ w) ∧ (∀ i, i < L → ow (q i) = nI (q (i + 1))) ∧ ow g = nI g
theorem wy_mono {E : Nat → Nat → Nat → Prop} {K : Nat → Nat} {ow : Nat → Int32} {q : Nat → Nat} {L u g : Nat} (h : wy_P E K ow q L u g) : ∀ i, i ≤ L → K u + i ≤ K (q i) := by
  obtain ⟨h1, h2, h3, h4, h5⟩ := h
  intro i
  induction i with
  | zero => intro _; rw [h1]; omega
  | succ i ih =>
    intro hi
    obtain ⟨w, _, b, c⟩ := h3 i (by omega)
    have := ih (by omega)
    omega
section
variable {tg : Nat → Nat → Option Nat} {op : Nat → Prop} {k : Nat} {wh gs : Nat → Nat} {b : Bool} {st : Nat}
variable {f_walls f_placed f_count f_byEffort f_best f_turns : Int32} {a_waysOut a_placeOf a_goalOf a_stepTo a_toGoal a_distance a_who a_cost a_origin a_closed a_onward a_queue a_cellNow a_cellNext a_walkNow a_walkNext a_used a_flowFrom a_flowTo a_cameBy a_line : Nat → Int32}
theorem xw_way15 {post : SX → Prop} {h : Nat → Nat} {g best : Nat} {K : Nat → Nat} {cl : Nat → Prop} {og : Nat → Nat} (I : as_I (mo_E tg b 2) h 144 st (fun _ _ => True) K cl og best) (R : as_R K cl og a_cost a_closed a_origin)
    (hp : ∀ a_onward q L, L ≤ 432 → wy_P (mo_E tg b 2) K a_onward q L st g → post (f_walls, f_placed, f_count, f_byEffort, f_best, f_turns, a_waysOut, a_placeOf, a_goalOf, a_stepTo, a_toGoal, a_distance, a_who, a_cost, a_origin, a_closed, a_onward, a_queue, a_cellNow, a_cellNext, a_walkNow, a_walkNext, a_used, a_flowFrom, a_flowTo, a_cameBy, a_line)) :
    ∀ m u n a_onward q L, K u < m → m ≤ n → u < 144 → K u < 1000000 → K g < 1000000 → wy_P (mo_E tg b 2) K a_onward q L u g → wX_layWay_15 post f_walls f_placed f_count f_byEffort f_best f_turns n (nI u) (nI L) a_waysOut a_placeOf a_goalOf a_stepTo a_toGoal a_distance a_who a_cost a_origin a_closed a_onward a_queue a_cellNow a_cellNext a_walkNow a_walkNext a_used a_flowFrom a_flowTo a_cameBy a_line := by
  intro m
  induction m with
  | zero => intro u n a_onward q L hm; omega
  | succ m ih =>
    intro u n a_onward q L hm hn hu hK hKg hP
    obtain ⟨n, rfl⟩ : ∃ m, n = m + 1 := ⟨n - 1, by omega⟩
    have hmono := wy_mono hP L (Nat.le_refl _)
    rw [hP.2.1] at hmono
    have hKg2 := (I.2.2.2.1 g hKg).2.2
    have hct := ct_le cl 144
    have vu : vp_in (nI u) 1728 := vp_in_nI (by omega) (by omega)
    have cu : (nI u).toNatClampNeg = u := nI_clamp (by omega)
    have hou : a_origin u = nI (og u) := (R u (by omega)).2.2.2 hK
    refine pk_le 1728 L (fun _ => by omega) (fun _ => ⟨vu, ?_⟩)
    rw [cu, hou]
    rcases Nat.decEq u st with z | rfl
    · obtain ⟨hc, w, he, hw, hw1⟩ := I.2.2.2.2.2.2.2 u hK z
      have lo : og u < 144 := (mo_E_lt he).1
      have ne : og u ≠ u := fun e => by rw [e] at hw; omega
      refine br_f (fun e => ne ((nI_eq (by omega) (by omega)).mp e)) ⟨vu, vp_in_nI (by omega) (by omega), nm_r (by rw [nI_clamp (show og u < 2 ^ 31 by omega)]) ⟨vu, nm_e (nm_r (nI_1 L) ?_)⟩⟩
      refine ih (og u) n _ (fun i => if i = 0 then og u else q (i - 1)) (L + 1) (by omega) (by omega) lo (by omega) hKg ?_
      obtain ⟨p1, p2, p3, p4, p5⟩ := hP
      have far : ∀ i, i ≤ L → q i ≠ og u := fun i hi e => by
        have := wy_mono ⟨p1, p2, p3, p4, p5⟩ i hi
        rw [e] at this
        omega
      refine ⟨rfl, by show (if L + 1 = 0 then _ else q (L + 1 - 1)) = g; rw [if_neg (by omega)]; exact p2, fun i hi => ?_, fun i hi => ?_, ?_⟩
      · rcases Nat.decEq i 0 with e | rfl
        · obtain ⟨i, rfl⟩ : ∃ j, i = j + 1 := ⟨i - 1, by omega⟩
          exact p3 i (by omega)
        · show ∃ w, mo_E tg b 2 (og u) (q 0) w ∧ K (og u) + w = K (q 0) ∧ 1 ≤ w
          rw [p1]
          exact ⟨w, he, hw, hw1⟩
      · rcases Nat.decEq i 0 with e | rfl
        · obtain ⟨i, rfl⟩ : ∃ j, i = j + 1 := ⟨i - 1, by omega⟩
          show upd a_onward (og u) (nI u) (q i) = nI (q (i + 1))
          rw [pk_un (far i (by omega))]
          exact p4 i (by omega)
        · show upd a_onward (og u) (nI u) (og u) = nI (q 0)
          rw [pk_us, p1]
      · rw [pk_un (by have := far L (Nat.le_refl _); rw [p2] at this; exact this)]
        exact p5
    · rw [I.2.1]
      exact br_t rfl (hp a_onward q L (by omega) hP)
theorem xw_layWay {post : SX → Prop} {h : Nat → Nat} {best : Nat} {K : Nat → Nat} {cl : Nat → Prop} {og : Nat → Nat} {gl : Nat → Nat} (hw : tm_W 2 wh a_who) (hg : ∀ w, w < 3 → a_goalOf w = nI (gl w) ∧ gl w < 12)
    (I : as_I (mo_E tg b 2) h 144 st (fun _ _ => True) K cl og best) (R : as_R K cl og a_cost a_closed a_origin) (hc : K (tm_s 2 fun i => gl (wh i)) < 1000000)
    (hp : ∀ a_onward q L, L ≤ 432 → wy_P (mo_E tg b 2) K a_onward q L st (tm_s 2 fun i => gl (wh i)) → post (f_walls, f_placed, nI 2, f_byEffort, f_best, f_turns, a_waysOut, a_placeOf, a_goalOf, a_stepTo, a_toGoal, a_distance, a_who, a_cost, a_origin, a_closed, a_onward, a_queue, a_cellNow, a_cellNext, a_walkNow, a_walkNext, a_used, a_flowFrom, a_flowTo, a_cameBy, a_line)) : wpX_layWay post (f_walls, f_placed, nI 2, f_byEffort, f_best, f_turns, a_waysOut, a_placeOf, a_goalOf, a_stepTo, a_toGoal, a_distance, a_who, a_cost, a_origin, a_closed, a_onward, a_queue, a_cellNow, a_cellNext, a_walkNow, a_walkNext, a_used, a_flowFrom, a_flowTo, a_cameBy, a_line) := by
  refine xw_stateG (Or.inr (Or.inl rfl)) hw hg ?_
  have lg : tm_s 2 (fun i => gl (wh i)) < 144 := (I.2.2.2.1 _ hc).1
  generalize (tm_s 2 fun i => gl (wh i)) = g at *
  refine ⟨vp_in_nI (by omega) (by omega), nm_r (by rw [nI_clamp (show g < 2 ^ 31 by omega)]) ⟨K g + 1, ?_⟩⟩
  refine xw_way15 I R hp (K g + 1) g (K g + 1) _ (fun _ => g) 0 (by omega) (by omega) lg hc hc ⟨rfl, rfl, fun i hi => by omega, fun i hi => by omega, pk_us⟩
theorem xw_meet {post : Int32 → Prop} {a a' b b' : Nat} (ha : a < 2 ^ 31) (ha' : a' < 2 ^ 31) (hb : b < 2 ^ 31) (hb' : b' < 2 ^ 31) (h1 : ¬ mo_cl a b a' b' → post 1) (h0 : mo_cl a b a' b' → post 0) : wpX_meet post (nI a) (nI a') (nI b) (nI b') :=
  pk_eq a' b' (fun e => h1 fun q => q.1 e) fun e => pk_eq a' b (fun e1 => pk_eq b' a (fun e2 => h1 fun q => q.2 ⟨e1, e2⟩) fun e2 => h0 ⟨e, fun q => e2 q.2⟩) fun e1 => h0 ⟨e, fun q => e1 q.1⟩
end
end
section
/-- where a walker alone is at turn t -/
noncomputable def cl_z (tg : Nat → Nat → Option Nat) (g c : Nat) : Nat → Nat
  | 0 => c
  | t + 1 => cg_na tg g (cl_z tg g c t)
theorem cl_z_lt {tg : Nat → Nat → Option Nat} {op : Nat → Prop} (ok : cg_OK tg op) {g c : Nat} (hc : c < 12) : ∀ t, cl_z tg g c t < 12
  | 0 => hc
  | t + 1 => cg_na_lt ok (cl_z_lt ok hc t)
def cl_C (C T : Nat) : Prop := (C = 3 ∨ C = 5 ∨ C = 6) ∧ ∀ w, w < 3 → C.testBit w = true → T.testBit w = true
section
variable {tg : Nat → Nat → Option Nat} {op : Nat → Prop} {T : Nat} {pl gl : Nat → Nat}
variable {f_walls f_placed f_count f_byEffort f_best f_turns : Int32} {a_waysOut a_placeOf a_goalOf a_stepTo a_toGoal a_distance a_who a_cost a_origin a_closed a_onward a_queue a_cellNow a_cellNext a_walkNow a_walkNext a_used a_flowFrom a_flowTo a_cameBy a_line : Nat → Int32}
theorem xw_cn27 {post : Int32 → Prop} {J2 : Int32 → Prop} {i j r : Nat} {p q : Nat → Nat} (hT : T < 8) (hi : i < 3) (hj : j < 3)
    (hN : ∀ w, w < 3 → T.testBit w = true → a_walkNow w = nI (p w) ∧ p w < 12 ∧ a_walkNext w = nI (q w) ∧ q w < 12)
    (hJ : (T.testBit i = true → T.testBit j = true → mo_cl (p i) (p j) (q i) (q j)) → J2 (nI (r + 1))) (h1 : T.testBit i = true → T.testBit j = true → post (nI (2 ^ i ||| 2 ^ j))) :
    wX_clashNow_27 post J2 (nI T) (nI r) (nI i) (nI j) f_walls f_placed f_count f_byEffort f_best f_turns a_waysOut a_placeOf a_goalOf a_stepTo a_toGoal a_distance a_who a_cost a_origin a_closed a_onward a_queue a_cellNow a_cellNext a_walkNow a_walkNext a_used a_flowFrom a_flowTo a_cameBy a_line := by
  have no : (T.testBit i = true → T.testBit j = true → mo_cl (p i) (p j) (q i) (q j)) → wX_clashNow_52 post J2 (nI T) (nI r) (nI i) (nI j) f_walls f_placed f_count f_byEffort f_best f_turns a_waysOut a_placeOf a_goalOf a_stepTo a_toGoal a_distance a_who a_cost a_origin a_closed a_onward a_queue a_cellNow a_cellNext a_walkNow a_walkNext a_used a_flowFrom a_flowTo a_cameBy a_line := fun h => br_t rfl (nm_r (nI_1 r) (hJ h))
  refine xb_br (by omega) (by omega) (fun bi => xb_br (by omega) (by omega) (fun bj => ?_) (fun bj => no fun _ z => by rw [bj] at z; cases z)) (fun bi => no fun z => by rw [bi] at z; cases z)
  obtain ⟨a1, a2, a3, a4⟩ := hN i hi bi
  obtain ⟨b1, b2, b3, b4⟩ := hN j hj bj
  refine br_f (by decide) ⟨vp_in_nI hi (by omega), vp_in_nI hi (by omega), vp_in_nI hj (by omega), vp_in_nI hj (by omega), ?_⟩
  rw [nI_clamp (show i < 2 ^ 31 by omega), nI_clamp (show j < 2 ^ 31 by omega), a1, a3, b1, b3]
  refine xw_meet (by omega) (by omega) (by omega) (by omega) (fun _ => br_f (by decide) ?_) (fun h => br_t rfl (nm_r (nI_1 r) (hJ fun _ _ => h)))
  rw [xb_sh1 (by omega), xb_sh1 (by omega), nx_or]
  exact h1 bi bj
theorem xw_clashNow {post : Int32 → Prop} {p q : Nat → Nat} (hT : T < 8)
    (hN : ∀ w, w < 3 → T.testBit w = true → a_walkNow w = nI (p w) ∧ p w < 12 ∧ a_walkNext w = nI (q w) ∧ q w < 12)
    (h0 : (∀ i j, i < j → j < 3 → T.testBit i = true → T.testBit j = true → mo_cl (p i) (p j) (q i) (q j)) → post 0) (h1 : ∀ C, cl_C C T → post (nI C)) : wpX_clashNow post (f_walls, f_placed, f_count, f_byEffort, f_best, f_turns, a_waysOut, a_placeOf, a_goalOf, a_stepTo, a_toGoal, a_distance, a_who, a_cost, a_origin, a_closed, a_onward, a_queue, a_cellNow, a_cellNext, a_walkNow, a_walkNext, a_used, a_flowFrom, a_flowTo, a_cameBy, a_line) (nI T) := by
  refine ⟨4, br_f (by decide) (br_f (by decide) (br_t rfl ?_))⟩
  refine xw_cn27 (i := 0) (j := 1) (r := 0) hT (by omega) (by omega) hN (fun c01 => ?_) (fun b0 b1 => h1 3 ⟨Or.inl rfl, fun w hw hb => ?_⟩)
  · refine br_f (by decide) (br_f (by decide) (br_f (by decide) ?_))
    refine xw_cn27 (i := 0) (j := 2) (r := 1) hT (by omega) (by omega) hN (fun c02 => ?_) (fun b0 b2 => h1 5 ⟨Or.inr (Or.inl rfl), fun w hw hb => ?_⟩)
    · refine br_f (by decide) (br_t rfl (br_f (by decide) ?_))
      refine xw_cn27 (i := 1) (j := 2) (r := 2) hT (by omega) (by omega) hN (fun c12 => ?_) (fun b1 b2 => h1 6 ⟨Or.inr (Or.inr rfl), fun w hw hb => ?_⟩)
      · refine br_t (by decide) (h0 fun i j hij hj bi bj => ?_)
        have : (i = 0 ∧ j = 1) ∨ (i = 0 ∧ j = 2) ∨ (i = 1 ∧ j = 2) := by omega
        rcases this with ⟨rfl, rfl⟩ | ⟨rfl, rfl⟩ | ⟨rfl, rfl⟩
        · exact c01 bi bj
        · exact c02 bi bj
        · exact c12 bi bj
      · have : w = 0 ∨ w = 1 ∨ w = 2 := by omega
        rcases this with rfl | rfl | rfl
        · exact absurd hb (by decide)
        · exact b1
        · exact b2
    · have : w = 0 ∨ w = 1 ∨ w = 2 := by omega
      rcases this with rfl | rfl | rfl
      · exact b0
      · exact absurd hb (by decide)
      · exact b2
  · have : w = 0 ∨ w = 1 ∨ w = 2 := by omega
    rcases this with rfl | rfl | rfl
    · exact b0
    · exact b1
    · exact absurd hb (by decide)
theorem xw_ca91 {post : Int32 → SX → Prop} {J27 : Int32 → (Nat → Int32) → (Nat → Int32) → (Nat → Int32) → (Nat → Int32) → (Nat → Int32) → (Nat → Int32) → (Nat → Int32) → (Nat → Int32) → (Nat → Int32) → (Nat → Int32) → (Nat → Int32) → (Nat → Int32) → (Nat → Int32) → (Nat → Int32) → (Nat → Int32) → (Nat → Int32) → (Nat → Int32) → (Nat → Int32) → (Nat → Int32) → (Nat → Int32) → (Nat → Int32) → Prop} {t : Nat} {x1 : Int32} {q : Nat → Nat} (hX : ∀ w, w < 3 → T.testBit w = true → a_walkNext w = nI (q w))
    (hJ : ∀ a_walkNow, (∀ w, w < 3 → T.testBit w = true → a_walkNow w = nI (q w)) → J27 (nI (t + 1)) a_waysOut a_placeOf a_goalOf a_stepTo a_toGoal a_distance a_who a_cost a_origin a_closed a_onward a_queue a_cellNow a_cellNext a_walkNow a_walkNext a_used a_flowFrom a_flowTo a_cameBy a_line) :
    ∀ e w n a_walkNow, w + e = 3 → e < n → (∀ v, v < w → T.testBit v = true → a_walkNow v = nI (q v)) → wX_clashAlone_91 post J27 x1 (nI t) f_walls f_placed f_count f_byEffort f_best f_turns n (nI w) a_waysOut a_placeOf a_goalOf a_stepTo a_toGoal a_distance a_who a_cost a_origin a_closed a_onward a_queue a_cellNow a_cellNext a_walkNow a_walkNext a_used a_flowFrom a_flowTo a_cameBy a_line := by
  intro e
  induction e with
  | zero =>
    intro w n a_walkNow he hn hi
    obtain ⟨n, rfl⟩ : ∃ m, n = m + 1 := ⟨n - 1, by omega⟩
    exact pk_le 3 w (fun _ => nm_r (nI_1 t) (hJ a_walkNow fun v hv => hi v (by omega))) (fun h => by omega)
  | succ e ih =>
    intro w n a_walkNow he hn hi
    obtain ⟨n, rfl⟩ : ∃ m, n = m + 1 := ⟨n - 1, by omega⟩
    refine pk_le 3 w (fun _ => by omega) (fun hlt => ⟨vp_in_nI hlt (by omega), vp_in_nI hlt (by omega), nm_r (by rw [nI_clamp (show w < 2 ^ 31 by omega)]) (nm_r (nI_1 w) (ih (w + 1) n _ (by omega) (by omega) fun v hv hb => ?_))⟩)
    rcases Nat.decEq v w with z | rfl
    · rw [pk_un z]; exact hi v (by omega) hb
    · rw [pk_us]; exact hX v hlt hb
theorem xw_ca35 {post : Int32 → SX → Prop} {J27 : Int32 → (Nat → Int32) → (Nat → Int32) → (Nat → Int32) → (Nat → Int32) → (Nat → Int32) → (Nat → Int32) → (Nat → Int32) → (Nat → Int32) → (Nat → Int32) → (Nat → Int32) → (Nat → Int32) → (Nat → Int32) → (Nat → Int32) → (Nat → Int32) → (Nat → Int32) → (Nat → Int32) → (Nat → Int32) → (Nat → Int32) → (Nat → Int32) → (Nat → Int32) → (Nat → Int32) → Prop} {t : Nat} {p : Nat → Nat} (ok : cg_OK tg op) (hst : cg_ST tg a_stepTo) (hT : T < 8) (hgl : ∀ w, w < 3 → gl w < 12) (htg : xw_TG tg T gl 3 a_toGoal)
    (hP : ∀ w, w < 3 → T.testBit w = true → a_walkNow w = nI (p w) ∧ p w < 12)
    (h0 : ∀ a_walkNow a_walkNext, (∀ i j, i < j → j < 3 → T.testBit i = true → T.testBit j = true → mo_cl (p i) (p j) (cg_na tg (gl i) (p i)) (cg_na tg (gl j) (p j))) → (∀ w, w < 3 → T.testBit w = true → a_walkNow w = nI (cg_na tg (gl w) (p w))) → J27 (nI (t + 1)) a_waysOut a_placeOf a_goalOf a_stepTo a_toGoal a_distance a_who a_cost a_origin a_closed a_onward a_queue a_cellNow a_cellNext a_walkNow a_walkNext a_used a_flowFrom a_flowTo a_cameBy a_line)
    (h1 : ∀ a_walkNext C, cl_C C T → post (nI C) (f_walls, f_placed, f_count, f_byEffort, f_best, f_turns, a_waysOut, a_placeOf, a_goalOf, a_stepTo, a_toGoal, a_distance, a_who, a_cost, a_origin, a_closed, a_onward, a_queue, a_cellNow, a_cellNext, a_walkNow, a_walkNext, a_used, a_flowFrom, a_flowTo, a_cameBy, a_line)) :
    ∀ e w n a_walkNext, w + e = 3 → e < n → (∀ v, v < w → T.testBit v = true → a_walkNext v = nI (cg_na tg (gl v) (p v))) → wX_clashAlone_35 post J27 (nI T) (nI t) f_walls f_placed f_count f_byEffort f_best f_turns n (nI w) a_waysOut a_placeOf a_goalOf a_stepTo a_toGoal a_distance a_who a_cost a_origin a_closed a_onward a_queue a_cellNow a_cellNext a_walkNow a_walkNext a_used a_flowFrom a_flowTo a_cameBy a_line := by
  intro e
  induction e with
  | zero =>
    intro w n a_walkNext he hn hi
    obtain ⟨n, rfl⟩ : ∃ m, n = m + 1 := ⟨n - 1, by omega⟩
    refine pk_le 3 w (fun _ => ?_) (fun h => by omega)
    refine xw_clashNow (p := p) (q := fun w => cg_na tg (gl w) (p w)) hT (fun v hv hb => ⟨(hP v hv hb).1, (hP v hv hb).2, hi v (by omega) hb, cg_na_lt ok (hP v hv hb).2⟩) (fun hcl => br_t rfl ⟨4, ?_⟩) (fun C hC => br_f ?_ (h1 a_walkNext C hC))
    · exact xw_ca91 (T := T) (q := fun w => cg_na tg (gl w) (p w)) (fun v hv hb => hi v (by omega) hb) (fun a_walkNow hw => h0 a_walkNow a_walkNext hcl hw) 3 0 4 a_walkNow (by omega) (by omega) fun v hv => by omega
    · rcases hC.1 with rfl | rfl | rfl <;> decide
  | succ e ih =>
    intro w n a_walkNext he hn hi
    obtain ⟨n, rfl⟩ : ∃ m, n = m + 1 := ⟨n - 1, by omega⟩
    refine pk_le 3 w (fun _ => by omega) (fun hlt => xb_br (by omega) (by omega) (fun hb => ⟨vp_in_nI hlt (by omega), ?_⟩) (fun hb => ⟨vp_in_nI hlt (by omega), nm_r (by rw [nI_clamp (show w < 2 ^ 31 by omega)]) (nm_r (nI_1 w) (ih (w + 1) n _ (by omega) (by omega) fun v hv hbv => ?_))⟩))
    · rw [nI_clamp (show w < 2 ^ 31 by omega), (hP w hlt hb).1]
      refine xw_nextAlone ok hst hlt (hgl w hlt) (hP w hlt hb).2 (htg w hlt hb) ⟨vp_in_nI hlt (by omega), nm_e (nm_r (nI_1 w) (ih (w + 1) n _ (by omega) (by omega) fun v hv hbv => ?_))⟩
      rcases Nat.decEq v w with z | rfl
      · rw [pk_un z]; exact hi v (by omega) hbv
      · rw [pk_us]
    · rcases Nat.decEq v w with z | rfl
      · rw [pk_un z]; exact hi v (by omega) hbv
      · rw [hb] at hbv; cases hbv
theorem xw_ca27 {post : Int32 → SX → Prop} (ok : cg_OK tg op) (hst : cg_ST tg a_stepTo) (hT : T < 8) (hgl : ∀ w, w < 3 → gl w < 12) (hpl : ∀ w, w < 3 → pl w < 12) (htg : xw_TG tg T gl 3 a_toGoal)
    (h0 : ∀ a_walkNow a_walkNext, (∀ t, t < 12 → ∀ i j, i < j → j < 3 → T.testBit i = true → T.testBit j = true → mo_cl (cl_z tg (gl i) (pl i) t) (cl_z tg (gl j) (pl j) t) (cl_z tg (gl i) (pl i) (t + 1)) (cl_z tg (gl j) (pl j) (t + 1))) → post 0 (f_walls, f_placed, f_count, f_byEffort, f_best, f_turns, a_waysOut, a_placeOf, a_goalOf, a_stepTo, a_toGoal, a_distance, a_who, a_cost, a_origin, a_closed, a_onward, a_queue, a_cellNow, a_cellNext, a_walkNow, a_walkNext, a_used, a_flowFrom, a_flowTo, a_cameBy, a_line))
    (h1 : ∀ a_walkNow a_walkNext C, cl_C C T → post (nI C) (f_walls, f_placed, f_count, f_byEffort, f_best, f_turns, a_waysOut, a_placeOf, a_goalOf, a_stepTo, a_toGoal, a_distance, a_who, a_cost, a_origin, a_closed, a_onward, a_queue, a_cellNow, a_cellNext, a_walkNow, a_walkNext, a_used, a_flowFrom, a_flowTo, a_cameBy, a_line)) :
    ∀ e t n a_walkNow a_walkNext, t + e = 12 → e < n → (∀ w, w < 3 → T.testBit w = true → a_walkNow w = nI (cl_z tg (gl w) (pl w) t)) →
      (∀ t', t' < t → ∀ i j, i < j → j < 3 → T.testBit i = true → T.testBit j = true → mo_cl (cl_z tg (gl i) (pl i) t') (cl_z tg (gl j) (pl j) t') (cl_z tg (gl i) (pl i) (t' + 1)) (cl_z tg (gl j) (pl j) (t' + 1))) →
      wX_clashAlone_27 post (nI T) f_walls f_placed f_count f_byEffort f_best f_turns n (nI t) a_waysOut a_placeOf a_goalOf a_stepTo a_toGoal a_distance a_who a_cost a_origin a_closed a_onward a_queue a_cellNow a_cellNext a_walkNow a_walkNext a_used a_flowFrom a_flowTo a_cameBy a_line := by
  intro e
  induction e with
  | zero =>
    intro t n a_walkNow a_walkNext he hn hi hc
    obtain ⟨n, rfl⟩ : ∃ m, n = m + 1 := ⟨n - 1, by omega⟩
    exact pk_le 12 t (fun _ => h0 a_walkNow a_walkNext fun t' ht' => hc t' (by omega)) (fun h => by omega)
  | succ e ih =>
    intro t n a_walkNow a_walkNext he hn hi hc
    obtain ⟨n, rfl⟩ : ∃ m, n = m + 1 := ⟨n - 1, by omega⟩
    refine pk_le 12 t (fun _ => by omega) (fun hlt => ⟨4, ?_⟩)
    refine xw_ca35 (p := fun w => cl_z tg (gl w) (pl w) t) ok hst hT hgl htg (fun w hw hb => ⟨hi w hw hb, cl_z_lt ok (hpl w hw) t⟩) (fun a_walkNow a_walkNext hcl hw => ih (t + 1) n a_walkNow a_walkNext (by omega) (by omega) hw fun t' ht' => ?_) (fun a_walkNext C hC => h1 a_walkNow a_walkNext C hC) 3 0 4 a_walkNext (by omega) (by omega) fun v hv => by omega
    rcases Nat.decEq t' t with z | rfl
    · exact hc t' (by omega)
    · exact hcl
theorem xw_ca2 {post : Int32 → SX → Prop} (ok : cg_OK tg op) (hst : cg_ST tg a_stepTo) (hT : T < 8) (hgl : ∀ w, w < 3 → gl w < 12) (hpl : ∀ w, w < 3 → a_placeOf w = nI (pl w) ∧ pl w < 12) (htg : xw_TG tg T gl 3 a_toGoal)
    (h0 : ∀ a_walkNow a_walkNext, (∀ t, t < 12 → ∀ i j, i < j → j < 3 → T.testBit i = true → T.testBit j = true → mo_cl (cl_z tg (gl i) (pl i) t) (cl_z tg (gl j) (pl j) t) (cl_z tg (gl i) (pl i) (t + 1)) (cl_z tg (gl j) (pl j) (t + 1))) → post 0 (f_walls, f_placed, f_count, f_byEffort, f_best, f_turns, a_waysOut, a_placeOf, a_goalOf, a_stepTo, a_toGoal, a_distance, a_who, a_cost, a_origin, a_closed, a_onward, a_queue, a_cellNow, a_cellNext, a_walkNow, a_walkNext, a_used, a_flowFrom, a_flowTo, a_cameBy, a_line))
    (h1 : ∀ a_walkNow a_walkNext C, cl_C C T → post (nI C) (f_walls, f_placed, f_count, f_byEffort, f_best, f_turns, a_waysOut, a_placeOf, a_goalOf, a_stepTo, a_toGoal, a_distance, a_who, a_cost, a_origin, a_closed, a_onward, a_queue, a_cellNow, a_cellNext, a_walkNow, a_walkNext, a_used, a_flowFrom, a_flowTo, a_cameBy, a_line)) :
    ∀ e w n a_walkNow, w + e = 3 → e < n → (∀ v, v < w → a_walkNow v = nI (pl v)) → wX_clashAlone_2 post (nI T) f_walls f_placed f_count f_byEffort f_best f_turns n (nI w) a_waysOut a_placeOf a_goalOf a_stepTo a_toGoal a_distance a_who a_cost a_origin a_closed a_onward a_queue a_cellNow a_cellNext a_walkNow a_walkNext a_used a_flowFrom a_flowTo a_cameBy a_line := by
  intro e
  induction e with
  | zero =>
    intro w n a_walkNow he hn hi
    obtain ⟨n, rfl⟩ : ∃ m, n = m + 1 := ⟨n - 1, by omega⟩
    exact pk_le 3 w (fun _ => ⟨13, xw_ca27 ok hst hT hgl (fun w hw => (hpl w hw).2) htg h0 h1 12 0 13 a_walkNow a_walkNext (by omega) (by omega) (fun v hv _ => hi v (by omega)) fun t ht => by omega⟩) (fun h => by omega)
  | succ e ih =>
    intro w n a_walkNow he hn hi
    obtain ⟨n, rfl⟩ : ∃ m, n = m + 1 := ⟨n - 1, by omega⟩
    refine pk_le 3 w (fun _ => by omega) (fun hlt => ⟨vp_in_nI hlt (by omega), vp_in_nI hlt (by omega), nm_r (by rw [nI_clamp (show w < 2 ^ 31 by omega), (hpl w hlt).1]) (nm_r (nI_1 w) (ih (w + 1) n _ (by omega) (by omega) fun v hv => ?_))⟩)
    rcases Nat.decEq v w with z | rfl
    · rw [pk_un z]; exact hi v (by omega)
    · rw [pk_us]
theorem xw_clashAlone {post : Int32 → SX → Prop} (ok : cg_OK tg op) (hst : cg_ST tg a_stepTo) (hT : T < 8) (hgl : ∀ w, w < 3 → gl w < 12) (hpl : ∀ w, w < 3 → a_placeOf w = nI (pl w) ∧ pl w < 12) (htg : xw_TG tg T gl 3 a_toGoal)
    (h0 : ∀ a_walkNow a_walkNext, (∀ t, t < 12 → ∀ i j, i < j → j < 3 → T.testBit i = true → T.testBit j = true → mo_cl (cl_z tg (gl i) (pl i) t) (cl_z tg (gl j) (pl j) t) (cl_z tg (gl i) (pl i) (t + 1)) (cl_z tg (gl j) (pl j) (t + 1))) → post 0 (f_walls, f_placed, f_count, f_byEffort, f_best, f_turns, a_waysOut, a_placeOf, a_goalOf, a_stepTo, a_toGoal, a_distance, a_who, a_cost, a_origin, a_closed, a_onward, a_queue, a_cellNow, a_cellNext, a_walkNow, a_walkNext, a_used, a_flowFrom, a_flowTo, a_cameBy, a_line))
    (h1 : ∀ a_walkNow a_walkNext C, cl_C C T → post (nI C) (f_walls, f_placed, f_count, f_byEffort, f_best, f_turns, a_waysOut, a_placeOf, a_goalOf, a_stepTo, a_toGoal, a_distance, a_who, a_cost, a_origin, a_closed, a_onward, a_queue, a_cellNow, a_cellNext, a_walkNow, a_walkNext, a_used, a_flowFrom, a_flowTo, a_cameBy, a_line)) : wpX_clashAlone post (f_walls, f_placed, f_count, f_byEffort, f_best, f_turns, a_waysOut, a_placeOf, a_goalOf, a_stepTo, a_toGoal, a_distance, a_who, a_cost, a_origin, a_closed, a_onward, a_queue, a_cellNow, a_cellNext, a_walkNow, a_walkNext, a_used, a_flowFrom, a_flowTo, a_cameBy, a_line) (nI T) :=
  ⟨4, xw_ca2 ok hst hT hgl hpl htg h0 h1 3 0 4 a_walkNow (by omega) (by omega) fun v hv => by omega⟩
theorem xw_lengthAlone {post : Int32 → Prop} {w : Nat} (hw : w < 3) (hb : T.testBit w = true) (hpl : ∀ w, w < 3 → a_placeOf w = nI (pl w) ∧ pl w < 12) (htg : xw_TG tg T gl 3 a_toGoal) (h : post (nI (cg_td tg (gl w) (pl w)))) : wpX_lengthAlone post (f_walls, f_placed, f_count, f_byEffort, f_best, f_turns, a_waysOut, a_placeOf, a_goalOf, a_stepTo, a_toGoal, a_distance, a_who, a_cost, a_origin, a_closed, a_onward, a_queue, a_cellNow, a_cellNext, a_walkNow, a_walkNext, a_used, a_flowFrom, a_flowTo, a_cameBy, a_line) (nI w) := by
  have := (hpl w hw).2
  refine ⟨vp_in_nI hw (by omega), ?_⟩
  rw [nI_clamp (show w < 2 ^ 31 by omega), (hpl w hw).1, xb_ix12]
  refine ⟨vp_in_nI (by omega) (by omega), ?_⟩
  rw [nI_clamp (by omega), htg w hw hb _ this]
  exact h
theorem xw_alS {post : Int32 → Prop} {n m s w : Nat} (ok : cg_OK tg op) (hT : T < 8) (hgl : ∀ w, w < 3 → gl w < 12) (hpl : ∀ w, w < 3 → a_placeOf w = nI (pl w) ∧ pl w < 12) (htg : xw_TG tg T gl 3 a_toGoal) (hw : w < 3) (hm : m ≤ 1000000) (hb : T.testBit w = true)
    (h : wX_alone_7 post (nI T) f_walls f_placed f_count f_byEffort f_best f_turns a_waysOut a_placeOf a_goalOf a_stepTo a_toGoal a_distance a_who a_cost a_origin a_closed a_onward a_queue a_cellNow a_cellNext a_walkNow a_walkNext a_used a_flowFrom a_flowTo a_cameBy a_line n (nI (as_mx m (cg_td tg (gl w) (pl w)))) (nI (s + cg_td tg (gl w) (pl w))) (nI (w + 1))) : wX_alone_7 post (nI T) f_walls f_placed f_count f_byEffort f_best f_turns a_waysOut a_placeOf a_goalOf a_stepTo a_toGoal a_distance a_who a_cost a_origin a_closed a_onward a_queue a_cellNow a_cellNext a_walkNow a_walkNext a_used a_flowFrom a_flowTo a_cameBy a_line (n + 1) (nI m) (nI s) (nI w) := by
  refine pk_le 3 w (fun _ => by omega) (fun _ => xb_br (by omega) (by omega) (fun _ => ?_) (fun z => by rw [hb] at z; cases z))
  refine xw_lengthAlone hw hb hpl htg ?_
  have hl := cg_td_le ok (hgl w hw) (pl w)
  generalize cg_td tg (gl w) (pl w) = f at *
  refine pk_le f m (fun z => nm_r (nI_add s f) (nm_r (nI_1 w) ?_)) (fun z => nm_r (nI_add s f) (nm_r (nI_1 w) ?_))
  · rw [show as_mx m f = m from if_pos z] at h; exact h
  · rw [show as_mx m f = f from if_neg (by omega)] at h; exact h
theorem xw_alN {post : Int32 → Prop} {n m s w : Nat} (hT : T < 8) (hw : w < 3) (hb : T.testBit w = false)
    (h : wX_alone_7 post (nI T) f_walls f_placed f_count f_byEffort f_best f_turns a_waysOut a_placeOf a_goalOf a_stepTo a_toGoal a_distance a_who a_cost a_origin a_closed a_onward a_queue a_cellNow a_cellNext a_walkNow a_walkNext a_used a_flowFrom a_flowTo a_cameBy a_line n (nI m) (nI s) (nI (w + 1))) : wX_alone_7 post (nI T) f_walls f_placed f_count f_byEffort f_best f_turns a_waysOut a_placeOf a_goalOf a_stepTo a_toGoal a_distance a_who a_cost a_origin a_closed a_onward a_queue a_cellNow a_cellNext a_walkNow a_walkNext a_used a_flowFrom a_flowTo a_cameBy a_line (n + 1) (nI m) (nI s) (nI w) :=
  pk_le 3 w (fun _ => by omega) (fun _ => xb_br (by omega) (by omega) (fun z => by rw [hb] at z; cases z) (fun _ => nm_r (nI_1 w) h))
def al_v (b : Bool) (m s : Nat) : Int32 := if m = 1000000 then -2 else if b = true then nI s else nI m
theorem xw_alE {post : Int32 → Prop} {b : Bool} {n m s : Nat} (hm : m ≤ 1000000) (h : post (al_v b m s)) : wX_alone_7 post (nI T) f_walls f_placed f_count (tm_b b) f_best f_turns a_waysOut a_placeOf a_goalOf a_stepTo a_toGoal a_distance a_who a_cost a_origin a_closed a_onward a_queue a_cellNow a_cellNext a_walkNow a_walkNext a_used a_flowFrom a_flowTo a_cameBy a_line (n + 1) (nI m) (nI s) 3 := by
  refine br_t (by decide) ?_
  unfold al_v at h
  refine pk_eq m 1000000 (fun z => ?_) (fun z => ?_)
  · rw [if_pos z] at h; exact h
  · rw [if_neg z] at h
    cases b with
    | false => exact br_t rfl h
    | true => exact br_f (by decide) h
end
end
section
section
variable {tg : Nat → Nat → Option Nat} {op : Nat → Prop} {T : Nat} {pl gl : Nat → Nat} {b : Bool}
variable {f_walls f_placed f_count f_byEffort f_best f_turns : Int32} {a_waysOut a_placeOf a_goalOf a_stepTo a_toGoal a_distance a_who a_cost a_origin a_closed a_onward a_queue a_cellNow a_cellNext a_walkNow a_walkNext a_used a_flowFrom a_flowTo a_cameBy a_line : Nat → Int32}
theorem xw_alone {post : Int32 → Prop} (h1 : 1 ≤ T) (hT : T < 8) (ok : cg_OK tg op) (hgl : ∀ w, w < 3 → gl w < 12) (hpl : ∀ w, w < 3 → a_placeOf w = nI (pl w) ∧ pl w < 12) (htg : xw_TG tg T gl 3 a_toGoal)
    (h : post (al_v b (as_mo (tm_k T) (cg_td tg (gl (tm_w T 0)) (pl (tm_w T 0))) (cg_td tg (gl (tm_w T 1)) (pl (tm_w T 1))) (cg_td tg (gl (tm_w T 2)) (pl (tm_w T 2)))) (as_su (tm_k T) (cg_td tg (gl (tm_w T 0)) (pl (tm_w T 0))) (cg_td tg (gl (tm_w T 1)) (pl (tm_w T 1))) (cg_td tg (gl (tm_w T 2)) (pl (tm_w T 2)))))) :
    wpX_alone post (f_walls, f_placed, f_count, tm_b b, f_best, f_turns, a_waysOut, a_placeOf, a_goalOf, a_stepTo, a_toGoal, a_distance, a_who, a_cost, a_origin, a_closed, a_onward, a_queue, a_cellNow, a_cellNext, a_walkNow, a_walkNext, a_used, a_flowFrom, a_flowTo, a_cameBy, a_line) (nI T) := by
  have mx : ∀ m w, w < 3 → m ≤ 1000000 → as_mx m (cg_td tg (gl w) (pl w)) ≤ 1000000 := fun m w hw hm => by
    have hl := cg_td_le ok (hgl w hw) (pl w)
    unfold as_mx
    split <;> omega
  have hT' : T = 1 ∨ T = 2 ∨ T = 3 ∨ T = 4 ∨ T = 5 ∨ T = 6 ∨ T = 7 := by omega
  rcases hT' with rfl | rfl | rfl | rfl | rfl | rfl | rfl
  · refine ⟨4, xw_alS (n := 3) (w := 0) (m := 0) (s := 0) ok (by omega) hgl hpl htg (by omega) (Nat.zero_le _) (by decide) (xw_alN (n := 2) (w := 1) (by omega) (by omega) (by decide) (xw_alN (n := 1) (w := 2) (by omega) (by omega) (by decide) (xw_alE (n := 0) (mx _ 0 (by omega) (Nat.zero_le _)) ?_)))⟩
    rw [as_mx0, Nat.zero_add]
    exact h
  · refine ⟨4, xw_alN (n := 3) (w := 0) (m := 0) (s := 0) (by omega) (by omega) (by decide) (xw_alS (n := 2) (w := 1) ok (by omega) hgl hpl htg (by omega) (Nat.zero_le _) (by decide) (xw_alN (n := 1) (w := 2) (by omega) (by omega) (by decide) (xw_alE (n := 0) (mx _ 1 (by omega) (Nat.zero_le _)) ?_)))⟩
    rw [as_mx0, Nat.zero_add]
    exact h
  · refine ⟨4, xw_alS (n := 3) (w := 0) (m := 0) (s := 0) ok (by omega) hgl hpl htg (by omega) (Nat.zero_le _) (by decide) (xw_alS (n := 2) (w := 1) ok (by omega) hgl hpl htg (by omega) (mx _ 0 (by omega) (Nat.zero_le _)) (by decide) (xw_alN (n := 1) (w := 2) (by omega) (by omega) (by decide) (xw_alE (n := 0) (mx _ 1 (by omega) (mx _ 0 (by omega) (Nat.zero_le _))) ?_)))⟩
    rw [as_mx0, Nat.zero_add]
    exact h
  · refine ⟨4, xw_alN (n := 3) (w := 0) (m := 0) (s := 0) (by omega) (by omega) (by decide) (xw_alN (n := 2) (w := 1) (by omega) (by omega) (by decide) (xw_alS (n := 1) (w := 2) ok (by omega) hgl hpl htg (by omega) (Nat.zero_le _) (by decide) (xw_alE (n := 0) (mx _ 2 (by omega) (Nat.zero_le _)) ?_)))⟩
    rw [as_mx0, Nat.zero_add]
    exact h
  · refine ⟨4, xw_alS (n := 3) (w := 0) (m := 0) (s := 0) ok (by omega) hgl hpl htg (by omega) (Nat.zero_le _) (by decide) (xw_alN (n := 2) (w := 1) (by omega) (by omega) (by decide) (xw_alS (n := 1) (w := 2) ok (by omega) hgl hpl htg (by omega) (mx _ 0 (by omega) (Nat.zero_le _)) (by decide) (xw_alE (n := 0) (mx _ 2 (by omega) (mx _ 0 (by omega) (Nat.zero_le _))) ?_)))⟩
    rw [as_mx0, Nat.zero_add]
    exact h
  · refine ⟨4, xw_alN (n := 3) (w := 0) (m := 0) (s := 0) (by omega) (by omega) (by decide) (xw_alS (n := 2) (w := 1) ok (by omega) hgl hpl htg (by omega) (Nat.zero_le _) (by decide) (xw_alS (n := 1) (w := 2) ok (by omega) hgl hpl htg (by omega) (mx _ 1 (by omega) (Nat.zero_le _)) (by decide) (xw_alE (n := 0) (mx _ 2 (by omega) (mx _ 1 (by omega) (Nat.zero_le _))) ?_)))⟩
    rw [as_mx0, Nat.zero_add]
    exact h
  · refine ⟨4, xw_alS (n := 3) (w := 0) (m := 0) (s := 0) ok (by omega) hgl hpl htg (by omega) (Nat.zero_le _) (by decide) (xw_alS (n := 2) (w := 1) ok (by omega) hgl hpl htg (by omega) (mx _ 0 (by omega) (Nat.zero_le _)) (by decide) (xw_alS (n := 1) (w := 2) ok (by omega) hgl hpl htg (by omega) (mx _ 1 (by omega) (mx _ 0 (by omega) (Nat.zero_le _))) (by decide) (xw_alE (n := 0) (mx _ 2 (by omega) (mx _ 1 (by omega) (mx _ 0 (by omega) (Nat.zero_le _)))) ?_)))⟩
    rw [as_mx0, Nat.zero_add]
    exact h
end
end
section
theorem cl_z_td {tg : Nat → Nat → Option Nat} {op : Nat → Prop} (ok : cg_OK tg op) {g c : Nat} (hg : g < 12) (hc : c < 12) (hf : cg_td tg g c < 1000000) : ∀ t, cg_td tg g (cl_z tg g c t) = cg_td tg g c - t := by
  intro t
  induction t with
  | zero => rfl
  | succ t ih =>
    have lz := cl_z_lt (g := g) ok hc t
    show cg_td tg g (cg_na tg g (cl_z tg g c t)) = _
    rcases Nat.eq_zero_or_pos (cg_td tg g (cl_z tg g c t)) with z | z
    · have e := cg_td_z ok hg z
      rw [e, cg_na_0 ok hg, cg_td0]
      omega
    · obtain ⟨n, hn⟩ : ∃ n, cg_td tg g (cl_z tg g c t) = n + 1 := ⟨cg_td tg g (cl_z tg g c t) - 1, by omega⟩
      rw [(cg_na_s ok hg lz hn (by omega)).1]
      omega
/-- where the two are at turn i; they stay at the end -/
def wy_s (q : Nat → Nat) (L i : Nat) : Nat := if i ≤ L then q i else q L
theorem wy_mono2 {E : Nat → Nat → Nat → Prop} {K : Nat → Nat} {ow : Nat → Int32} {q : Nat → Nat} {L u g : Nat} (h : wy_P E K ow q L u g) : ∀ m i, i + m = L → K (q i) + m ≤ K g := by
  obtain ⟨h1, h2, h3, h4, h5⟩ := h
  intro m
  induction m with
  | zero =>
    intro i hi
    obtain rfl : i = L := by omega
    rw [h2]; omega
  | succ m ih =>
    intro i hi
    obtain ⟨w, _, b, c⟩ := h3 i (by omega)
    have := ih (i + 1) (by omega)
    omega
theorem wy_s_g {E : Nat → Nat → Nat → Prop} {K : Nat → Nat} {ow : Nat → Int32} {q : Nat → Nat} {L u g : Nat} (h : wy_P E K ow q L u g) {i : Nat} (hi : L ≤ i) : wy_s q L i = g := by
  unfold wy_s
  split
  · rw [show i = L by omega]; exact h.2.1
  · exact h.2.1
theorem wy_s_i {E : Nat → Nat → Nat → Prop} {K : Nat → Nat} {ow : Nat → Int32} {q : Nat → Nat} {L u g : Nat} (h : wy_P E K ow q L u g) {i : Nat} (hi : wy_s q L i = g) : L ≤ i := by
  rcases Nat.lt_or_ge i L with z | z
  · unfold wy_s at hi
    rw [if_pos (by omega)] at hi
    have := wy_mono2 h (L - i) i (by omega)
    rw [hi] at this
    omega
  · exact z
theorem wy_s_o {E : Nat → Nat → Nat → Prop} {K : Nat → Nat} {ow : Nat → Int32} {q : Nat → Nat} {L u g : Nat} (h : wy_P E K ow q L u g) (i : Nat) : ow (wy_s q L i) = nI (wy_s q L (i + 1)) := by
  rcases Nat.lt_or_ge i L with z | z
  · unfold wy_s
    rw [if_pos (by omega), if_pos (by omega)]
    exact h.2.2.2.1 i z
  · rw [wy_s_g h z, wy_s_g h (by omega)]
    exact h.2.2.2.2
theorem wy_s_lt {tg : Nat → Nat → Option Nat} {b : Bool} {K : Nat → Nat} {ow : Nat → Int32} {q : Nat → Nat} {L u g : Nat} (h : wy_P (mo_E tg b 2) K ow q L u g) (hg : g < 144) (i : Nat) : wy_s q L i < 144 := by
  rcases Nat.lt_or_ge i L with z | z
  · unfold wy_s
    rw [if_pos (by omega)]
    obtain ⟨w, he, _, _⟩ := h.2.2.1 i z
    exact he.1
  · rw [wy_s_g h z]; exact hg
section
variable {tg : Nat → Nat → Option Nat} {op : Nat → Prop} {b : Bool} {gl pl wh : Nat → Nat}
variable {f_walls f_placed f_count f_byEffort f_best f_turns : Int32} {a_waysOut a_placeOf a_goalOf a_stepTo a_toGoal a_distance a_who a_cost a_origin a_closed a_onward a_queue a_cellNow a_cellNext a_walkNow a_walkNext a_used a_flowFrom a_flowTo a_cameBy a_line : Nat → Int32}
/-- no clash of the two with the third one at turn j -/
def wy_F (q : Nat → Nat) (L : Nat) (z : Nat → Nat) (j : Nat) : Prop :=
  mo_cl (wy_s q L j % 12) (z j) (wy_s q L (j + 1) % 12) (z (j + 1)) ∧ mo_cl (wy_s q L j / 12) (z j) (wy_s q L (j + 1) / 12) (z (j + 1))
theorem xw_third23 {post : Int32 → Prop} {K : Nat → Nat} {q : Nat → Nat} {L u g v gt c : Nat} (ok : cg_OK tg op) (hst : cg_ST tg a_stepTo) (hv : v < 3) (hgt : gt < 12) (hc : c < 12) (htg : ∀ c, c < 12 → a_toGoal (12 * v + c) = nI (cg_td tg gt c)) (hf : cg_td tg gt c < 1000000)
    (hL : L ≤ 432) (hg : g < 144) (hP : wy_P (mo_E tg b 2) K a_onward q L u g) (h1 : post 1) (h0 : (∀ j, wy_F q L (cl_z tg gt c) j) → post 0) :
    ∀ m i n, i + m = 441 → m < n → i ≤ 440 → (∀ j, j < i → wy_F q L (cl_z tg gt c) j) → wX_clashWithThird_23 post (nI v) (nI g) f_walls f_placed f_count f_byEffort f_best f_turns a_waysOut a_placeOf a_goalOf a_stepTo a_toGoal a_distance a_who a_cost a_origin a_closed a_onward a_queue a_cellNow a_cellNext a_walkNow a_walkNext a_used a_flowFrom a_flowTo a_cameBy a_line n (nI (wy_s q L i)) (nI (cl_z tg gt c i)) (nI i) := by
  intro m
  induction m with
  | zero => intro i n hm; omega
  | succ m ih =>
    intro i n hm hn hi hj
    obtain ⟨n, rfl⟩ : ∃ m, n = m + 1 := ⟨n - 1, by omega⟩
    have l1 := wy_s_lt hP hg i
    have l2 := wy_s_lt hP hg (i + 1)
    have l3 := cl_z_lt (g := gt) ok hc i
    have l4 := cl_z_lt (g := gt) ok hc (i + 1)
    have hfix : cl_z tg gt c (i + 1) = cl_z tg gt c i → ∀ j, cl_z tg gt c (i + j) = cl_z tg gt c i := by
      intro e j
      induction j with
      | zero => rfl
      | succ j ihj =>
        show cg_na tg gt (cl_z tg gt c (i + j)) = _
        rw [ihj]; exact e
    refine pk_le 1740 i (fun _ => by omega) (fun _ => ?_)
    refine xw_nextAlone ok hst hv hgt l3 htg ⟨vp_in_nI (by omega) (by omega), nm_r (e' := nI (wy_s q L (i + 1))) (by rw [nI_clamp (show wy_s q L i < 2 ^ 31 by omega)]; exact wy_s_o hP i) ⟨by decide, by decide, ?_⟩⟩
    rw [xb_r 12 (show wy_s q L i < 2 ^ 31 by omega) (by omega), xb_r 12 (show wy_s q L (i + 1) < 2 ^ 31 by omega) (by omega), xb_d 12 (show wy_s q L i < 2 ^ 31 by omega) (by omega), xb_d 12 (show wy_s q L (i + 1) < 2 ^ 31 by omega) (by omega)]
    refine xw_meet (by omega) (by omega) (by omega) (show cl_z tg gt c (i + 1) < 2 ^ 31 by omega) (fun _ => ⟨by decide, by decide, ?_⟩) (fun f1 => ⟨by decide, by decide, ?_⟩)
    · exact xw_meet (by omega) (by omega) (by omega) (show cl_z tg gt c (i + 1) < 2 ^ 31 by omega) (fun _ => br_f (by decide) h1) (fun _ => br_f (by decide) h1)
    · refine xw_meet (by omega) (by omega) (by omega) (show cl_z tg gt c (i + 1) < 2 ^ 31 by omega) (fun _ => br_t rfl (br_f (by decide) h1)) (fun f2 => br_t rfl (br_t rfl ?_))
      have hj' : ∀ j, j < i + 1 → wy_F q L (cl_z tg gt c) j := fun j hlt => by
        rcases Nat.decEq j i with e | rfl
        · exact hj j (by omega)
        · exact ⟨f1, f2⟩
      have go : (¬ wy_s q L i = g ∨ ¬ cl_z tg gt c (i + 1) = cl_z tg gt c i) → wX_clashWithThird_23 post (nI v) (nI g) f_walls f_placed f_count f_byEffort f_best f_turns a_waysOut a_placeOf a_goalOf a_stepTo a_toGoal a_distance a_who a_cost a_origin a_closed a_onward a_queue a_cellNow a_cellNext a_walkNow a_walkNext a_used a_flowFrom a_flowTo a_cameBy a_line n (nI (wy_s q L (i + 1))) (nI (cl_z tg gt c (i + 1))) (nI (i + 1)) := fun hne => by
        refine ih (i + 1) n (by omega) (by omega) ?_ hj'
        rcases Nat.lt_or_ge i 440 with z | z
        · omega
        · exfalso
          rcases hne with e | e
          · exact e (wy_s_g hP (by omega))
          · have t1 := cl_z_td ok hgt hc hf i
            have t2 := cl_z_td ok hgt hc hf (i + 1)
            have t3 := cg_td_le ok hgt c
            exact e ((cg_td_z ok hgt (by omega)).trans (cg_td_z ok hgt (by omega)).symm)
      refine pk_eq (wy_s q L i) g (fun e1 => pk_eq (cl_z tg gt c (i + 1)) (cl_z tg gt c i) (fun e2 => h0 fun j => ?_) (fun e2 => nm_r (nI_1 i) (go (Or.inr e2)))) (fun e1 => nm_r (nI_1 i) (go (Or.inl e1)))
      rcases Nat.lt_or_ge j (i + 1) with z | z
      · exact hj' j z
      · have hLi := wy_s_i hP e1
        obtain ⟨d, rfl⟩ : ∃ d, j = i + d := ⟨j - i, by omega⟩
        have a1 := hfix e2 d
        have a2 := hfix e2 (d + 1)
        have b1 : wy_s q L (i + d) = g := wy_s_g hP (by omega)
        have b2 : wy_s q L (i + d + 1) = g := wy_s_g hP (by omega)
        have b3 : wy_s q L (i + 1) = g := wy_s_g hP (by omega)
        unfold wy_F
        rw [a1, show i + d + 1 = i + (d + 1) from rfl, a2]
        rw [show i + (d + 1) = i + d + 1 from rfl, b1, b2]
        replace f1 : mo_cl (wy_s q L i % 12) (cl_z tg gt c i) (wy_s q L (i + 1) % 12) (cl_z tg gt c (i + 1)) := f1
        replace f2 : mo_cl (wy_s q L i / 12) (cl_z tg gt c i) (wy_s q L (i + 1) / 12) (cl_z tg gt c (i + 1)) := f2
        rw [e1, b3, e2] at f1 f2
        exact ⟨f1, f2⟩
theorem xw_clashWithThird {post : Int32 → Prop} {K : Nat → Nat} {q : Nat → Nat} {L v : Nat} (ok : cg_OK tg op) (hst : cg_ST tg a_stepTo) (hw : tm_W 2 wh a_who) (hpl : ∀ w, w < 3 → a_placeOf w = nI (pl w) ∧ pl w < 12) (hgl : ∀ w, w < 3 → a_goalOf w = nI (gl w) ∧ gl w < 12) (hv : v < 3) (htg : ∀ c, c < 12 → a_toGoal (12 * v + c) = nI (cg_td tg (gl v) c)) (hf : cg_td tg (gl v) (pl v) < 1000000)
    (hL : L ≤ 432) (hP : wy_P (mo_E tg b 2) K a_onward q L (tm_s 2 fun i => pl (wh i)) (tm_s 2 fun i => gl (wh i))) (h1 : post 1) (h0 : (∀ j, wy_F q L (cl_z tg (gl v) (pl v)) j) → post 0) : wpX_clashWithThird post (f_walls, f_placed, nI 2, f_byEffort, f_best, f_turns, a_waysOut, a_placeOf, a_goalOf, a_stepTo, a_toGoal, a_distance, a_who, a_cost, a_origin, a_closed, a_onward, a_queue, a_cellNow, a_cellNext, a_walkNow, a_walkNext, a_used, a_flowFrom, a_flowTo, a_cameBy, a_line) (nI v) := by
  refine xw_stateP (Or.inr (Or.inl rfl)) hw hpl (xw_stateG (Or.inr (Or.inl rfl)) hw hgl ⟨vp_in_nI hv (by omega), nm_r (e' := nI (pl v)) (by rw [nI_clamp (by omega)]; exact (hpl v hv).1) ⟨442, ?_⟩⟩)
  have lg : tm_s 2 (fun i => gl (wh i)) < 144 := tm_s_lt (Or.inr (Or.inl rfl)) fun i hi => (hgl _ (hw i hi).2).2
  have e0 : wy_s q L 0 = tm_s 2 fun i => pl (wh i) := (if_pos (Nat.zero_le _)).trans hP.1
  rw [← e0]
  exact xw_third23 (post := post) ok hst hv (hgl v hv).2 (hpl v hv).2 htg hf hL lg hP h1 h0 441 0 442 (by omega) (by omega) (by omega) (fun j hj => by omega)
end
end
section
/-- the answer to 'how much is needed from st to g': the least cost, or -2 -/
def an_P (E : Nat → Nat → Nat → Prop) (st g : Nat) (r : Int32) : Prop := (∃ c, gr_L E c st g ∧ r = nI c) ∨ (r = -2 ∧ ∀ c, ¬ gr_R E c st g)
theorem an_u {E : Nat → Nat → Nat → Prop} {st g : Nat} {r r' : Int32} (h : an_P E st g r) (h' : an_P E st g r') : r = r' := by
  rcases h with ⟨c, l, rfl⟩ | ⟨rfl, n⟩
  · rcases h' with ⟨c', l', rfl⟩ | ⟨_, n'⟩
    · rw [gr_lu l l']
    · exact absurd l.1 (n' c)
  · rcases h' with ⟨c', l', _⟩ | ⟨rfl, _⟩
    · exact absurd l'.1 (n c')
    · rfl
theorem tm_s_c {k : Nat} {p q : Nat → Nat} (hk : mo_K k) (h : ∀ i, i < k → p i = q i) : tm_s k p = tm_s k q := by
  rcases hk with rfl | rfl | rfl
  · exact h 0 (by omega)
  · show p 0 + 12 * p 1 = q 0 + 12 * q 1
    rw [h 0 (by omega), h 1 (by omega)]
  · show p 0 + 12 * p 1 + 144 * p 2 = q 0 + 12 * q 1 + 144 * q 2
    rw [h 0 (by omega), h 1 (by omega), h 2 (by omega)]
theorem as_e1 (b : Bool) {x x' n : Nat} (h : x ≤ 11) (h' : x' = x - 1) (hn : n = x - x') (h0 : as_hv b x x ≠ 0) : as_hv b x x = (if b = true then n else 1) + as_hv b x' x' := by
  have qa : ¬ x = 1000000 := by omega
  have qb : ¬ x' = 1000000 := by omega
  unfold as_hv at h0 ⊢
  rw [if_neg qa] at h0 ⊢
  rw [if_neg qb]
  cases b <;> simp only [if_true, if_false, Bool.false_eq_true] at * <;> omega
theorem as_e2 (b : Bool) {x x' n y y' m : Nat} (h : x ≤ 11) (h' : x' = x - 1) (hn : n = x - x') (g : y ≤ 11) (g' : y' = y - 1) (gn : m = y - y') (h0 : as_hv b (as_mx x y) (x + y) ≠ 0) :
    as_hv b (as_mx x y) (x + y) = (if b = true then n + m else 1) + as_hv b (as_mx x' y') (x' + y') := by
  have e1 : as_mx x y ≤ 11 ∧ x ≤ as_mx x y ∧ y ≤ as_mx x y ∧ as_mx x' y' = as_mx x y - 1 := by
    unfold as_mx
    repeat' split
    all_goals omega
  generalize as_mx x y = p at *
  generalize as_mx x' y' = p' at *
  have qa : ¬ p = 1000000 := by omega
  have qb : ¬ p' = 1000000 := by omega
  unfold as_hv at h0 ⊢
  rw [if_neg qa] at h0 ⊢
  rw [if_neg qb]
  cases b <;> simp only [if_true, if_false, Bool.false_eq_true] at * <;> omega
theorem as_e3 (b : Bool) {x x' n y y' m z z' l : Nat} (h : x ≤ 11) (h' : x' = x - 1) (hn : n = x - x') (g : y ≤ 11) (g' : y' = y - 1) (gn : m = y - y') (f : z ≤ 11) (f' : z' = z - 1) (fn : l = z - z')
    (h0 : as_hv b (as_mx (as_mx x y) z) (x + y + z) ≠ 0) : as_hv b (as_mx (as_mx x y) z) (x + y + z) = (if b = true then n + m + l else 1) + as_hv b (as_mx (as_mx x' y') z') (x' + y' + z') := by
  have e1 : as_mx x y ≤ 11 ∧ x ≤ as_mx x y ∧ y ≤ as_mx x y ∧ as_mx x' y' = as_mx x y - 1 := by
    unfold as_mx
    repeat' split
    all_goals omega
  generalize as_mx x y = p at *
  generalize as_mx x' y' = p' at *
  have e2 : as_mx p z ≤ 11 ∧ p ≤ as_mx p z ∧ z ≤ as_mx p z ∧ as_mx p' z' = as_mx p z - 1 := by
    unfold as_mx
    repeat' split
    all_goals omega
  generalize as_mx p z = o at *
  generalize as_mx p' z' = o' at *
  have qa : ¬ o = 1000000 := by omega
  have qb : ¬ o' = 1000000 := by omega
  unfold as_hv at h0 ⊢
  rw [if_neg qa] at h0 ⊢
  rw [if_neg qb]
  cases b <;> simp only [if_true, if_false, Bool.false_eq_true] at * <;> omega
/-- a guess below NEVER: all distances are finite; a guess of 0: all are 0 -/
theorem as_fin (b : Bool) {k x y z : Nat} (hk : mo_K k) (hx : x ≤ 11 ∨ x = 1000000) (hy : 2 ≤ k → y ≤ 11 ∨ y = 1000000) (hz : 3 ≤ k → z ≤ 11 ∨ z = 1000000) (h : as_hv b (as_mo k x y z) (as_su k x y z) < 1000000) :
    (x ≤ 11 ∧ (2 ≤ k → y ≤ 11) ∧ (3 ≤ k → z ≤ 11)) ∧ (as_hv b (as_mo k x y z) (as_su k x y z) = 0 → x = 0 ∧ (2 ≤ k → y = 0) ∧ (3 ≤ k → z = 0)) := by
  rcases hk with rfl | rfl | rfl
  · replace h : as_hv b x x < 1000000 := h
    show _ ∧ (as_hv b x x = 0 → _)
    unfold as_hv at *
    by_cases q : x = 1000000
    · rw [if_pos q] at h; omega
    · rw [if_neg q]
      refine ⟨⟨by omega, fun z => by omega, fun z => by omega⟩, fun e => ⟨?_, fun z => by omega, fun z => by omega⟩⟩
      cases b <;> simp only [if_true, if_false, Bool.false_eq_true] at e <;> omega
  · have hy := hy (by omega)
    replace h : as_hv b (as_mx x y) (x + y) < 1000000 := h
    show _ ∧ (as_hv b (as_mx x y) (x + y) = 0 → _)
    have e1 : (as_mx x y = 1000000 → x = 1000000 ∨ y = 1000000) ∧ x ≤ as_mx x y ∧ y ≤ as_mx x y ∧ as_mx x y ≤ 1000000 := by
      unfold as_mx
      split <;> omega
    generalize as_mx x y = p at *
    unfold as_hv at *
    by_cases q : p = 1000000
    · rw [if_pos q] at h; omega
    · rw [if_neg q]
      refine ⟨⟨by omega, fun z => by omega, fun z => by omega⟩, fun e => ?_⟩
      cases b <;> simp only [if_true, if_false, Bool.false_eq_true] at e <;> exact ⟨by omega, fun z => by omega, fun z => by omega⟩
  · have hy := hy (by omega)
    have hz := hz (by omega)
    replace h : as_hv b (as_mx (as_mx x y) z) (x + y + z) < 1000000 := h
    show _ ∧ (as_hv b (as_mx (as_mx x y) z) (x + y + z) = 0 → _)
    have e1 : x ≤ as_mx x y ∧ y ≤ as_mx x y ∧ as_mx x y ≤ 1000000 := by
      unfold as_mx
      split <;> omega
    generalize as_mx x y = p at *
    have e2 : p ≤ as_mx p z ∧ z ≤ as_mx p z ∧ as_mx p z ≤ 1000000 := by
      unfold as_mx
      split <;> omega
    generalize as_mx p z = o at *
    unfold as_hv at *
    by_cases q : o = 1000000
    · rw [if_pos q] at h; omega
    · rw [if_neg q]
      refine ⟨⟨by omega, fun z => by omega, fun z => by omega⟩, fun e => ?_⟩
      cases b <;> simp only [if_true, if_false, Bool.false_eq_true] at e <;> exact ⟨by omega, fun z => by omega, fun z => by omega⟩
section
variable {tg : Nat → Nat → Option Nat} {op : Nat → Prop} {b : Bool} {k : Nat} {gs ps : Nat → Nat}
theorem cl_mv (g c : Nat) : mo_mv tg c (cg_na tg g c) := by
  rcases cg_nx_c tg (cg_td tg g) c 4 (by omega) with ⟨a, _⟩ | ⟨d, hd, ht, _⟩
  · exact Or.inl a
  · exact Or.inr ⟨d, hd, ht⟩
/-- one walker's turn, alone: its distance falls by what its step counts -/
theorem cl_step (ok : cg_OK tg op) {g c : Nat} (hg : g < 12) (hc : c < 12) (hf : cg_td tg g c ≤ 11) : cg_td tg g (cg_na tg g c) = cg_td tg g c - 1 ∧ mo_ne (cg_na tg g c) c = cg_td tg g c - cg_td tg g (cg_na tg g c) := by
  rcases Nat.eq_zero_or_pos (cg_td tg g c) with z | z
  · have e := cg_td_z ok hg z
    subst e
    rw [cg_na_0 ok hg, mo_ne_s]
    omega
  · obtain ⟨n, hn⟩ : ∃ n, cg_td tg g c = n + 1 := ⟨cg_td tg g c - 1, by omega⟩
    have h := (cg_na_s ok hg hc hn (by omega)).1
    rw [mo_ne_n (fun e => by rw [e] at h; omega)]
    omega
theorem pl_apart (hk : mo_K k) (ok : cg_OK tg op) (hgs : ∀ i, i < k → gs i < 12) (hps : ∀ i, i < k → ps i < 12)
    (hcl : ∀ t, t < 12 → ∀ i j, i < j → j < k → mo_cl (cl_z tg (gs i) (ps i) t) (cl_z tg (gs j) (ps j) t) (cl_z tg (gs i) (ps i) (t + 1)) (cl_z tg (gs j) (ps j) (t + 1)))
    (hf : as_h tg gs b k (tm_s k ps) < 1000000) : gr_L (mo_E tg b k) (as_h tg gs b k (tm_s k ps)) (tm_s k ps) (tm_s k gs) := by
  have dg := tm_s_d hk hgs
  have dp := tm_s_d hk hps
  have H := as_H_ok (b := b) hk ok hgs dg.1 dg.2.1 dg.2.2
  have h0k : 0 < k := by rcases hk with e | e | e <;> omega
  have fin : ∀ i, i < k → cg_td tg (gs i) (ps i) ≤ 11 := by
    have hh := hf
    unfold as_h at hh
    rw [dp.1] at hh
    have q := (as_fin b hk (cg_td_le ok (hgs 0 h0k) _) (fun z => cg_td_le ok (hgs 1 (by omega)) _) (fun z => cg_td_le ok (hgs 2 (by omega)) _) hh).1
    intro i hi
    have : i = 0 ∨ i = 1 ∨ i = 2 := by rcases hk with e | e | e <;> omega
    rcases this with rfl | rfl | rfl
    · exact q.1
    · have := q.2.1 (by omega)
      rw [dp.2.1 (by omega)] at this
      exact this
    · have := q.2.2 (by omega)
      rw [dp.2.2 (by omega)] at this
      exact this
  have hz : ∀ t i, i < k → cl_z tg (gs i) (ps i) t < 12 := fun t i hi => cl_z_lt ok (hps i hi) t
  have htd : ∀ t i, i < k → cg_td tg (gs i) (cl_z tg (gs i) (ps i) t) = cg_td tg (gs i) (ps i) - t := fun t i hi => cl_z_td ok (hgs i hi) (hps i hi) (by have := fin i hi; omega) t
  have upper : ∀ m t, t + m = 12 → gr_R (mo_E tg b k) (as_h tg gs b k (tm_s k fun i => cl_z tg (gs i) (ps i) t)) (tm_s k fun i => cl_z tg (gs i) (ps i) t) (tm_s k gs) := by
    intro m
    induction m with
    | zero =>
      intro t ht
      have e : (tm_s k fun i => cl_z tg (gs i) (ps i) t) = tm_s k gs := tm_s_c hk fun i hi => cg_td_z ok (hgs i hi) (by rw [htd t i hi]; have := fin i hi; omega)
      rw [e, H.2.2.2.2.2.2]
      exact gr_r0 _
    | succ m ih =>
      intro t ht
      have ih := ih (t + 1) (by omega)
      have d0 := tm_s_d hk (hz t)
      have d1 := tm_s_d hk (hz (t + 1))
      have l0 := tm_s_lt hk (hz t)
      have l1 := tm_s_lt hk (hz (t + 1))
      have hcl := hcl t (by omega)
      have st := fun i (hi : i < k) => cl_step ok (hgs i hi) (hz t i hi) (by rw [htd t i hi]; have := fin i hi; omega)
      have fi := fun i (hi : i < k) => (show cg_td tg (gs i) (cl_z tg (gs i) (ps i) t) ≤ 11 by rw [htd t i hi]; have := fin i hi; omega)
      have key : as_h tg gs b k (tm_s k fun i => cl_z tg (gs i) (ps i) t) = 0 ∨
          (mo_E tg b k (tm_s k fun i => cl_z tg (gs i) (ps i) t) (tm_s k fun i => cl_z tg (gs i) (ps i) (t + 1)) (mo_wt b k (tm_s k fun i => cl_z tg (gs i) (ps i) t) (tm_s k fun i => cl_z tg (gs i) (ps i) (t + 1))) ∧
          as_h tg gs b k (tm_s k fun i => cl_z tg (gs i) (ps i) t) = mo_wt b k (tm_s k fun i => cl_z tg (gs i) (ps i) t) (tm_s k fun i => cl_z tg (gs i) (ps i) (t + 1)) + as_h tg gs b k (tm_s k fun i => cl_z tg (gs i) (ps i) (t + 1))) := by
        rcases Nat.eq_zero_or_pos (as_h tg gs b k (tm_s k fun i => cl_z tg (gs i) (ps i) t)) with z | z
        · exact Or.inl z
        · right
          generalize (tm_s k fun i => cl_z tg (gs i) (ps i) t) = s at *
          generalize (tm_s k fun i => cl_z tg (gs i) (ps i) (t + 1)) = s' at *
          have mv : ∀ i, mo_mv tg (cl_z tg (gs i) (ps i) t) (cl_z tg (gs i) (ps i) (t + 1)) := fun i => cl_mv _ _
          refine ⟨⟨l0, ⟨l1, by rw [d0.1, d1.1]; exact mv 0, fun h2 => by rw [d0.1, d1.1, d0.2.1 h2, d1.2.1 h2]; exact ⟨mv 1, hcl 0 1 (by omega) (by omega)⟩, fun h3 => by rw [d0.1, d1.1, d0.2.1 (by omega), d1.2.1 (by omega), d0.2.2 h3, d1.2.2 h3]; exact ⟨mv 2, hcl 0 2 (by omega) (by omega), hcl 1 2 (by omega) (by omega)⟩⟩, rfl⟩, ?_⟩
          rcases hk with rfl | rfl | rfl
          · show as_hv b (cg_td tg (gs 0) (s % 12)) (cg_td tg (gs 0) (s % 12)) = (if b = true then mo_ne (s' % 12) (s % 12) else 1) + as_hv b (cg_td tg (gs 0) (s' % 12)) (cg_td tg (gs 0) (s' % 12))
            replace z : 0 < as_hv b (cg_td tg (gs 0) (s % 12)) (cg_td tg (gs 0) (s % 12)) := z
            rw [d0.1, d1.1] at *
            exact as_e1 b (fi 0 (by omega)) (st 0 (by omega)).1 (st 0 (by omega)).2 (by omega)
          · show as_hv b (as_mx (cg_td tg (gs 0) (s % 12)) (cg_td tg (gs 1) (s / 12 % 12))) (cg_td tg (gs 0) (s % 12) + cg_td tg (gs 1) (s / 12 % 12)) = (if b = true then mo_ne (s' % 12) (s % 12) + mo_ne (s' / 12 % 12) (s / 12 % 12) else 1) + as_hv b (as_mx (cg_td tg (gs 0) (s' % 12)) (cg_td tg (gs 1) (s' / 12 % 12))) (cg_td tg (gs 0) (s' % 12) + cg_td tg (gs 1) (s' / 12 % 12))
            replace z : 0 < as_hv b (as_mx (cg_td tg (gs 0) (s % 12)) (cg_td tg (gs 1) (s / 12 % 12))) (cg_td tg (gs 0) (s % 12) + cg_td tg (gs 1) (s / 12 % 12)) := z
            rw [d0.1, d0.2.1 (by omega)] at z
            rw [d0.1, d1.1, d0.2.1 (by omega), d1.2.1 (by omega)]
            exact as_e2 b (fi 0 (by omega)) (st 0 (by omega)).1 (st 0 (by omega)).2 (fi 1 (by omega)) (st 1 (by omega)).1 (st 1 (by omega)).2 (by omega)
          · show as_hv b (as_mx (as_mx (cg_td tg (gs 0) (s % 12)) (cg_td tg (gs 1) (s / 12 % 12))) (cg_td tg (gs 2) (s / 144 % 12))) (cg_td tg (gs 0) (s % 12) + cg_td tg (gs 1) (s / 12 % 12) + cg_td tg (gs 2) (s / 144 % 12)) =
              (if b = true then mo_ne (s' % 12) (s % 12) + mo_ne (s' / 12 % 12) (s / 12 % 12) + mo_ne (s' / 144 % 12) (s / 144 % 12) else 1) + as_hv b (as_mx (as_mx (cg_td tg (gs 0) (s' % 12)) (cg_td tg (gs 1) (s' / 12 % 12))) (cg_td tg (gs 2) (s' / 144 % 12))) (cg_td tg (gs 0) (s' % 12) + cg_td tg (gs 1) (s' / 12 % 12) + cg_td tg (gs 2) (s' / 144 % 12))
            replace z : 0 < as_hv b (as_mx (as_mx (cg_td tg (gs 0) (s % 12)) (cg_td tg (gs 1) (s / 12 % 12))) (cg_td tg (gs 2) (s / 144 % 12))) (cg_td tg (gs 0) (s % 12) + cg_td tg (gs 1) (s / 12 % 12) + cg_td tg (gs 2) (s / 144 % 12)) := z
            rw [d0.1, d0.2.1 (by omega), d0.2.2 (by omega)] at z
            rw [d0.1, d1.1, d0.2.1 (by omega), d1.2.1 (by omega), d0.2.2 (by omega), d1.2.2 (by omega)]
            exact as_e3 b (fi 0 (by omega)) (st 0 (by omega)).1 (st 0 (by omega)).2 (fi 1 (by omega)) (st 1 (by omega)).1 (st 1 (by omega)).2 (fi 2 (by omega)) (st 2 (by omega)).1 (st 2 (by omega)).2 (by omega)
      rcases key with z | ⟨e, h⟩
      · have e : (tm_s k fun i => cl_z tg (gs i) (ps i) t) = tm_s k gs := by
          have hh := z
          unfold as_h at hh
          have q := (as_fin b hk (cg_td_le ok (hgs 0 h0k) _) (fun z => cg_td_le ok (hgs 1 (by omega)) _) (fun z => cg_td_le ok (hgs 2 (by omega)) _) (by rw [hh]; omega)).2 hh
          refine mo_ext hk l0 (tm_s_lt hk hgs) ?_ (fun z => ?_) (fun z => ?_)
          · rw [dg.1]; exact cg_td_z ok (hgs 0 h0k) q.1
          · rw [dg.2.1 z]; exact cg_td_z ok (hgs 1 (by omega)) (q.2.1 z)
          · rw [dg.2.2 z]; exact cg_td_z ok (hgs 2 (by omega)) (q.2.2 z)
        rw [z, e]
        exact gr_r0 _
      · rw [h]
        exact gr_rc e ih
  refine ⟨upper 12 0 (by omega), fun c r => ?_⟩
  have := (as_hR H r).1
  rw [H.2.2.2.2.2.2] at this
  omega
end
end
section
theorem mo_cl_s {a b a' b' : Nat} (h : mo_cl a b a' b') : mo_cl b a b' a' := ⟨fun e => h.1 e.symm, fun e => h.2 ⟨e.2, e.1⟩⟩
/-- three walkers as two and one: cd joins, p and r part again -/
def pj_OK (tg : Nat → Nat → Option Nat) (cd : Nat → Nat → Nat) (p r : Nat → Nat) : Prop :=
  (∀ s s' z z', s < 144 → s' < 144 → z < 12 → z' < 12 → mo_M tg 2 s s' → mo_mv tg z z' → mo_cl (s % 12) z (s' % 12) z' → mo_cl (s / 12) z (s' / 12) z' → mo_M tg 3 (cd s z) (cd s' z')) ∧
  (∀ s s' z z', s < 144 → s' < 144 → z < 12 → z' < 12 → mo_ef 3 (cd s z) (cd s' z') = mo_ef 2 s s' + mo_ne z' z) ∧
  (∀ u u', mo_M tg 3 u u' → mo_M tg 2 (p u) (p u') ∧ mo_mv tg (r u) (r u')) ∧
  (∀ u u', mo_ef 3 u u' = mo_ef 2 (p u) (p u') + mo_ne (r u') (r u)) ∧
  (∀ u, p u < 144 ∧ r u < 12) ∧ (∀ s z, s < 144 → z < 12 → cd s z < 1728 ∧ p (cd s z) = s ∧ r (cd s z) = z)
def pj_c3 (s z : Nat) : Nat := s % 12 + 12 * (s / 12) + 144 * z
def pj_c5 (s z : Nat) : Nat := s % 12 + 12 * z + 144 * (s / 12)
def pj_c6 (s z : Nat) : Nat := z + 12 * (s % 12) + 144 * (s / 12)
def pj_p (x y : Nat) : Nat := x + 12 * y
theorem pj_pd {x y : Nat} (hx : x < 12) (hy : y < 12) : pj_p x y % 12 = x ∧ pj_p x y / 12 % 12 = y ∧ pj_p x y < 144 := by
  unfold pj_p
  exact ⟨by omega, by omega, by omega⟩
theorem pj_OK3 (tg : Nat → Nat → Option Nat) : pj_OK tg pj_c3 (fun u => pj_p (u % 12) (u / 12 % 12)) (fun u => u / 144 % 12) := by
  have dig : ∀ s z, s < 144 → z < 12 → pj_c3 s z % 12 = s % 12 ∧ pj_c3 s z / 12 % 12 = s / 12 ∧ pj_c3 s z / 144 % 12 = z ∧ pj_c3 s z < 1728 := fun s z hs hz => mo_dig (by omega) (by omega) hz
  refine ⟨fun s s' z z' hs hs' hz hz' m mz c1 c2 => ?_, fun s s' z z' hs hs' hz hz' => ?_, fun u u' m => ?_, fun u u' => ?_, fun u => ⟨(pj_pd (by omega) (by omega)).2.2, Nat.mod_lt _ (by omega)⟩, fun s z hs hz => ?_⟩
  · obtain ⟨a0, a1, a2, a3⟩ := dig s z hs hz
    obtain ⟨b0, b1, b2, b3⟩ := dig s' z' hs' hz'
    obtain ⟨_, m0, m1, _⟩ := m
    obtain ⟨m1, c01⟩ := m1 (by omega)
    rw [Nat.mod_eq_of_lt (show s / 12 < 12 by omega), Nat.mod_eq_of_lt (show s' / 12 < 12 by omega)] at m1 c01
    exact mo_M3_to b3 ⟨m0, m1, mz, c01, c1, c2⟩ a0 a1 a2 b0 b1 b2
  · obtain ⟨a0, a1, a2, a3⟩ := dig s z hs hz
    obtain ⟨b0, b1, b2, b3⟩ := dig s' z' hs' hz'
    rw [mo_ef3, mo_ef2, a0, a1, a2, b0, b1, b2, Nat.mod_eq_of_lt (show s / 12 < 12 by omega), Nat.mod_eq_of_lt (show s' / 12 < 12 by omega)]
  · obtain ⟨m0, m1, m2, c01, c02, c12⟩ := mo_M3_of m
    obtain ⟨a0, a1, a2⟩ := pj_pd (x := u % 12) (y := u / 12 % 12) (by omega) (by omega)
    obtain ⟨b0, b1, b2⟩ := pj_pd (x := u' % 12) (y := u' / 12 % 12) (by omega) (by omega)
    exact ⟨⟨b2, by rw [a0, b0]; exact m0, fun _ => by rw [a0, b0, a1, b1]; exact ⟨m1, c01⟩, fun z => by omega⟩, m2⟩
  · obtain ⟨a0, a1, a2⟩ := pj_pd (x := u % 12) (y := u / 12 % 12) (by omega) (by omega)
    obtain ⟨b0, b1, b2⟩ := pj_pd (x := u' % 12) (y := u' / 12 % 12) (by omega) (by omega)
    dsimp only
    rw [mo_ef3, mo_ef2, a0, a1, b0, b1]
  · obtain ⟨a0, a1, a2, a3⟩ := dig s z hs hz
    dsimp only
    rw [a0, a1, a2]
    exact ⟨a3, by unfold pj_p; omega, rfl⟩
theorem pj_OK5 (tg : Nat → Nat → Option Nat) : pj_OK tg pj_c5 (fun u => pj_p (u % 12) (u / 144 % 12)) (fun u => u / 12 % 12) := by
  have dig : ∀ s z, s < 144 → z < 12 → pj_c5 s z % 12 = s % 12 ∧ pj_c5 s z / 12 % 12 = z ∧ pj_c5 s z / 144 % 12 = s / 12 ∧ pj_c5 s z < 1728 := fun s z hs hz => mo_dig (by omega) hz (by omega)
  refine ⟨fun s s' z z' hs hs' hz hz' m mz c1 c2 => ?_, fun s s' z z' hs hs' hz hz' => ?_, fun u u' m => ?_, fun u u' => ?_, fun u => ⟨(pj_pd (by omega) (by omega)).2.2, Nat.mod_lt _ (by omega)⟩, fun s z hs hz => ?_⟩
  · obtain ⟨a0, a1, a2, a3⟩ := dig s z hs hz
    obtain ⟨b0, b1, b2, b3⟩ := dig s' z' hs' hz'
    obtain ⟨_, m0, m1, _⟩ := m
    obtain ⟨m1, c01⟩ := m1 (by omega)
    rw [Nat.mod_eq_of_lt (show s / 12 < 12 by omega), Nat.mod_eq_of_lt (show s' / 12 < 12 by omega)] at m1 c01
    exact mo_M3_to b3 ⟨m0, mz, m1, c1, c01, mo_cl_s c2⟩ a0 a1 a2 b0 b1 b2
  · obtain ⟨a0, a1, a2, a3⟩ := dig s z hs hz
    obtain ⟨b0, b1, b2, b3⟩ := dig s' z' hs' hz'
    rw [mo_ef3, mo_ef2, a0, a1, a2, b0, b1, b2, Nat.mod_eq_of_lt (show s / 12 < 12 by omega), Nat.mod_eq_of_lt (show s' / 12 < 12 by omega)]
    omega
  · obtain ⟨m0, m1, m2, c01, c02, c12⟩ := mo_M3_of m
    obtain ⟨a0, a1, a2⟩ := pj_pd (x := u % 12) (y := u / 144 % 12) (by omega) (by omega)
    obtain ⟨b0, b1, b2⟩ := pj_pd (x := u' % 12) (y := u' / 144 % 12) (by omega) (by omega)
    exact ⟨⟨b2, by rw [a0, b0]; exact m0, fun _ => by rw [a0, b0, a1, b1]; exact ⟨m2, c02⟩, fun z => by omega⟩, m1⟩
  · obtain ⟨a0, a1, a2⟩ := pj_pd (x := u % 12) (y := u / 144 % 12) (by omega) (by omega)
    obtain ⟨b0, b1, b2⟩ := pj_pd (x := u' % 12) (y := u' / 144 % 12) (by omega) (by omega)
    dsimp only
    rw [mo_ef3, mo_ef2, a0, a1, b0, b1]
    omega
  · obtain ⟨a0, a1, a2, a3⟩ := dig s z hs hz
    dsimp only
    rw [a0, a1, a2]
    exact ⟨a3, by unfold pj_p; omega, rfl⟩
theorem pj_OK6 (tg : Nat → Nat → Option Nat) : pj_OK tg pj_c6 (fun u => pj_p (u / 12 % 12) (u / 144 % 12)) (fun u => u % 12) := by
  have dig : ∀ s z, s < 144 → z < 12 → pj_c6 s z % 12 = z ∧ pj_c6 s z / 12 % 12 = s % 12 ∧ pj_c6 s z / 144 % 12 = s / 12 ∧ pj_c6 s z < 1728 := fun s z hs hz => mo_dig hz (by omega) (by omega)
  refine ⟨fun s s' z z' hs hs' hz hz' m mz c1 c2 => ?_, fun s s' z z' hs hs' hz hz' => ?_, fun u u' m => ?_, fun u u' => ?_, fun u => ⟨(pj_pd (by omega) (by omega)).2.2, Nat.mod_lt _ (by omega)⟩, fun s z hs hz => ?_⟩
  · obtain ⟨a0, a1, a2, a3⟩ := dig s z hs hz
    obtain ⟨b0, b1, b2, b3⟩ := dig s' z' hs' hz'
    obtain ⟨_, m0, m1, _⟩ := m
    obtain ⟨m1, c01⟩ := m1 (by omega)
    rw [Nat.mod_eq_of_lt (show s / 12 < 12 by omega), Nat.mod_eq_of_lt (show s' / 12 < 12 by omega)] at m1 c01
    exact mo_M3_to b3 ⟨mz, m0, m1, mo_cl_s c1, mo_cl_s c2, c01⟩ a0 a1 a2 b0 b1 b2
  · obtain ⟨a0, a1, a2, a3⟩ := dig s z hs hz
    obtain ⟨b0, b1, b2, b3⟩ := dig s' z' hs' hz'
    rw [mo_ef3, mo_ef2, a0, a1, a2, b0, b1, b2, Nat.mod_eq_of_lt (show s / 12 < 12 by omega), Nat.mod_eq_of_lt (show s' / 12 < 12 by omega)]
    omega
  · obtain ⟨m0, m1, m2, c01, c02, c12⟩ := mo_M3_of m
    obtain ⟨a0, a1, a2⟩ := pj_pd (x := u / 12 % 12) (y := u / 144 % 12) (by omega) (by omega)
    obtain ⟨b0, b1, b2⟩ := pj_pd (x := u' / 12 % 12) (y := u' / 144 % 12) (by omega) (by omega)
    exact ⟨⟨b2, by rw [a0, b0]; exact m1, fun _ => by rw [a0, b0, a1, b1]; exact ⟨m2, c12⟩, fun z => by omega⟩, m0⟩
  · obtain ⟨a0, a1, a2⟩ := pj_pd (x := u / 12 % 12) (y := u / 144 % 12) (by omega) (by omega)
    obtain ⟨b0, b1, b2⟩ := pj_pd (x := u' / 12 % 12) (y := u' / 144 % 12) (by omega) (by omega)
    dsimp only
    rw [mo_ef3, mo_ef2, a0, a1, b0, b1]
    omega
  · obtain ⟨a0, a1, a2, a3⟩ := dig s z hs hz
    dsimp only
    rw [a0, a1, a2]
    exact ⟨a3, by unfold pj_p; omega, rfl⟩
section
variable {tg : Nat → Nat → Option Nat} {op : Nat → Prop} {b : Bool} {cd : Nat → Nat → Nat} {p r : Nat → Nat}
theorem pj_proj (J : pj_OK tg cd p r) (ok : cg_OK tg op) {gt : Nat} (hgt : gt < 12) {c u t : Nat} (h : gr_R (mo_E tg b 3) c u t) :
    ∃ c1 c2, gr_R (mo_E tg b 2) c1 (p u) (p t) ∧ cg_td tg gt (r u) ≤ cg_td tg gt (r t) + c2 ∧ (b = true → c = c1 + c2) ∧ (b = false → c1 = c ∧ c2 = c) := by
  obtain ⟨j1, j2, j3, j4, j5, j6⟩ := J
  refine gr_ind (P := fun c t => ∃ c1 c2, gr_R (mo_E tg b 2) c1 (p u) (p t) ∧ cg_td tg gt (r u) ≤ cg_td tg gt (r t) + c2 ∧ (b = true → c = c1 + c2) ∧ (b = false → c1 = c ∧ c2 = c)) ⟨0, 0, gr_r0 _, by omega, fun _ => rfl, fun _ => ⟨rfl, rfl⟩⟩ ?_ h
  rintro c x y w _ ⟨c1, c2, h1, h2, h3, h4⟩ ⟨_, m, rfl⟩
  obtain ⟨m2, mz⟩ := j3 x y m
  have hP := as_mvP ok hgt (j5 x).2 mz
  have e2 : mo_E tg b 2 (p x) (p y) (mo_wt b 2 (p x) (p y)) := ⟨(j5 x).1, m2, rfl⟩
  cases b with
  | false => exact ⟨c1 + 1, c2 + 1, gr_rs h1 e2, by have := hP.1; have := hP.2.2.2.2; omega, (fun z => nomatch z), fun _ => ⟨by have := (h4 rfl).1; show c1 + 1 = c + 1; omega, by have := (h4 rfl).2; show c2 + 1 = c + 1; omega⟩⟩
  | true =>
    refine ⟨c1 + mo_ef 2 (p x) (p y), c2 + mo_ne (r y) (r x), gr_rs h1 e2, by have := hP.1; omega, fun _ => ?_, fun z => by cases z⟩
    show c + mo_ef 3 x y = _
    rw [j4, h3 rfl]
    omega
theorem pl_nopair (J : pj_OK tg cd p r) (ok : cg_OK tg op) {st g z0 gt : Nat} (hst : st < 144) (hg : g < 144) (hz : z0 < 12) (hgt : gt < 12) (hn : ∀ c, ¬ gr_R (mo_E tg b 2) c st g) (c : Nat) : ¬ gr_R (mo_E tg b 3) c (cd st z0) (cd g gt) := by
  intro h
  obtain ⟨c1, c2, h1, _⟩ := pj_proj J ok hgt h
  rw [(J.2.2.2.2.2 st z0 hst hz).2.1, (J.2.2.2.2.2 g gt hg hgt).2.1] at h1
  exact hn c1 h1
theorem pl_joint (J : pj_OK tg cd p r) (ok : cg_OK tg op) {K : Nat → Nat} {ow : Nat → Int32} {q : Nat → Nat} {L st g z0 gt : Nat} (hP : wy_P (mo_E tg b 2) K ow q L st g) (hl : gr_L (mo_E tg b 2) (K g) st g) (hK : K st = 0) (hst : st < 144) (hg : mo_V 2 g) (hz : z0 < 12) (hgt : gt < 12)
    (hf : cg_td tg gt z0 ≤ 11) (hF : ∀ j, wy_F q L (cl_z tg gt z0) j) : gr_L (mo_E tg b 3) (if b = true then K g + cg_td tg gt z0 else if K g ≤ cg_td tg gt z0 then cg_td tg gt z0 else K g) (cd st z0) (cd g gt) := by
  have lg : g < 144 := hg.1
  have lz : ∀ j, cl_z tg gt z0 j < 12 := fun j => cl_z_lt ok hz j
  have ls : ∀ j, wy_s q L j < 144 := fun j => wy_s_lt hP lg j
  have td : ∀ j, cg_td tg gt (cl_z tg gt z0 j) = cg_td tg gt z0 - j := fun j => cl_z_td ok hgt hz (by omega) j
  -- the pair's part of turn j
  have pair : ∀ j, mo_M tg 2 (wy_s q L j) (wy_s q L (j + 1)) ∧ K (wy_s q L j) ≤ K g ∧ ((j < L ∧ K (wy_s q L j) + mo_wt b 2 (wy_s q L j) (wy_s q L (j + 1)) = K (wy_s q L (j + 1)) ∧ K (wy_s q L (j + 1)) ≤ K g) ∨ (L ≤ j ∧ wy_s q L j = g ∧ wy_s q L (j + 1) = g)) := by
    intro j
    rcases Nat.lt_or_ge j L with z | z
    · obtain ⟨w, he, hw, _⟩ := hP.2.2.1 j z
      have e1 : wy_s q L j = q j := if_pos (by omega)
      have e2 : wy_s q L (j + 1) = q (j + 1) := if_pos (by omega)
      have m1 := wy_mono2 hP (L - j) j (by omega)
      have m2 := wy_mono2 hP (L - (j + 1)) (j + 1) (by omega)
      rw [e1, e2]
      refine ⟨he.2.1, by omega, Or.inl ⟨z, ?_, by omega⟩⟩
      rw [← he.2.2]; exact hw
    · have e1 := wy_s_g hP z
      have e2 := wy_s_g hP (show L ≤ j + 1 by omega)
      rw [e1, e2]
      have hne := hg.2.1 (by omega)
      exact ⟨⟨hg.1, Or.inl rfl, fun _ => ⟨Or.inl rfl, hne, fun q => hne q.1⟩, fun z => by omega⟩, Nat.le_refl _, Or.inr ⟨z, rfl, rfl⟩⟩
  have edge : ∀ j, mo_E tg b 3 (cd (wy_s q L j) (cl_z tg gt z0 j)) (cd (wy_s q L (j + 1)) (cl_z tg gt z0 (j + 1))) (mo_wt b 3 (cd (wy_s q L j) (cl_z tg gt z0 j)) (cd (wy_s q L (j + 1)) (cl_z tg gt z0 (j + 1)))) := fun j =>
    ⟨(J.2.2.2.2.2 _ _ (ls j) (lz j)).1, J.1 _ _ _ _ (ls j) (ls (j + 1)) (lz j) (lz (j + 1)) (pair j).1 (cl_mv _ _) (hF j).1 (hF j).2, rfl⟩
  have ne : ∀ j, mo_ne (cl_z tg gt z0 (j + 1)) (cl_z tg gt z0 j) = (cg_td tg gt z0 - j) - (cg_td tg gt z0 - (j + 1)) := fun j => by
    have h := (cl_step ok hgt (lz j) (by rw [td j]; omega)).2
    have h' : mo_ne (cl_z tg gt z0 (j + 1)) (cl_z tg gt z0 j) = cg_td tg gt (cl_z tg gt z0 j) - cg_td tg gt (cl_z tg gt z0 (j + 1)) := h
    rw [h', td j, td (j + 1)]
  have goal : ∀ j, L ≤ j → 11 ≤ j → cd (wy_s q L j) (cl_z tg gt z0 j) = cd g gt := fun j h1 h2 => by
    rw [wy_s_g hP h1, cg_td_z ok hgt (show cg_td tg gt (cl_z tg gt z0 j) = 0 by rw [td j]; omega)]
  have upper : ∀ m j, j + m = L + 11 → gr_R (mo_E tg b 3) (if b = true then (K g - K (wy_s q L j)) + (cg_td tg gt z0 - j) else if K g - K (wy_s q L j) ≤ cg_td tg gt z0 - j then cg_td tg gt z0 - j else K g - K (wy_s q L j)) (cd (wy_s q L j) (cl_z tg gt z0 j)) (cd g gt) := by
    intro m
    induction m with
    | zero =>
      intro j hj
      have e0 := wy_s_g hP (show L ≤ j by omega)
      rw [goal j (by omega) (by omega), e0, show K g - K g = 0 by omega, show cg_td tg gt z0 - j = 0 by omega]
      cases b <;> exact gr_r0 _
    | succ m ih =>
      intro j hj
      have ih := ih (j + 1) (by omega)
      have he := edge j
      obtain ⟨pm, pk, pc⟩ := pair j
      cases b with
      | true =>
        have hw : mo_wt true 3 (cd (wy_s q L j) (cl_z tg gt z0 j)) (cd (wy_s q L (j + 1)) (cl_z tg gt z0 (j + 1))) = mo_ef 2 (wy_s q L j) (wy_s q L (j + 1)) + mo_ne (cl_z tg gt z0 (j + 1)) (cl_z tg gt z0 j) := J.2.1 _ _ _ _ (ls j) (ls (j + 1)) (lz j) (lz (j + 1))
        have ih' : gr_R (mo_E tg true 3) ((K g - K (wy_s q L (j + 1))) + (cg_td tg gt z0 - (j + 1))) (cd (wy_s q L (j + 1)) (cl_z tg gt z0 (j + 1))) (cd g gt) := ih
        show gr_R (mo_E tg true 3) ((K g - K (wy_s q L j)) + (cg_td tg gt z0 - j)) _ _
        have := gr_rc he ih'
        rw [hw, ne j] at this
        rcases pc with ⟨h1, h2, h3⟩ | ⟨h1, h2, h3⟩
        · have h2' : K (wy_s q L j) + mo_ef 2 (wy_s q L j) (wy_s q L (j + 1)) = K (wy_s q L (j + 1)) := h2
          rw [show (K g - K (wy_s q L j)) + (cg_td tg gt z0 - j) = mo_ef 2 (wy_s q L j) (wy_s q L (j + 1)) + ((cg_td tg gt z0 - j) - (cg_td tg gt z0 - (j + 1))) + ((K g - K (wy_s q L (j + 1))) + (cg_td tg gt z0 - (j + 1))) by omega]
          exact this
        · have hz0 : mo_ef 2 (wy_s q L j) (wy_s q L (j + 1)) = 0 := by rw [h2, h3, mo_ef2, mo_ne_s, mo_ne_s]
          rw [hz0] at this
          rw [show (K g - K (wy_s q L j)) + (cg_td tg gt z0 - j) = 0 + ((cg_td tg gt z0 - j) - (cg_td tg gt z0 - (j + 1))) + ((K g - K (wy_s q L (j + 1))) + (cg_td tg gt z0 - (j + 1))) by rw [h2, h3]; omega]
          exact this
      | false =>
        have ih' : gr_R (mo_E tg false 3) (if K g - K (wy_s q L (j + 1)) ≤ cg_td tg gt z0 - (j + 1) then cg_td tg gt z0 - (j + 1) else K g - K (wy_s q L (j + 1))) (cd (wy_s q L (j + 1)) (cl_z tg gt z0 (j + 1))) (cd g gt) := ih
        show gr_R (mo_E tg false 3) (if K g - K (wy_s q L j) ≤ cg_td tg gt z0 - j then cg_td tg gt z0 - j else K g - K (wy_s q L j)) _ _
        have hr : gr_R (mo_E tg false 3) (1 + (if K g - K (wy_s q L (j + 1)) ≤ cg_td tg gt z0 - (j + 1) then cg_td tg gt z0 - (j + 1) else K g - K (wy_s q L (j + 1)))) (cd (wy_s q L j) (cl_z tg gt z0 j)) (cd g gt) := gr_rc he ih'
        rcases pc with ⟨h1, h2, h3⟩ | ⟨h1, h2, h3⟩
        · have h2' : K (wy_s q L j) + 1 = K (wy_s q L (j + 1)) := h2
          have e : (if K g - K (wy_s q L j) ≤ cg_td tg gt z0 - j then cg_td tg gt z0 - j else K g - K (wy_s q L j)) = 1 + (if K g - K (wy_s q L (j + 1)) ≤ cg_td tg gt z0 - (j + 1) then cg_td tg gt z0 - (j + 1) else K g - K (wy_s q L (j + 1))) := by
            repeat' split
            all_goals omega
          rw [e]; exact hr
        · rw [h2]
          rw [h3] at hr
          rcases Nat.lt_or_ge j (cg_td tg gt z0) with z | z
          · have e : (if K g - K g ≤ cg_td tg gt z0 - j then cg_td tg gt z0 - j else K g - K g) = 1 + (if K g - K g ≤ cg_td tg gt z0 - (j + 1) then cg_td tg gt z0 - (j + 1) else K g - K g) := by
              repeat' split
              all_goals omega
            rw [e]; rw [h2] at hr; exact hr
          · have e : (if K g - K g ≤ cg_td tg gt z0 - j then cg_td tg gt z0 - j else K g - K g) = 0 := by
              split <;> omega
            rw [e]
            have e2 : cl_z tg gt z0 j = gt := cg_td_z ok hgt (by rw [td j]; omega)
            rw [e2]
            exact gr_r0 _
  have s0 : wy_s q L 0 = st := (if_pos (Nat.zero_le _)).trans hP.1
  have up := upper (L + 11) 0 (by omega)
  rw [s0, hK] at up
  refine ⟨up, fun c h => ?_⟩
  obtain ⟨c1, c2, h1, h2, h3, h4⟩ := pj_proj J ok hgt h
  rw [(J.2.2.2.2.2 st z0 hst hz).2.1, (J.2.2.2.2.2 g gt lg hgt).2.1] at h1
  rw [(J.2.2.2.2.2 st z0 hst hz).2.2, (J.2.2.2.2.2 g gt lg hgt).2.2, cg_td0] at h2
  have h5 := hl.2 _ h1
  cases b with
  | true =>
    have := h3 rfl
    show K g + cg_td tg gt z0 ≤ c
    omega
  | false =>
    have := h4 rfl
    show (if K g ≤ cg_td tg gt z0 then cg_td tg gt z0 else K g) ≤ c
    split <;> omega
end
end
section
theorem as_fin2 {k x y z : Nat} (hk : mo_K k) (hx : x ≤ 11 ∨ x = 1000000) (hy : 2 ≤ k → y ≤ 11 ∨ y = 1000000) (hz : 3 ≤ k → z ≤ 11 ∨ z = 1000000) (h : as_mo k x y z ≠ 1000000) :
    as_mo k x y z ≤ 11 ∧ as_su k x y z ≤ 33 ∧ x ≤ 11 ∧ (2 ≤ k → y ≤ 11) ∧ (3 ≤ k → z ≤ 11) := by
  rcases hk with rfl | rfl | rfl
  · replace h : x ≠ 1000000 := h
    show x ≤ 11 ∧ x ≤ 33 ∧ _
    exact ⟨by omega, by omega, by omega, fun z => by omega, fun z => by omega⟩
  · have hy := hy (by omega)
    replace h : as_mx x y ≠ 1000000 := h
    show as_mx x y ≤ 11 ∧ x + y ≤ 33 ∧ _
    unfold as_mx at *
    split at h
    · rename_i q
      rw [if_pos q]
      exact ⟨by omega, by omega, by omega, fun z => by omega, fun z => by omega⟩
    · rename_i q
      rw [if_neg q]
      exact ⟨by omega, by omega, by omega, fun z => by omega, fun z => by omega⟩
  · have hy := hy (by omega)
    have hz := hz (by omega)
    replace h : as_mx (as_mx x y) z ≠ 1000000 := h
    show as_mx (as_mx x y) z ≤ 11 ∧ x + y + z ≤ 33 ∧ _
    have e1 : x ≤ as_mx x y ∧ y ≤ as_mx x y ∧ (as_mx x y = x ∨ as_mx x y = y) := by
      unfold as_mx
      split <;> omega
    generalize as_mx x y = p at *
    have e2 : p ≤ as_mx p z ∧ z ≤ as_mx p z ∧ (as_mx p z = p ∨ as_mx p z = z) := by
      unfold as_mx
      split <;> omega
    generalize as_mx p z = o at *
    exact ⟨by omega, by omega, by omega, fun z => by omega, fun z => by omega⟩
theorem xw_TGT {tg : Nat → Nat → Option Nat} {T C : Nat} {gl : Nat → Nat} {a : Nat → Int32} (h1 : 1 ≤ C) (hC : C < 8) (hgl : ∀ w, w < 3 → gl w < 12) (hs : ∀ w, w < 3 → C.testBit w = true → T.testBit w = true) (h : xw_TG tg T gl 3 a) : tm_T tg (tm_k C) (tm_w C) (fun i => gl (tm_w C i)) a := by
  intro i hi
  have hk := (tm_f2 C hC h1).1
  have i3 : i < 3 := by rcases hk with e | e | e <;> omega
  obtain ⟨a1, a2, _⟩ := (tm_f2 C hC h1).2 i i3 hi
  exact ⟨hgl _ a1, fun c hc => h _ a1 (hs _ a1 a2) c hc⟩
theorem cl_C7 {C T : Nat} (hT : T < 8) (h : cl_C C T) : 1 ≤ C ∧ C < 8 ∧ (C = T ∨ T = 7) := by
  obtain ⟨h1, h2⟩ := h
  have hT' : T = 0 ∨ T = 1 ∨ T = 2 ∨ T = 3 ∨ T = 4 ∨ T = 5 ∨ T = 6 ∨ T = 7 := by omega
  rcases h1 with rfl | rfl | rfl
  · have a := h2 0 (by omega) (by decide)
    have b := h2 1 (by omega) (by decide)
    rcases hT' with rfl | rfl | rfl | rfl | rfl | rfl | rfl | rfl <;> first | exact ⟨by omega, by omega, by omega⟩ | exact absurd a (by decide) | exact absurd b (by decide)
  · have a := h2 0 (by omega) (by decide)
    have b := h2 2 (by omega) (by decide)
    rcases hT' with rfl | rfl | rfl | rfl | rfl | rfl | rfl | rfl <;> first | exact ⟨by omega, by omega, by omega⟩ | exact absurd a (by decide) | exact absurd b (by decide)
  · have a := h2 1 (by omega) (by decide)
    have b := h2 2 (by omega) (by decide)
    rcases hT' with rfl | rfl | rfl | rfl | rfl | rfl | rfl | rfl <;> first | exact ⟨by omega, by omega, by omega⟩ | exact absurd a (by decide) | exact absurd b (by decide)
/-- a team whose walkers stand, and go, to different cells -/
def tm_R (T : Nat) (pl gl : Nat → Nat) : Prop := ∀ i j, i < j → j < 3 → T.testBit i = true → T.testBit j = true → pl i ≠ pl j ∧ gl i ≠ gl j
theorem tm_R_V {T C : Nat} {pl : Nat → Nat} (h1 : 1 ≤ C) (hC : C < 8) (hs : ∀ w, w < 3 → C.testBit w = true → T.testBit w = true) (hpl : ∀ w, w < 3 → pl w < 12) (hR : ∀ i j, i < j → j < 3 → T.testBit i = true → T.testBit j = true → pl i ≠ pl j) : mo_V (tm_k C) (tm_s (tm_k C) fun i => pl (tm_w C i)) := by
  obtain ⟨hk, hf⟩ := tm_f2 C hC h1
  have h3 : ∀ i, i < tm_k C → i < 3 := fun i hi => by rcases hk with e | e | e <;> omega
  have lp : ∀ i, i < tm_k C → pl (tm_w C i) < 12 := fun i hi => hpl _ (hf i (h3 i hi) hi).1
  have d := tm_s_d hk lp
  have ne : ∀ i j, i < j → j < tm_k C → pl (tm_w C i) ≠ pl (tm_w C j) := by
    intro i j hij hj
    obtain ⟨a1, a2, a3⟩ := hf i (h3 i (by omega)) (by omega)
    obtain ⟨b1, b2, _⟩ := hf j (h3 j hj) hj
    have hne : tm_w C i ≠ tm_w C j := fun e => by
      have := a3 j (h3 j hj) hj e
      omega
    rcases Nat.lt_or_ge (tm_w C i) (tm_w C j) with z | z
    · exact hR _ _ z b1 (hs _ a1 a2) (hs _ b1 b2)
    · exact fun e => hR _ _ (by omega) a1 (hs _ b1 b2) (hs _ a1 a2) e.symm
  refine ⟨tm_s_lt hk lp, fun h2 => ?_, fun h2 => ?_⟩
  · rw [d.1, d.2.1 h2]; exact ne 0 1 (by omega) (by omega)
  · rw [d.1, d.2.1 (by omega), d.2.2 h2]; exact ⟨ne 0 2 (by omega) (by omega), ne 1 2 (by omega) (by omega)⟩
section
variable {W T : Nat} {wy pl gl : Nat → Nat} {b : Bool}
variable {f_walls f_placed f_count f_byEffort f_best f_turns : Int32} {a_waysOut a_placeOf a_goalOf a_stepTo a_toGoal a_distance a_who a_cost a_origin a_closed a_onward a_queue a_cellNow a_cellNext a_walkNow a_walkNext a_used a_flowFrom a_flowTo a_cameBy a_line : Nat → Int32}
theorem xw_plan {post : Int32 → SX → Prop} (h1 : 1 ≤ T) (hT : T < 8) (hW : W < 4096) (hwy : ∀ c, c < 12 → a_waysOut c = nI (wy c) ∧ wy c < 16) (hpl : ∀ w, w < 3 → a_placeOf w = nI (pl w) ∧ pl w < 12) (hgl : ∀ w, w < 3 → a_goalOf w = nI (gl w) ∧ gl w < 12) (hR : tm_R T pl gl)
    (hp : ∀ f_count f_best a_stepTo a_toGoal a_distance a_who a_cost a_origin a_closed a_onward a_cellNow a_cellNext a_walkNow a_walkNext r, cg_ST (cg_tg W wy) a_stepTo → an_P (mo_E (cg_tg W wy) b (tm_k T)) (tm_s (tm_k T) fun i => pl (tm_w T i)) (tm_s (tm_k T) fun i => gl (tm_w T i)) r → post r (nI W, f_placed, f_count, tm_b b, f_best, f_turns, a_waysOut, a_placeOf, a_goalOf, a_stepTo, a_toGoal, a_distance, a_who, a_cost, a_origin, a_closed, a_onward, a_queue, a_cellNow, a_cellNext, a_walkNow, a_walkNext, a_used, a_flowFrom, a_flowTo, a_cameBy, a_line)) :
    wpX_plan post (nI W, f_placed, f_count, tm_b b, f_best, f_turns, a_waysOut, a_placeOf, a_goalOf, a_stepTo, a_toGoal, a_distance, a_who, a_cost, a_origin, a_closed, a_onward, a_queue, a_cellNow, a_cellNext, a_walkNow, a_walkNext, a_used, a_flowFrom, a_flowTo, a_cameBy, a_line) (nI T) := by
  have ok := cg_tg_ok W wy
  have lgl : ∀ w, w < 3 → gl w < 12 := fun w hw => (hgl w hw).2
  have lpl : ∀ w, w < 3 → pl w < 12 := fun w hw => (hpl w hw).2
  refine xw_findGoalDistances hW hwy hT hgl fun a_stepTo a_distance a_toGoal hst htg => ?_
  generalize cg_tg W wy = tg at *
  obtain ⟨hk, hf⟩ := tm_f2 T hT h1
  have h3 : ∀ i, i < tm_k T → i < 3 := fun i hi => by rcases hk with e | e | e <;> omega
  have lp : ∀ i, i < tm_k T → pl (tm_w T i) < 12 := fun i hi => lpl _ (hf i (h3 i hi) hi).1
  have lg : ∀ i, i < tm_k T → gl (tm_w T i) < 12 := fun i hi => lgl _ (hf i (h3 i hi) hi).1
  have dp := tm_s_d hk lp
  have dg := tm_s_d hk lg
  have H := as_H_ok (b := b) hk ok lg dg.1 dg.2.1 dg.2.2
  refine xw_alone h1 hT ok lgl hpl htg ?_
  have hh : as_h tg (fun i => gl (tm_w T i)) b (tm_k T) (tm_s (tm_k T) fun i => pl (tm_w T i)) = as_hv b (as_mo (tm_k T) (cg_td tg (gl (tm_w T 0)) (pl (tm_w T 0))) (cg_td tg (gl (tm_w T 1)) (pl (tm_w T 1))) (cg_td tg (gl (tm_w T 2)) (pl (tm_w T 2)))) (as_su (tm_k T) (cg_td tg (gl (tm_w T 0)) (pl (tm_w T 0))) (cg_td tg (gl (tm_w T 1)) (pl (tm_w T 1))) (cg_td tg (gl (tm_w T 2)) (pl (tm_w T 2)))) := by
    unfold as_h
    rw [dp.1]
    rcases hk with e | e | e
    · rw [e]; rfl
    · rw [dp.2.1 (by omega), e]; rfl
    · rw [dp.2.1 (by omega), dp.2.2 (by omega)]
  have hb2 := as_fin2 hk (cg_td_le ok (lgl (tm_w T 0) (hf 0 (by omega) (by rcases hk with e | e | e <;> omega)).1) (pl (tm_w T 0))) (fun z => cg_td_le ok (lg 1 (by omega)) (pl (tm_w T 1))) (fun z => cg_td_le ok (lg 2 (by omega)) (pl (tm_w T 2)))
  generalize as_mo (tm_k T) (cg_td tg (gl (tm_w T 0)) (pl (tm_w T 0))) (cg_td tg (gl (tm_w T 1)) (pl (tm_w T 1))) (cg_td tg (gl (tm_w T 2)) (pl (tm_w T 2))) = m at *
  generalize as_su (tm_k T) (cg_td tg (gl (tm_w T 0)) (pl (tm_w T 0))) (cg_td tg (gl (tm_w T 1)) (pl (tm_w T 1))) (cg_td tg (gl (tm_w T 2)) (pl (tm_w T 2))) = s at *
  by_cases hm : m = 1000000
  · have e : al_v b m s = -2 := if_pos hm
    rw [e]
    refine br_f (by decide) (hp _ _ _ _ _ _ _ _ _ _ _ _ _ _ _ hst (Or.inr ⟨rfl, fun c r => ?_⟩))
    have := (as_hR H r).2 (by rw [H.2.2.2.2.2.2]; omega)
    rw [hh] at this
    unfold as_hv at this
    rw [if_pos hm] at this
    omega
  · have e : al_v b m s = nI (as_h tg (fun i => gl (tm_w T i)) b (tm_k T) (tm_s (tm_k T) fun i => pl (tm_w T i))) := by
      rw [hh]
      unfold al_v as_hv
      rw [if_neg hm, if_neg hm]
      cases b <;> rfl
    rw [e]
    have hfin : as_h tg (fun i => gl (tm_w T i)) b (tm_k T) (tm_s (tm_k T) fun i => pl (tm_w T i)) < 1000000 := by
      have hb3 := hb2 hm
      rw [hh]
      unfold as_hv
      rw [if_neg hm]
      split <;> omega
    refine br_t (nI_pos' (by omega)) ?_
    refine xw_clashAlone ok hst hT lgl hpl htg (fun a_walkNow a_walkNext hcl => ?_) (fun a_walkNow a_walkNext C hC => ?_)
    · refine br_t rfl (hp _ _ _ _ _ _ _ _ _ _ _ _ _ _ _ hst (Or.inl ⟨_, pl_apart hk ok lg lp (fun t ht i j hij hj => ?_) hfin, rfl⟩))
      obtain ⟨a1, a2, a3⟩ := hf i (h3 i (by omega)) (by omega)
      obtain ⟨b1, b2, _⟩ := hf j (h3 j hj) hj
      have hne : tm_w T i ≠ tm_w T j := fun e => by
        have := a3 j (h3 j hj) hj e
        omega
      rcases Nat.lt_or_ge (tm_w T i) (tm_w T j) with z | z
      · exact hcl t ht _ _ z b1 a2 b2
      · exact mo_cl_s (hcl t ht _ _ (by omega) a1 b2 a2)
    · obtain ⟨c1, c8, c7⟩ := cl_C7 hT hC
      have hT2 := xw_TGT c1 c8 lgl hC.2 htg
      refine br_f (fun e => by have := (nI_eq (show C < 2 ^ 31 by omega) (show 0 < 2 ^ 31 by omega)).mp e; omega) ?_
      by_cases hCT : C = T
      · subst hCT
        refine xw_solve c1 c8 ok hst hpl hgl hT2 (fun best K cl og a_who a_cost a_origin a_closed a_cellNow a_cellNext hw I R hc => ?_) (fun best a_who a_cost a_origin a_closed a_cellNow a_cellNext hno => br_t (by decide) (hp _ _ _ _ _ _ _ _ _ _ _ _ _ _ _ hst (Or.inr ⟨rfl, hno⟩)))
        have hK := (I.2.2.2.2.1 _ hc).1
        refine br_f (nI_pos (by omega)) (br_t rfl (hp _ _ _ _ _ _ _ _ _ _ _ _ _ _ _ hst (Or.inl ⟨_, as_done (mo_Nle _) H I hc, rfl⟩)))
      · obtain rfl : T = 7 := c7.resolve_left hCT
        have hfin3 : ∀ v, v < 3 → cg_td tg (gl v) (pl v) ≤ 11 := by
          have hb3 := hb2 hm
          have q1 : cg_td tg (gl 0) (pl 0) ≤ 11 := hb3.2.2.1
          have q2 : cg_td tg (gl 1) (pl 1) ≤ 11 := hb3.2.2.2.1 (by decide)
          have q3 : cg_td tg (gl 2) (pl 2) ≤ 11 := hb3.2.2.2.2 (by decide)
          intro v hv
          have : v = 0 ∨ v = 1 ∨ v = 2 := by omega
          rcases this with rfl | rfl | rfl
          · exact q1
          · exact q2
          · exact q3
        rcases hC.1 with rfl | rfl | rfl
        · have J := pj_OK3 tg
          have l0 := lpl 0 (by omega)
          have l1 := lpl 1 (by omega)
          have l2 := lpl 2 (by omega)
          have m0 := lgl 0 (by omega)
          have m1 := lgl 1 (by omega)
          have m2 := lgl 2 (by omega)
          have lst : (tm_s 2 fun i => pl (tm_w 3 i)) < 144 := tm_s_lt (Or.inr (Or.inl rfl)) fun i hi => lpl _ ((tm_f2 3 (by omega) (by omega)).2 i (by omega) hi).1
          have lgt : (tm_s 2 fun i => gl (tm_w 3 i)) < 144 := tm_s_lt (Or.inr (Or.inl rfl)) fun i hi => lgl _ ((tm_f2 3 (by omega) (by omega)).2 i (by omega) hi).1
          have es : (tm_s (tm_k 7) fun i => pl (tm_w 7 i)) = pj_c3 (tm_s 2 fun i => pl (tm_w 3 i)) (pl 2) := by
            show pl 0 + 12 * pl 1 + 144 * pl 2 = pj_c3 (pl (tm_w 3 0) + 12 * pl (tm_w 3 1)) (pl 2)
            show pl 0 + 12 * pl 1 + 144 * pl 2 = pj_c3 (pl 0 + 12 * pl 1) (pl 2)
            unfold pj_c3
            omega
          have eg : (tm_s (tm_k 7) fun i => gl (tm_w 7 i)) = pj_c3 (tm_s 2 fun i => gl (tm_w 3 i)) (gl 2) := by
            show gl 0 + 12 * gl 1 + 144 * gl 2 = pj_c3 (gl (tm_w 3 0) + 12 * gl (tm_w 3 1)) (gl 2)
            show gl 0 + 12 * gl 1 + 144 * gl 2 = pj_c3 (gl 0 + 12 * gl 1) (gl 2)
            unfold pj_c3
            omega
          have hV : mo_V 2 (tm_s 2 fun i => gl (tm_w 3 i)) := tm_R_V (C := 3) (by omega) (by omega) hC.2 lgl fun i j hij hj bi bj => (hR i j hij hj bi bj).2
          refine xw_solve c1 c8 ok hst hpl hgl hT2 (fun best K cl og a_who a_cost a_origin a_closed a_cellNow a_cellNext hw I R hc => ?_) (fun best a_who a_cost a_origin a_closed a_cellNow a_cellNext hno => br_t (by decide) (hp _ _ _ _ _ _ _ _ _ _ _ _ _ _ _ hst (Or.inr ⟨rfl, ?_⟩)))
          · have hK : K (tm_s 2 fun i => gl (tm_w 3 i)) < 1000000 := (I.2.2.2.2.1 _ hc).1
            have H2 : as_H (mo_E tg b 2) (as_h tg (fun i => gl (tm_w 3 i)) b 2) 144 (tm_s 2 fun i => gl (tm_w 3 i)) := by
              have d2 := tm_s_d (k := 2) (p := fun i => gl (tm_w 3 i)) (Or.inr (Or.inl rfl)) fun i hi => lgl _ ((tm_f2 3 (by omega) (by omega)).2 i (by omega) hi).1
              exact as_H_ok (b := b) (k := 2) (Or.inr (Or.inl rfl)) ok (fun i hi => lgl _ ((tm_f2 3 (by omega) (by omega)).2 i (by omega) hi).1) d2.1 d2.2.1 d2.2.2
            have hl : gr_L (mo_E tg b 2) (K (tm_s 2 fun i => gl (tm_w 3 i))) (tm_s 2 fun i => pl (tm_w 3 i)) (tm_s 2 fun i => gl (tm_w 3 i)) := as_done (by omega) H2 I hc
            refine br_f (nI_pos (show K (tm_s 2 fun i => gl (tm_w 3 i)) < 2 ^ 31 by omega)) (br_f (by decide) ?_)
            refine br_f (by decide) (br_f (by decide) ?_)
            refine xw_layWay hw hgl I R hK fun a_onward q L hL hP => ?_
            refine xw_clashWithThird ok hst hw hpl hgl (v := 2) (by omega) (htg 2 (by omega) (by decide)) (by have := hfin3 2 (by omega); omega) hL hP (br_f (by decide) ?_) (fun hF => br_t rfl ?_)
            · refine xw_solve h1 hT ok hst hpl hgl (xw_TGT h1 hT lgl (fun _ _ z => z) htg) (fun best K cl og a_who a_cost a_origin a_closed a_cellNow a_cellNext hw I R hc => ?_) (fun best a_who a_cost a_origin a_closed a_cellNow a_cellNext hno => hp _ _ _ _ _ _ _ _ _ _ _ _ _ _ _ hst (Or.inr ⟨rfl, hno⟩))
              exact hp _ _ _ _ _ _ _ _ _ _ _ _ _ _ _ hst (Or.inl ⟨_, as_done (mo_Nle _) H I hc, rfl⟩)
            · refine xw_lengthAlone (T := 7) (w := 2) (by omega) (by decide) hpl htg ?_
              have jl := pl_joint (st := tm_s 2 fun i => pl (tm_w 3 i)) (g := tm_s 2 fun i => gl (tm_w 3 i)) J ok hP hl I.1 lst hV (lpl 2 (by omega)) (lgl 2 (by omega)) (hfin3 2 (by omega)) hF
              rw [← es, ← eg] at jl
              have hf3 := hfin3 2 (by omega)
              cases b with
              | false =>
                refine br_t rfl ?_
                refine pk_le (K (tm_s 2 fun i => gl (tm_w 3 i))) (cg_td tg (gl 2) (pl 2)) (fun z => hp _ _ _ _ _ _ _ _ _ _ _ _ _ _ _ hst (Or.inl ⟨_, jl, ?_⟩)) (fun z => hp _ _ _ _ _ _ _ _ _ _ _ _ _ _ _ hst (Or.inl ⟨_, jl, ?_⟩))
                · rw [if_neg (by decide), if_pos z]
                · rw [if_neg (by decide), if_neg (by omega)]; rfl
              | true =>
                refine br_f (by decide) (hp _ _ _ _ _ _ _ _ _ _ _ _ _ _ _ hst (Or.inl ⟨_, jl, ?_⟩))
                rw [if_pos rfl]
                exact nI_add _ _
          · rw [es, eg]
            exact pl_nopair J ok lst lgt (lpl 2 (by omega)) (lgl 2 (by omega)) hno
        · have J := pj_OK5 tg
          have l0 := lpl 0 (by omega)
          have l1 := lpl 1 (by omega)
          have l2 := lpl 2 (by omega)
          have m0 := lgl 0 (by omega)
          have m1 := lgl 1 (by omega)
          have m2 := lgl 2 (by omega)
          have lst : (tm_s 2 fun i => pl (tm_w 5 i)) < 144 := tm_s_lt (Or.inr (Or.inl rfl)) fun i hi => lpl _ ((tm_f2 5 (by omega) (by omega)).2 i (by omega) hi).1
          have lgt : (tm_s 2 fun i => gl (tm_w 5 i)) < 144 := tm_s_lt (Or.inr (Or.inl rfl)) fun i hi => lgl _ ((tm_f2 5 (by omega) (by omega)).2 i (by omega) hi).1
          have es : (tm_s (tm_k 7) fun i => pl (tm_w 7 i)) = pj_c5 (tm_s 2 fun i => pl (tm_w 5 i)) (pl 1) := by
            show pl 0 + 12 * pl 1 + 144 * pl 2 = pj_c5 (pl (tm_w 5 0) + 12 * pl (tm_w 5 1)) (pl 1)
            show pl 0 + 12 * pl 1 + 144 * pl 2 = pj_c5 (pl 0 + 12 * pl 2) (pl 1)
            unfold pj_c5
            omega
          have eg : (tm_s (tm_k 7) fun i => gl (tm_w 7 i)) = pj_c5 (tm_s 2 fun i => gl (tm_w 5 i)) (gl 1) := by
            show gl 0 + 12 * gl 1 + 144 * gl 2 = pj_c5 (gl (tm_w 5 0) + 12 * gl (tm_w 5 1)) (gl 1)
            show gl 0 + 12 * gl 1 + 144 * gl 2 = pj_c5 (gl 0 + 12 * gl 2) (gl 1)
            unfold pj_c5
            omega
          have hV : mo_V 2 (tm_s 2 fun i => gl (tm_w 5 i)) := tm_R_V (C := 5) (by omega) (by omega) hC.2 lgl fun i j hij hj bi bj => (hR i j hij hj bi bj).2
          refine xw_solve c1 c8 ok hst hpl hgl hT2 (fun best K cl og a_who a_cost a_origin a_closed a_cellNow a_cellNext hw I R hc => ?_) (fun best a_who a_cost a_origin a_closed a_cellNow a_cellNext hno => br_t (by decide) (hp _ _ _ _ _ _ _ _ _ _ _ _ _ _ _ hst (Or.inr ⟨rfl, ?_⟩)))
          · have hK : K (tm_s 2 fun i => gl (tm_w 5 i)) < 1000000 := (I.2.2.2.2.1 _ hc).1
            have H2 : as_H (mo_E tg b 2) (as_h tg (fun i => gl (tm_w 5 i)) b 2) 144 (tm_s 2 fun i => gl (tm_w 5 i)) := by
              have d2 := tm_s_d (k := 2) (p := fun i => gl (tm_w 5 i)) (Or.inr (Or.inl rfl)) fun i hi => lgl _ ((tm_f2 5 (by omega) (by omega)).2 i (by omega) hi).1
              exact as_H_ok (b := b) (k := 2) (Or.inr (Or.inl rfl)) ok (fun i hi => lgl _ ((tm_f2 5 (by omega) (by omega)).2 i (by omega) hi).1) d2.1 d2.2.1 d2.2.2
            have hl : gr_L (mo_E tg b 2) (K (tm_s 2 fun i => gl (tm_w 5 i))) (tm_s 2 fun i => pl (tm_w 5 i)) (tm_s 2 fun i => gl (tm_w 5 i)) := as_done (by omega) H2 I hc
            refine br_f (nI_pos (show K (tm_s 2 fun i => gl (tm_w 5 i)) < 2 ^ 31 by omega)) (br_f (by decide) ?_)
            refine br_f (by decide) (br_t (by decide) ?_)
            refine xw_layWay hw hgl I R hK fun a_onward q L hL hP => ?_
            refine xw_clashWithThird ok hst hw hpl hgl (v := 1) (by omega) (htg 1 (by omega) (by decide)) (by have := hfin3 1 (by omega); omega) hL hP (br_f (by decide) ?_) (fun hF => br_t rfl ?_)
            · refine xw_solve h1 hT ok hst hpl hgl (xw_TGT h1 hT lgl (fun _ _ z => z) htg) (fun best K cl og a_who a_cost a_origin a_closed a_cellNow a_cellNext hw I R hc => ?_) (fun best a_who a_cost a_origin a_closed a_cellNow a_cellNext hno => hp _ _ _ _ _ _ _ _ _ _ _ _ _ _ _ hst (Or.inr ⟨rfl, hno⟩))
              exact hp _ _ _ _ _ _ _ _ _ _ _ _ _ _ _ hst (Or.inl ⟨_, as_done (mo_Nle _) H I hc, rfl⟩)
            · refine xw_lengthAlone (T := 7) (w := 1) (by omega) (by decide) hpl htg ?_
              have jl := pl_joint (st := tm_s 2 fun i => pl (tm_w 5 i)) (g := tm_s 2 fun i => gl (tm_w 5 i)) J ok hP hl I.1 lst hV (lpl 1 (by omega)) (lgl 1 (by omega)) (hfin3 1 (by omega)) hF
              rw [← es, ← eg] at jl
              have hf3 := hfin3 1 (by omega)
              cases b with
              | false =>
                refine br_t rfl ?_
                refine pk_le (K (tm_s 2 fun i => gl (tm_w 5 i))) (cg_td tg (gl 1) (pl 1)) (fun z => hp _ _ _ _ _ _ _ _ _ _ _ _ _ _ _ hst (Or.inl ⟨_, jl, ?_⟩)) (fun z => hp _ _ _ _ _ _ _ _ _ _ _ _ _ _ _ hst (Or.inl ⟨_, jl, ?_⟩))
                · rw [if_neg (by decide), if_pos z]
                · rw [if_neg (by decide), if_neg (by omega)]; rfl
              | true =>
                refine br_f (by decide) (hp _ _ _ _ _ _ _ _ _ _ _ _ _ _ _ hst (Or.inl ⟨_, jl, ?_⟩))
                rw [if_pos rfl]
                exact nI_add _ _
          · rw [es, eg]
            exact pl_nopair J ok lst lgt (lpl 1 (by omega)) (lgl 1 (by omega)) hno
        · have J := pj_OK6 tg
          have l0 := lpl 0 (by omega)
          have l1 := lpl 1 (by omega)
          have l2 := lpl 2 (by omega)
          have m0 := lgl 0 (by omega)
          have m1 := lgl 1 (by omega)
          have m2 := lgl 2 (by omega)
          have lst : (tm_s 2 fun i => pl (tm_w 6 i)) < 144 := tm_s_lt (Or.inr (Or.inl rfl)) fun i hi => lpl _ ((tm_f2 6 (by omega) (by omega)).2 i (by omega) hi).1
          have lgt : (tm_s 2 fun i => gl (tm_w 6 i)) < 144 := tm_s_lt (Or.inr (Or.inl rfl)) fun i hi => lgl _ ((tm_f2 6 (by omega) (by omega)).2 i (by omega) hi).1
          have es : (tm_s (tm_k 7) fun i => pl (tm_w 7 i)) = pj_c6 (tm_s 2 fun i => pl (tm_w 6 i)) (pl 0) := by
            show pl 0 + 12 * pl 1 + 144 * pl 2 = pj_c6 (pl (tm_w 6 0) + 12 * pl (tm_w 6 1)) (pl 0)
            show pl 0 + 12 * pl 1 + 144 * pl 2 = pj_c6 (pl 1 + 12 * pl 2) (pl 0)
            unfold pj_c6
            omega
          have eg : (tm_s (tm_k 7) fun i => gl (tm_w 7 i)) = pj_c6 (tm_s 2 fun i => gl (tm_w 6 i)) (gl 0) := by
            show gl 0 + 12 * gl 1 + 144 * gl 2 = pj_c6 (gl (tm_w 6 0) + 12 * gl (tm_w 6 1)) (gl 0)
            show gl 0 + 12 * gl 1 + 144 * gl 2 = pj_c6 (gl 1 + 12 * gl 2) (gl 0)
            unfold pj_c6
            omega
          have hV : mo_V 2 (tm_s 2 fun i => gl (tm_w 6 i)) := tm_R_V (C := 6) (by omega) (by omega) hC.2 lgl fun i j hij hj bi bj => (hR i j hij hj bi bj).2
          refine xw_solve c1 c8 ok hst hpl hgl hT2 (fun best K cl og a_who a_cost a_origin a_closed a_cellNow a_cellNext hw I R hc => ?_) (fun best a_who a_cost a_origin a_closed a_cellNow a_cellNext hno => br_t (by decide) (hp _ _ _ _ _ _ _ _ _ _ _ _ _ _ _ hst (Or.inr ⟨rfl, ?_⟩)))
          · have hK : K (tm_s 2 fun i => gl (tm_w 6 i)) < 1000000 := (I.2.2.2.2.1 _ hc).1
            have H2 : as_H (mo_E tg b 2) (as_h tg (fun i => gl (tm_w 6 i)) b 2) 144 (tm_s 2 fun i => gl (tm_w 6 i)) := by
              have d2 := tm_s_d (k := 2) (p := fun i => gl (tm_w 6 i)) (Or.inr (Or.inl rfl)) fun i hi => lgl _ ((tm_f2 6 (by omega) (by omega)).2 i (by omega) hi).1
              exact as_H_ok (b := b) (k := 2) (Or.inr (Or.inl rfl)) ok (fun i hi => lgl _ ((tm_f2 6 (by omega) (by omega)).2 i (by omega) hi).1) d2.1 d2.2.1 d2.2.2
            have hl : gr_L (mo_E tg b 2) (K (tm_s 2 fun i => gl (tm_w 6 i))) (tm_s 2 fun i => pl (tm_w 6 i)) (tm_s 2 fun i => gl (tm_w 6 i)) := as_done (by omega) H2 I hc
            refine br_f (nI_pos (show K (tm_s 2 fun i => gl (tm_w 6 i)) < 2 ^ 31 by omega)) (br_f (by decide) ?_)
            refine br_t (by decide) ?_
            refine xw_layWay hw hgl I R hK fun a_onward q L hL hP => ?_
            refine xw_clashWithThird ok hst hw hpl hgl (v := 0) (by omega) (htg 0 (by omega) (by decide)) (by have := hfin3 0 (by omega); omega) hL hP (br_f (by decide) ?_) (fun hF => br_t rfl ?_)
            · refine xw_solve h1 hT ok hst hpl hgl (xw_TGT h1 hT lgl (fun _ _ z => z) htg) (fun best K cl og a_who a_cost a_origin a_closed a_cellNow a_cellNext hw I R hc => ?_) (fun best a_who a_cost a_origin a_closed a_cellNow a_cellNext hno => hp _ _ _ _ _ _ _ _ _ _ _ _ _ _ _ hst (Or.inr ⟨rfl, hno⟩))
              exact hp _ _ _ _ _ _ _ _ _ _ _ _ _ _ _ hst (Or.inl ⟨_, as_done (mo_Nle _) H I hc, rfl⟩)
            · refine xw_lengthAlone (T := 7) (w := 0) (by omega) (by decide) hpl htg ?_
              have jl := pl_joint (st := tm_s 2 fun i => pl (tm_w 6 i)) (g := tm_s 2 fun i => gl (tm_w 6 i)) J ok hP hl I.1 lst hV (lpl 0 (by omega)) (lgl 0 (by omega)) (hfin3 0 (by omega)) hF
              rw [← es, ← eg] at jl
              have hf3 := hfin3 0 (by omega)
              cases b with
              | false =>
                refine br_t rfl ?_
                refine pk_le (K (tm_s 2 fun i => gl (tm_w 6 i))) (cg_td tg (gl 0) (pl 0)) (fun z => hp _ _ _ _ _ _ _ _ _ _ _ _ _ _ _ hst (Or.inl ⟨_, jl, ?_⟩)) (fun z => hp _ _ _ _ _ _ _ _ _ _ _ _ _ _ _ hst (Or.inl ⟨_, jl, ?_⟩))
                · rw [if_neg (by decide), if_pos z]
                · rw [if_neg (by decide), if_neg (by omega)]; rfl
              | true =>
                refine br_f (by decide) (hp _ _ _ _ _ _ _ _ _ _ _ _ _ _ _ hst (Or.inl ⟨_, jl, ?_⟩))
                rw [if_pos rfl]
                exact nI_add _ _
          · rw [es, eg]
            exact pl_nopair J ok lst lgt (lpl 0 (by omega)) (lgl 0 (by omega)) hno
end
end
section
section
variable {b_size : Int32} {b_isWall b_waysOut b_isSet b_place b_goal b_walkers b_steps b_cost b_good : Nat → Int32}
theorem yw_isCell {post : Int32 → Prop} {x : Int32} (h1 : ∀ c, c < 12 → x = nI c → post 1) (h0 : (∀ c, c < 12 → x ≠ nI c) → post 0) : wpY_isCell post (b_size, b_isWall, b_waysOut, b_isSet, b_place, b_goal, b_walkers, b_steps, b_cost, b_good) x := by
  refine br_c (fun hn => h0 fun c hc e => ?_) (fun hn => br_c (fun h => h0 fun c hc e => ?_) (fun h => ?_))
  · rw [e] at hn
    exact nI_pos (by omega) hn
  · rw [e] at h
    exact nI_nlt (a := 11) (b := c) (by omega) (by omega) h
  · obtain ⟨j, hj, rfl⟩ := nI_of hn
    have : j < 12 := by
      rcases Nat.lt_or_ge j 12 with z | z
      · exact z
      · exact absurd (nI_lt (a := 11) z hj) h
    exact h1 j this rfl
theorem yw_in {post : Int32 → Prop} {T w : Nat} (hT : T < 8) (hw : w < 3) (h1 : T.testBit w = true → post 1) (h0 : T.testBit w = false → post 0) : wpY_in post (b_size, b_isWall, b_waysOut, b_isSet, b_place, b_goal, b_walkers, b_steps, b_cost, b_good) (nI T) (nI w) :=
  xb_br (by omega) (by omega) h1 h0
theorem yw_b45 {post : Int32 → Prop} {r : Nat} {z0 z1 : Int32} (hr : r < 3) (q : Nat) (hq : z1 + z0 = nI q) (hq5 : q < 5) (h1 : q < 4 → post (nI (4 * r + q))) (h0 : q = 4 → post (-1)) : wY_beside_45 post (nI r) z0 z1 b_size b_isWall b_waysOut b_isSet b_place b_goal b_walkers b_steps b_cost b_good := by
  refine nm_r hq (br_f (nI_pos (by omega)) (br_f (nI_ge (b := 3) hr (by omega)) (br_f (nI_pos (by omega)) ?_)))
  refine pk_le 4 q (fun z => h0 (by omega)) (fun z => ?_)
  rw [xb_ix4]
  exact h1 z
theorem yw_beside {post : Int32 → Prop} {c d : Nat} (hc : c < 12) (hd : d < 4) (h : post (cg_eO (cg_bs c d))) : wpY_beside post (b_size, b_isWall, b_waysOut, b_isSet, b_place, b_goal, b_walkers, b_steps, b_cost, b_good) (nI c) (nI d) := by
  refine ⟨by decide, ?_⟩
  rw [xb_d 4 (show c < 2 ^ 31 by omega) (by omega)]
  have hd' : d = 0 ∨ d = 1 ∨ d = 2 ∨ d = 3 := by omega
  have h21 : ∀ z0 z1 : Int32, ∀ z, z1 + z0 = z → (d = 1 → wY_beside_45 post z 1 (nI (c % 4)) b_size b_isWall b_waysOut b_isSet b_place b_goal b_walkers b_steps b_cost b_good) → (d = 3 → wY_beside_45 post z (-1) (nI (c % 4)) b_size b_isWall b_waysOut b_isSet b_place b_goal b_walkers b_steps b_cost b_good) → (d ≠ 1 → d ≠ 3 → wY_beside_45 post z 0 (nI (c % 4)) b_size b_isWall b_waysOut b_isSet b_place b_goal b_walkers b_steps b_cost b_good) → wY_beside_21 post (nI c) (nI d) z0 z1 b_size b_isWall b_waysOut b_isSet b_place b_goal b_walkers b_steps b_cost b_good := by
    intro z0 z1 z hz a1 a3 a0
    refine nm_r hz ⟨by decide, ?_⟩
    rw [xb_r 4 (show c < 2 ^ 31 by omega) (by omega)]
    exact pk_eq d 1 a1 fun n1 => pk_eq d 3 a3 fun n3 => a0 n1 n3
  rcases hd' with rfl | rfl | rfl | rfl
  · refine br_t rfl ?_
    rcases Nat.lt_or_ge c 4 with z | z
    · have e : cg_bs c 0 = none := by unfold cg_bs; rw [if_pos rfl, if_neg (by omega)]
      rw [e] at h
      refine h21 _ _ (-1) (by rw [show c / 4 = 0 by omega]; rfl) (fun z => by omega) (fun z => by omega) (fun _ _ => nm_e (br_t (by decide) h))
    · have e : cg_bs c 0 = some (c - 4) := by unfold cg_bs; rw [if_pos rfl, if_pos (by omega)]
      rw [e] at h
      refine h21 _ _ (nI (c / 4 - 1)) (by rw [show c / 4 = (c / 4 - 1) + 1 by omega]; exact pk_m1 _) (fun z => by omega) (fun z => by omega) (fun _ _ => yw_b45 (by omega) (c % 4) (nI_add _ 0) (by omega) (fun _ => ?_) (fun z => by omega))
      rw [show 4 * (c / 4 - 1) + c % 4 = c - 4 by omega]; exact h
  · refine br_f (by decide) (br_f (by decide) ?_)
    refine h21 _ _ (nI (c / 4)) (nI_add _ 0) (fun _ => yw_b45 (by omega) (c % 4 + 1) (nI_1 _) (by omega) (fun z => ?_) (fun z => ?_)) (fun z => by omega) (fun z => absurd rfl z)
    · have e : cg_bs c 1 = some (c + 1) := by unfold cg_bs; rw [if_neg (by decide), if_pos rfl, if_pos (by omega)]
      rw [e] at h
      rw [show 4 * (c / 4) + (c % 4 + 1) = c + 1 by omega]; exact h
    · have e : cg_bs c 1 = none := by unfold cg_bs; rw [if_neg (by decide), if_pos rfl, if_neg (by omega)]
      rw [e] at h; exact h
  · refine br_f (by decide) (br_t rfl ?_)
    rcases Nat.lt_or_ge c 8 with z | z
    · have e : cg_bs c 2 = some (c + 4) := by unfold cg_bs; rw [if_neg (by decide), if_neg (by decide), if_pos rfl, if_pos (by omega)]
      rw [e] at h
      refine h21 _ _ (nI (c / 4 + 1)) (nI_1 _) (fun z => by omega) (fun z => by omega) (fun _ _ => yw_b45 (by omega) (c % 4) (nI_add _ 0) (by omega) (fun _ => ?_) (fun z => by omega))
      rw [show 4 * (c / 4 + 1) + c % 4 = c + 4 by omega]; exact h
    · have e : cg_bs c 2 = none := by unfold cg_bs; rw [if_neg (by decide), if_neg (by decide), if_pos rfl, if_neg (by omega)]
      rw [e] at h
      refine h21 _ _ (nI (c / 4 + 1)) (nI_1 _) (fun z => by omega) (fun z => by omega) (fun _ _ => nm_e (br_f (nI_pos (by omega)) (br_t (nI_le (a := 3) (by omega) (by omega)) h)))
  · refine br_f (by decide) (br_f (by decide) ?_)
    rcases Nat.eq_zero_or_pos (c % 4) with z | z
    · have e : cg_bs c 3 = none := by unfold cg_bs; rw [if_neg (by decide), if_neg (by decide), if_neg (by decide), if_neg (by omega)]
      rw [e] at h
      refine h21 _ _ (nI (c / 4)) (nI_add _ 0) (fun z => by omega) (fun _ => nm_r (e' := -1) (by rw [z]; rfl) (br_f (nI_pos (by omega)) (br_f (nI_ge (b := 3) (by omega) (by omega)) (br_t (by decide) h)))) (fun _ z => absurd rfl z)
    · have e : cg_bs c 3 = some (c - 1) := by unfold cg_bs; rw [if_neg (by decide), if_neg (by decide), if_neg (by decide), if_pos (by omega)]
      rw [e] at h
      refine h21 _ _ (nI (c / 4)) (nI_add _ 0) (fun z => by omega) (fun _ => yw_b45 (by omega) (c % 4 - 1) (by rw [show c % 4 = (c % 4 - 1) + 1 by omega]; exact pk_m1 _) (by omega) (fun _ => ?_) (fun z => by omega)) (fun _ z => absurd rfl z)
      rw [show 4 * (c / 4) + (c % 4 - 1) = c - 1 by omega]; exact h
def yw_W (W : Nat) (a : Nat → Int32) : Prop := ∀ c, c < 12 → a c = if W.testBit c = true then 1 else 0
theorem yw_Wb {W c : Nat} {a : Nat → Int32} {A B : Prop} (h : yw_W W a) (hc : c < 12) (f : W.testBit c = false → A) (g : W.testBit c = true → B) : (a c = 0 → A) ∧ (¬ a c = 0 → B) := by
  rw [h c hc]
  by_cases z : W.testBit c = true
  · rw [if_pos z]; exact br_f (by decide) (g z)
  · rw [if_neg z]; exact br_t rfl (f (ts_nt z))
/-- Y's table of steps; 4 stays -/
def yw_ys (W : Nat) (wy : Nat → Nat) (c d : Nat) : Option Nat := if d = 4 then (if W.testBit c = true then none else some c) else cg_tg W wy c d
def yw_SL (W : Nat) (wy : Nat → Nat) (m : Nat) (a : Nat → Int32) : Prop := ∀ j, j < m → a j = cg_eO (yw_ys W wy (j / 5) (j % 5))
theorem yw_f31 {post : SY → Prop} {J2 : Int32 → (Nat → Int32) → (Nat → Int32) → (Nat → Int32) → (Nat → Int32) → (Nat → Int32) → (Nat → Int32) → (Nat → Int32) → (Nat → Int32) → (Nat → Int32) → Prop} {W j : Nat} {wy : Nat → Nat} {z0 : Int32} (hW : yw_W W b_isWall) (hwy : ∀ c, c < 12 → b_waysOut c = nI (wy c) ∧ wy c < 16) (hj : j < 60)
    (hz : (j % 5 = 4 ∧ z0 = nI (j / 5)) ∨ (j % 5 ≠ 4 ∧ z0 = cg_eO (cg_bs (j / 5) (j % 5)))) (hJ : J2 (nI (j + 1)) b_isWall b_waysOut b_isSet b_place b_goal b_walkers (upd b_steps j (cg_eO (yw_ys W wy (j / 5) (j % 5)))) b_cost b_good) : wY_findSteps_31 post J2 (nI j) (nI (j / 5)) (nI (j % 5)) z0 b_size b_isWall b_waysOut b_isSet b_place b_goal b_walkers b_steps b_cost b_good := by
  have cj : (nI j).toNatClampNeg = j := nI_clamp (by omega)
  have vj : vp_in (nI j) 60 := vp_in_nI hj (by omega)
  have hc : j / 5 < 12 := by omega
  have vc : vp_in (nI (j / 5)) 12 := vp_in_nI hc (by omega)
  have no : ∀ x, yw_ys W wy (j / 5) (j % 5) = none → wY_findSteps_80 post J2 (nI j) x b_size b_isWall b_waysOut b_isSet b_place b_goal b_walkers b_steps b_cost b_good := fun x e => by
    rw [e] at hJ
    exact br_t rfl ⟨vj, nm_r (by rw [cj]; rfl) (nm_r (nI_1 j) hJ)⟩
  have yes : ∀ x, yw_ys W wy (j / 5) (j % 5) = some x → wY_findSteps_76 post J2 (nI j) (nI x) b_size b_isWall b_waysOut b_isSet b_place b_goal b_walkers b_steps b_cost b_good := fun x e => by
    rw [e] at hJ
    exact br_f (by decide) ⟨vj, nm_r (by rw [cj]; rfl) (nm_r (nI_1 j) hJ)⟩
  rcases hz with ⟨hd, rfl⟩ | ⟨hd, rfl⟩
  · have ey : yw_ys W wy (j / 5) (j % 5) = if W.testBit (j / 5) = true then none else some (j / 5) := if_pos hd
    refine br_f (nI_pos (by omega)) ⟨vc, ?_⟩
    rw [nI_clamp (show j / 5 < 2 ^ 31 by omega)]
    refine yw_Wb hW hc (fun h1 => ⟨vc, ?_⟩) (fun h1 => no _ (by rw [ey, if_pos h1]))
    refine yw_Wb hW hc (fun _ => ?_) (fun h2 => by rw [h1] at h2; cases h2)
    rw [hd]
    exact br_t rfl (yes _ (by rw [ey, h1]; rfl))
  · have ey : yw_ys W wy (j / 5) (j % 5) = cg_tg W wy (j / 5) (j % 5) := if_neg hd
    rcases hb : cg_bs (j / 5) (j % 5) with _ | o
    · exact br_t xb_neg (no _ (by rw [ey]; unfold cg_tg; rw [hb]; rfl))
    · obtain ⟨ho, _⟩ := cg_bs_ok hc hb
      have et : cg_tg W wy (j / 5) (j % 5) = if cg_can W wy (j / 5) (j % 5) o = true then some o else none := by unfold cg_tg; rw [hb]; rfl
      have nn : cg_can W wy (j / 5) (j % 5) o = false → yw_ys W wy (j / 5) (j % 5) = none := fun z => by rw [ey, et, z]; rfl
      refine br_f (nI_pos (by omega)) ⟨vc, ?_⟩
      rw [nI_clamp (show j / 5 < 2 ^ 31 by omega)]
      refine yw_Wb hW hc (fun h1 => ⟨vp_in_nI ho (by omega), ?_⟩) (fun h1 => no _ (nn (by unfold cg_can; rw [h1]; rfl)))
      rw [show (cg_eO (some o)).toNatClampNeg = o from nI_clamp (by omega)]
      refine yw_Wb hW ho (fun h2 => ?_) (fun h2 => no _ (nn (by unfold cg_can; rw [h1, h2]; rfl)))
      refine br_f (fun e => hd ((nI_eq (by omega) (by omega)).mp e)) ⟨vc, ?_⟩
      rw [(hwy _ hc).1]
      have := (hwy _ hc).2
      refine xb_br (by omega) (by omega) (fun h3 => yes o ?_) (fun h3 => no _ (nn (by unfold cg_can; rw [h3, Bool.and_false])))
      rw [ey, et, show cg_can W wy (j / 5) (j % 5) o = true by unfold cg_can; rw [h1, h2, h3]; rfl]; rfl
theorem yw_find2 {post : SY → Prop} {W : Nat} {wy : Nat → Nat} (hW : yw_W W b_isWall) (hwy : ∀ c, c < 12 → b_waysOut c = nI (wy c) ∧ wy c < 16) (h : ∀ b_steps, yw_SL W wy 60 b_steps → post (b_size, b_isWall, b_waysOut, b_isSet, b_place, b_goal, b_walkers, b_steps, b_cost, b_good)) :
    ∀ e j n b_steps, j + e = 60 → e < n → yw_SL W wy j b_steps → wY_findSteps_2 post b_size n (nI j) b_isWall b_waysOut b_isSet b_place b_goal b_walkers b_steps b_cost b_good := by
  intro e
  induction e with
  | zero =>
    intro j n b_steps hj hn hi
    obtain ⟨n, rfl⟩ : ∃ m, n = m + 1 := ⟨n - 1, by omega⟩
    obtain rfl : j = 60 := by omega
    exact br_t (by decide) (h b_steps hi)
  | succ e ih =>
    intro j n b_steps hj hn hi
    obtain ⟨n, rfl⟩ : ∃ m, n = m + 1 := ⟨n - 1, by omega⟩
    have step : yw_SL W wy (j + 1) (upd b_steps j (cg_eO (yw_ys W wy (j / 5) (j % 5)))) := by
      intro i hi'
      rcases Nat.decEq i j with z | rfl
      · rw [pk_un z]; exact hi i (by omega)
      · exact pk_us
    have nx := ih (j + 1) n _ (by omega) (by omega) step
    refine pk_le 60 j (fun _ => by omega) (fun hlt => ⟨by decide, nm_r (xb_d 5 (by omega) (by omega)) ⟨by decide, nm_r (xb_r 5 (by omega) (by omega)) ?_⟩⟩)
    refine pk_eq (j % 5) 4 (fun z => yw_f31 hW hwy hlt (Or.inl ⟨z, rfl⟩) nx) (fun z => ?_)
    exact yw_beside (by omega) (by omega) (yw_f31 hW hwy hlt (Or.inr ⟨z, rfl⟩) nx)
/-- what the rest needs of it -/
def yw_ST (tg : Nat → Nat → Option Nat) (op : Nat → Prop) (a : Nat → Int32) : Prop := ∀ c, c < 12 → (∀ d, d < 4 → a (5 * c + d) = cg_eO (tg c d)) ∧ (op c → a (5 * c + 4) = nI c) ∧ (¬ op c → a (5 * c + 4) = -1)
theorem yw_SLd {W : Nat} {wy : Nat → Nat} {a : Nat → Int32} (h : yw_SL W wy 60 a) : yw_ST (cg_tg W wy) (cg_op W) a := by
  intro c hc
  refine ⟨fun d hd => ?_, fun ho => ?_, fun ho => ?_⟩
  · rw [h (5 * c + d) (by omega), show (5 * c + d) / 5 = c by omega, show (5 * c + d) % 5 = d by omega]
    unfold yw_ys
    rw [if_neg (by omega)]
  · rw [h (5 * c + 4) (by omega), show (5 * c + 4) / 5 = c by omega, show (5 * c + 4) % 5 = 4 by omega]
    unfold yw_ys cg_op at *
    rw [if_pos rfl, ho]; rfl
  · rw [h (5 * c + 4) (by omega), show (5 * c + 4) / 5 = c by omega, show (5 * c + 4) % 5 = 4 by omega]
    unfold yw_ys cg_op at *
    rw [if_pos rfl, if_pos (ts_nf ho)]; rfl
theorem yw_findSteps {post : SY → Prop} {W : Nat} {wy : Nat → Nat} (hW : yw_W W b_isWall) (hwy : ∀ c, c < 12 → b_waysOut c = nI (wy c) ∧ wy c < 16) (h : ∀ b_steps, yw_ST (cg_tg W wy) (cg_op W) b_steps → post (b_size, b_isWall, b_waysOut, b_isSet, b_place, b_goal, b_walkers, b_steps, b_cost, b_good)) : wpY_findSteps post (b_size, b_isWall, b_waysOut, b_isSet, b_place, b_goal, b_walkers, b_steps, b_cost, b_good) :=
  ⟨61, yw_find2 hW hwy (fun b_steps hs => h b_steps (yw_SLd hs)) 60 0 61 b_steps (by omega) (by omega) fun j hj => by omega⟩
theorem yw_ch11 {post : SY → Prop} {T : Nat} (hT : T < 8) (h : ∀ b_walkers, (∀ i, i < tm_k T → b_walkers i = nI (tm_w T i)) → post (nI (tm_k T), b_isWall, b_waysOut, b_isSet, b_place, b_goal, b_walkers, b_steps, b_cost, b_good)) :
    ∀ e w n b_walkers, w + e = 3 → e < n → (∀ i, i < tm_c T w → b_walkers i = nI (tm_w T i)) → wY_choose_11 post (nI T) n (nI w) (nI (tm_c T w)) b_isWall b_waysOut b_isSet b_place b_goal b_walkers b_steps b_cost b_good := by
  intro e
  induction e with
  | zero =>
    intro w n b_walkers hw hn hi
    obtain ⟨n, rfl⟩ : ∃ m, n = m + 1 := ⟨n - 1, by omega⟩
    obtain rfl : w = 3 := by omega
    exact br_t (by decide) (h b_walkers hi)
  | succ e ih =>
    intro w n b_walkers hw hn hi
    obtain ⟨n, rfl⟩ : ∃ m, n = m + 1 := ⟨n - 1, by omega⟩
    have f := tm_f1 T hT w (by omega)
    refine pk_le 3 w (fun _ => by omega) (fun hlt => yw_in hT hlt (fun hb => ?_) (fun hb => ?_))
    · have f := f.1 hb
      refine br_f (by decide) ⟨vp_in_nI f.2.2 (by omega), nm_r (by rw [nI_clamp (by omega)]) (nm_r (nI_1 _) (nm_r (nI_1 w) ?_))⟩
      rw [← f.2.1]
      refine ih (w + 1) n _ (by omega) (by omega) fun i hl => ?_
      rw [f.2.1] at hl
      rcases Nat.decEq i (tm_c T w) with z | rfl
      · rw [pk_un z]; exact hi i (by omega)
      · rw [pk_us, f.1]
    · have f := f.2 hb
      refine br_t rfl (nm_r (nI_1 w) ?_)
      rw [← f]
      exact ih (w + 1) n b_walkers (by omega) (by omega) (by rw [f]; exact hi)
theorem yw_choose {post : SY → Prop} {W T : Nat} {wy : Nat → Nat} (h1 : 1 ≤ T) (hT : T < 8) (hW : yw_W W b_isWall) (hwy : ∀ c, c < 12 → b_waysOut c = nI (wy c) ∧ wy c < 16)
    (h : ∀ b_walkers b_steps, yw_ST (cg_tg W wy) (cg_op W) b_steps → tm_W (tm_k T) (tm_w T) b_walkers → post (nI (tm_k T), b_isWall, b_waysOut, b_isSet, b_place, b_goal, b_walkers, b_steps, b_cost, b_good)) : wpY_choose post (b_size, b_isWall, b_waysOut, b_isSet, b_place, b_goal, b_walkers, b_steps, b_cost, b_good) (nI T) := by
  refine yw_findSteps hW hwy fun b_steps hs => ⟨4, ?_⟩
  refine yw_ch11 hT (fun b_walkers hw => h b_walkers b_steps hs fun i hi => ⟨hw i hi, ?_⟩) 3 0 4 b_walkers (by omega) (by omega) fun i hi => ?_
  · have hk := (tm_f2 T hT h1).1
    have : i < 3 := by rcases hk with e | e | e <;> omega
    exact ((tm_f2 T hT h1).2 i this hi).1
  · have : tm_c T 0 = 0 := rfl
    omega
end
end
section
/-- Y counts the first walker's cell most: its number for X's, and back again -/
def rv_c (s : Nat) : Nat := 144 * (s % 12) + 12 * (s / 12 % 12) + s / 144 % 12
theorem rv_d (s : Nat) : rv_c s / 144 = s % 12 ∧ rv_c s / 12 % 12 = s / 12 % 12 ∧ rv_c s % 12 = s / 144 % 12 ∧ rv_c s < 1728 := by
  unfold rv_c
  have h0 : s % 12 < 12 := by omega
  have h1 : s / 12 % 12 < 12 := by omega
  have h2 : s / 144 % 12 < 12 := by omega
  generalize s % 12 = x at *
  generalize s / 12 % 12 = y at *
  generalize s / 144 % 12 = z at *
  exact ⟨by omega, by omega, by omega, by omega⟩
theorem rv_a {s : Nat} (hs : s < 1728) : 144 * (s / 144 % 12) + 12 * (s / 12 % 12) + s % 12 % 12 = s := by
  have h1 : s / 144 = s / 12 / 12 := (Nat.div_div_eq_div_mul s 12 12).symm
  rw [h1]
  have h2 : s / 12 / 12 < 12 := by omega
  omega
theorem rv_rv {s : Nat} (hs : s < 1728) : rv_c (rv_c s) = s := by
  obtain ⟨a, b, c, d⟩ := rv_d s
  have e : rv_c (rv_c s) = 144 * (rv_c s % 12) + 12 * (rv_c s / 12 % 12) + rv_c s / 144 % 12 := rfl
  rw [e, a, b, c]
  exact rv_a hs
theorem rv_inj {s t : Nat} (hs : s < 1728) (ht : t < 1728) (h : rv_c s = rv_c t) : s = t := by
  rw [← rv_rv hs, ← rv_rv ht, h]
theorem rv_lt (s : Nat) : rv_c s < 1728 := (rv_d s).2.2.2
section
variable {tg : Nat → Nat → Option Nat} {op : Nat → Prop} {k : Nat} {wh : Nat → Nat}
def mo_nY (tg : Nat → Nat → Option Nat) (c o : Nat) : Option Nat := if o = 4 then some c else tg c o
theorem mo_nY_mv {c o c' : Nat} (ho : o < 5) (h : mo_nY tg c o = some c') : mo_mv tg c c' := by
  unfold mo_nY at h
  split at h
  · cases h; exact Or.inl rfl
  · exact Or.inr ⟨o, by omega, h⟩
theorem mo_nY_lt (ok : cg_OK tg op) {c o c' : Nat} (hc : c < 12) (h : mo_nY tg c o = some c') : c' < 12 := by
  unfold mo_nY at h
  split at h
  · cases h; exact hc
  · exact (ok c _ c' hc h).1
theorem mo_mv_nY {c c' : Nat} (h : mo_mv tg c c') : ∃ o, o < 5 ∧ mo_nY tg c o = some c' := by
  rcases h with rfl | ⟨d, hd, h⟩
  · exact ⟨4, by omega, rfl⟩
  · exact ⟨d, by omega, by unfold mo_nY; rw [if_neg (by omega)]; exact h⟩
theorem mo_nY_ne (ok : cg_OK tg op) {c o c' : Nat} (hc : c < 12) (ho : o < 5) (h : mo_nY tg c o = some c') : mo_ne c' c = if o < 4 then 1 else 0 := by
  unfold mo_nY at h
  split at h
  · cases h; rw [mo_ne_s, if_neg (by omega)]
  · rw [if_pos (by omega), mo_ne_n]
    intro e
    exact (ok c o c' hc h).2.2.2 (by rw [e])
/-- t comes of s by Y's turn tu -/
def mo_bY (tg : Nat → Nat → Option Nat) (k s tu t : Nat) : Prop :=
  t < mo_N k ∧ mo_nY tg (s % 12) (tu / 25) = some (t % 12) ∧
  (2 ≤ k → mo_nY tg (s / 12 % 12) (tu / 5 % 5) = some (t / 12 % 12) ∧ mo_cl (s % 12) (s / 12 % 12) (t % 12) (t / 12 % 12)) ∧
  (3 ≤ k → mo_nY tg (s / 144 % 12) (tu % 5) = some (t / 144 % 12) ∧ mo_cl (s % 12) (s / 144 % 12) (t % 12) (t / 144 % 12) ∧ mo_cl (s / 12 % 12) (s / 144 % 12) (t / 12 % 12) (t / 144 % 12))
theorem mo_bY_M {s tu t : Nat} (htu : tu < 125) (h : mo_bY tg k s tu t) : mo_M tg k s t :=
  ⟨h.1, mo_nY_mv (by omega) h.2.1, fun h2 => ⟨mo_nY_mv (by omega) (h.2.2.1 h2).1, (h.2.2.1 h2).2⟩, fun h3 => ⟨mo_nY_mv (by omega) (h.2.2.2 h3).1, (h.2.2.2 h3).2⟩⟩
theorem mo_M_bY {s t : Nat} (h : mo_M tg k s t) : ∃ tu, tu < 125 ∧ mo_bY tg k s tu t := by
  obtain ⟨ht, m0, m1, m2⟩ := h
  obtain ⟨o0, l0, n0⟩ := mo_mv_nY m0
  have e1 : ∃ o1, o1 < 5 ∧ (2 ≤ k → mo_nY tg (s / 12 % 12) o1 = some (t / 12 % 12)) := by
    rcases Nat.lt_or_ge k 2 with z | z
    · exact ⟨0, by omega, fun q => by omega⟩
    · obtain ⟨o, lo, no⟩ := mo_mv_nY (m1 z).1
      exact ⟨o, lo, fun _ => no⟩
  have e2 : ∃ o2, o2 < 5 ∧ (3 ≤ k → mo_nY tg (s / 144 % 12) o2 = some (t / 144 % 12)) := by
    rcases Nat.lt_or_ge k 3 with z | z
    · exact ⟨0, by omega, fun q => by omega⟩
    · obtain ⟨o, lo, no⟩ := mo_mv_nY (m2 z).1
      exact ⟨o, lo, fun _ => no⟩
  obtain ⟨o1, l1, n1⟩ := e1
  obtain ⟨o2, l2, n2⟩ := e2
  have q0 : (25 * o0 + 5 * o1 + o2) / 25 = o0 := by omega
  have q1 : (25 * o0 + 5 * o1 + o2) / 5 % 5 = o1 := by omega
  have q2 : (25 * o0 + 5 * o1 + o2) % 5 = o2 := by omega
  exact ⟨25 * o0 + 5 * o1 + o2, by omega, ht, by rw [q0]; exact n0, fun h2 => ⟨by rw [q1]; exact n1 h2, (m1 h2).2⟩, fun h3 => ⟨by rw [q2]; exact n2 h3, (m2 h3).2⟩⟩
theorem mo_bY_u {s tu t t' : Nat} (hk : mo_K k) (h : mo_bY tg k s tu t) (h' : mo_bY tg k s tu t') : t = t' := by
  have o : ∀ {a : Option Nat} {x y : Nat}, a = some x → a = some y → x = y := fun h1 h2 => by
    have := h1.symm.trans h2
    cases this; rfl
  exact mo_ext hk h.1 h'.1 (o h.2.1 h'.2.1) (fun z => o (h.2.2.1 z).1 (h'.2.2.1 z).1) (fun z => o (h.2.2.2 z).1 (h'.2.2.2 z).1)
def yw_ef (k tu : Nat) : Nat := (if tu / 25 < 4 then 1 else 0) + (if 2 ≤ k then (if tu / 5 % 5 < 4 then 1 else 0) else 0) + (if 3 ≤ k then (if tu % 5 < 4 then 1 else 0) else 0)
theorem yw_ef_le (k tu : Nat) : yw_ef k tu ≤ 3 := by
  unfold yw_ef
  repeat' split
  all_goals omega
theorem yw_ef_e (ok : cg_OK tg op) {s tu t : Nat} (htu : tu < 125) (h : mo_bY tg k s tu t) : yw_ef k tu = mo_ef k s t := by
  unfold yw_ef mo_ef
  rw [mo_nY_ne ok (by omega) (by omega) h.2.1]
  congr 1
  · congr 1
    by_cases z : 2 ≤ k
    · rw [if_pos z, if_pos z, mo_nY_ne ok (by omega) (by omega) (h.2.2.1 z).1]
    · rw [if_neg z, if_neg z]
  · by_cases z : 3 ≤ k
    · rw [if_pos z, if_pos z, mo_nY_ne ok (by omega) (by omega) (h.2.2.2 z).1]
    · rw [if_neg z, if_neg z]
variable {b_size : Int32} {b_isWall b_waysOut b_isSet b_place b_goal b_walkers b_steps b_cost b_good : Nat → Int32}
theorem yw_STn {c o : Nat} (hst : yw_ST tg op b_steps) (hc : c < 12) (ho : o < 5) (hop : op c) : b_steps (5 * c + o) = cg_eO (mo_nY tg c o) := by
  unfold mo_nY
  by_cases z : o = 4
  · rw [if_pos z, z]; exact (hst c hc).2.1 hop
  · rw [if_neg z]; exact (hst c hc).1 o (by omega)
theorem yw_sS {post : Int32 → Prop} {pl : Nat → Nat} {n i v : Nat} (hk : mo_K k) (hw : tm_W k wh b_walkers) (hp : ∀ w, w < 3 → b_place w = nI (pl w) ∧ pl w < 12) (hi : i < k) (h : wY_start_4 post (nI k) b_isWall b_waysOut b_isSet b_place b_goal b_walkers b_steps b_cost b_good n (nI (12 * v + pl (wh i))) (nI (i + 1))) : wY_start_4 post (nI k) b_isWall b_waysOut b_isSet b_place b_goal b_walkers b_steps b_cost b_good (n + 1) (nI v) (nI i) := by
  have hk3 : k ≤ 3 := by rcases hk with e | e | e <;> omega
  refine br_f (nI_ge (b := 3) (by omega) (by omega)) (pk_le k i (fun _ => by omega) (fun _ => ⟨vp_in_nI (by omega) (by omega), ?_⟩))
  rw [nI_clamp (by omega), (hw i hi).1]
  have := (hw i hi).2
  refine ⟨vp_in_nI this (by omega), nm_r ?_ (nm_r (nI_1 i) h)⟩
  rw [nI_clamp (by omega), (hp _ this).1, xb_ix12]
theorem yw_sN {post : Int32 → Prop} {n i v : Nat} (hk : mo_K k) (hi : k ≤ i) (h3 : i < 3) (h : wY_start_4 post (nI k) b_isWall b_waysOut b_isSet b_place b_goal b_walkers b_steps b_cost b_good n (nI (12 * v)) (nI (i + 1))) : wY_start_4 post (nI k) b_isWall b_waysOut b_isSet b_place b_goal b_walkers b_steps b_cost b_good (n + 1) (nI v) (nI i) :=
  br_f (nI_ge (b := 3) h3 (by omega)) (pk_le k i (fun _ => nm_r (xb_ix12 v 0) (nm_r (nI_1 i) h)) (fun _ => by omega))
theorem yw_fS {post : Int32 → Prop} {pl : Nat → Nat} {n i v : Nat} (hk : mo_K k) (hw : tm_W k wh b_walkers) (hp : ∀ w, w < 3 → b_goal w = nI (pl w) ∧ pl w < 12) (hi : i < k) (h : wY_finish_4 post (nI k) b_isWall b_waysOut b_isSet b_place b_goal b_walkers b_steps b_cost b_good n (nI (12 * v + pl (wh i))) (nI (i + 1))) : wY_finish_4 post (nI k) b_isWall b_waysOut b_isSet b_place b_goal b_walkers b_steps b_cost b_good (n + 1) (nI v) (nI i) := by
  have hk3 : k ≤ 3 := by rcases hk with e | e | e <;> omega
  refine br_f (nI_ge (b := 3) (by omega) (by omega)) (pk_le k i (fun _ => by omega) (fun _ => ⟨vp_in_nI (by omega) (by omega), ?_⟩))
  rw [nI_clamp (by omega), (hw i hi).1]
  have := (hw i hi).2
  refine ⟨vp_in_nI this (by omega), nm_r ?_ (nm_r (nI_1 i) h)⟩
  rw [nI_clamp (by omega), (hp _ this).1, xb_ix12]
theorem yw_fN {post : Int32 → Prop} {n i v : Nat} (hk : mo_K k) (hi : k ≤ i) (h3 : i < 3) (h : wY_finish_4 post (nI k) b_isWall b_waysOut b_isSet b_place b_goal b_walkers b_steps b_cost b_good n (nI (12 * v)) (nI (i + 1))) : wY_finish_4 post (nI k) b_isWall b_waysOut b_isSet b_place b_goal b_walkers b_steps b_cost b_good (n + 1) (nI v) (nI i) :=
  br_f (nI_ge (b := 3) h3 (by omega)) (pk_le k i (fun _ => nm_r (xb_ix12 v 0) (nm_r (nI_1 i) h)) (fun _ => by omega))
theorem rv_s {p : Nat → Nat} (hk : mo_K k) (hp : ∀ i, i < k → p i < 12) : rv_c (tm_s k p) = if k = 1 then 12 * (12 * (12 * 0 + p 0)) else if k = 2 then 12 * (12 * (12 * 0 + p 0) + p 1) else 12 * (12 * (12 * 0 + p 0) + p 1) + p 2 := by
  have d := tm_s_d hk hp
  unfold rv_c
  rcases hk with rfl | rfl | rfl
  · have := hp 0 (by omega)
    have e : tm_s 1 p = p 0 := rfl
    rw [if_pos rfl, e]
    omega
  · have := hp 0 (by omega)
    have := hp 1 (by omega)
    have e : tm_s 2 p = p 0 + 12 * p 1 := rfl
    rw [if_neg (by omega), if_pos rfl, e]
    omega
  · rw [if_neg (by omega), if_neg (by omega), d.1, d.2.1 (by omega), d.2.2 (by omega)]
    omega
theorem yw_start {post : Int32 → Prop} {pl : Nat → Nat} (hk : mo_K k) (hw : tm_W k wh b_walkers) (hp : ∀ w, w < 3 → b_place w = nI (pl w) ∧ pl w < 12) (h : post (nI (rv_c (tm_s k fun i => pl (wh i))))) : wpY_start post (nI k, b_isWall, b_waysOut, b_isSet, b_place, b_goal, b_walkers, b_steps, b_cost, b_good) := by
  refine ⟨4, ?_⟩
  rw [rv_s hk (fun i hi => (hp _ (hw i hi).2).2)] at h
  rcases hk with rfl | rfl | rfl
  · exact yw_sS (n := 3) (i := 0) (v := 0) (Or.inl rfl) hw hp (by omega) (yw_sN (n := 2) (i := 1) (Or.inl rfl) (by omega) (by omega) (yw_sN (n := 1) (i := 2) (Or.inl rfl) (by omega) (by omega) (br_t (by decide) h)))
  · exact yw_sS (n := 3) (i := 0) (v := 0) (Or.inr (Or.inl rfl)) hw hp (by omega) (yw_sS (n := 2) (i := 1) (Or.inr (Or.inl rfl)) hw hp (by omega) (yw_sN (n := 1) (i := 2) (Or.inr (Or.inl rfl)) (by omega) (by omega) (br_t (by decide) h)))
  · exact yw_sS (n := 3) (i := 0) (v := 0) (Or.inr (Or.inr rfl)) hw hp (by omega) (yw_sS (n := 2) (i := 1) (Or.inr (Or.inr rfl)) hw hp (by omega) (yw_sS (n := 1) (i := 2) (Or.inr (Or.inr rfl)) hw hp (by omega) (br_t (by decide) h)))
theorem yw_finish {post : Int32 → Prop} {pl : Nat → Nat} (hk : mo_K k) (hw : tm_W k wh b_walkers) (hp : ∀ w, w < 3 → b_goal w = nI (pl w) ∧ pl w < 12) (h : post (nI (rv_c (tm_s k fun i => pl (wh i))))) : wpY_finish post (nI k, b_isWall, b_waysOut, b_isSet, b_place, b_goal, b_walkers, b_steps, b_cost, b_good) := by
  refine ⟨4, ?_⟩
  rw [rv_s hk (fun i hi => (hp _ (hw i hi).2).2)] at h
  rcases hk with rfl | rfl | rfl
  · exact yw_fS (n := 3) (i := 0) (v := 0) (Or.inl rfl) hw hp (by omega) (yw_fN (n := 2) (i := 1) (Or.inl rfl) (by omega) (by omega) (yw_fN (n := 1) (i := 2) (Or.inl rfl) (by omega) (by omega) (br_t (by decide) h)))
  · exact yw_fS (n := 3) (i := 0) (v := 0) (Or.inr (Or.inl rfl)) hw hp (by omega) (yw_fS (n := 2) (i := 1) (Or.inr (Or.inl rfl)) hw hp (by omega) (yw_fN (n := 1) (i := 2) (Or.inr (Or.inl rfl)) (by omega) (by omega) (br_t (by decide) h)))
  · exact yw_fS (n := 3) (i := 0) (v := 0) (Or.inr (Or.inr rfl)) hw hp (by omega) (yw_fS (n := 2) (i := 1) (Or.inr (Or.inr rfl)) hw hp (by omega) (yw_fS (n := 1) (i := 2) (Or.inr (Or.inr rfl)) hw hp (by omega) (br_t (by decide) h)))
theorem yw_clash {post : Int32 → Prop} {a b a' b' : Nat} (ha : a < 12) (hb : b < 12) (ha' : a' < 12) (hb' : b' < 12) (h1 : ¬ mo_cl a b a' b' → post 1) (h0 : mo_cl a b a' b' → post 0) : wpY_clash post (b_size, b_isWall, b_waysOut, b_isSet, b_place, b_goal, b_walkers, b_steps, b_cost, b_good) (nI a) (nI b) (nI a') (nI b') :=
  pk_eq a' b' (fun e => h1 fun q => q.1 e) fun e => pk_eq a' b (fun e1 => pk_eq b' a (fun e2 => h1 fun q => q.2 ⟨e1, e2⟩) fun e2 => h0 ⟨e, fun q => e2 q.2⟩) fun e1 => h0 ⟨e, fun q => e1 q.1⟩
theorem yw_a101 {post : Int32 → Prop} {a b c : Nat} {ox oy oz : Option Nat} (hk : mo_K k) (ha : a < 12) (hb : b < 12) (hc : c < 12) (lx : ∀ x, ox = some x → x < 12) (ly : ∀ x, oy = some x → x < 12) (lz : ∀ x, oz = some x → x < 12)
    (h1 : ∀ x y z, ox = some x → oy = some y → oz = some z → (2 ≤ k → mo_cl a b x y) → (3 ≤ k → mo_cl a c x z ∧ mo_cl b c y z) → post (nI (144 * x + 12 * y + z)))
    (h0 : (∀ x y z, ox = some x → oy = some y → oz = some z → (2 ≤ k → mo_cl a b x y) → (3 ≤ k → mo_cl a c x z ∧ mo_cl b c y z) → False) → post (-1)) : wY_after_101 post (nI a) (nI b) (nI c) (cg_eO ox) (cg_eO oy) (cg_eO oz) (nI k) b_isWall b_waysOut b_isSet b_place b_goal b_walkers b_steps b_cost b_good := by
  have hk3 : 1 ≤ k ∧ k ≤ 3 := by rcases hk with e | e | e <;> omega
  rcases ox with _ | x
  · exact br_t xb_neg (h0 fun _ _ _ e => nomatch e)
  have lx := lx x rfl
  refine br_f (nI_pos (by omega)) ?_
  rcases oy with _ | y
  · exact br_t xb_neg (h0 fun _ _ _ _ e => nomatch e)
  have ly := ly y rfl
  refine br_f (nI_pos (by omega)) ?_
  rcases oz with _ | z
  · exact br_t xb_neg (h0 fun _ _ _ _ _ e => nomatch e)
  have lz := lz z rfl
  refine br_f (nI_pos (by omega)) ?_
  have h0' : ¬ ((2 ≤ k → mo_cl a b x y) ∧ (3 ≤ k → mo_cl a c x z ∧ mo_cl b c y z)) → post (-1) := fun hn => h0 fun x' y' z' e1 e2 e3 q1 q2 => by
    cases e1
    cases e2
    cases e3
    exact hn ⟨q1, q2⟩
  have fin : (2 ≤ k → mo_cl a b x y) → wY_after_140 post (nI a) (nI b) (nI c) (nI x) (nI y) (nI z) (nI k) b_isWall b_waysOut b_isSet b_place b_goal b_walkers b_steps b_cost b_good := by
    intro q1
    have val : (144 * nI x) + (12 * nI y) + nI z = nI (144 * x + 12 * y + z) := by
      rw [show (144 : Int32) = nI 144 from rfl, show (12 : Int32) = nI 12 from rfl, pk_mul, pk_mul, nI_add, nI_add]
    refine pk_le k 2 (fun z2 => ?_) (fun z2 => ?_)
    · show post _
      rw [val]; exact h1 x y z rfl rfl rfl q1 (fun q => by omega)
    · refine yw_clash ha hc lx lz (fun q => br_f (by decide) (h0' fun r => q (r.2 (by omega)).1)) (fun q2 => br_t rfl ?_)
      refine yw_clash hb hc ly lz (fun q => br_f (by decide) (h0' fun r => q (r.2 (by omega)).2)) (fun q3 => br_t rfl ?_)
      show post _
      rw [val]; exact h1 x y z rfl rfl rfl q1 (fun _ => ⟨q2, q3⟩)
  refine pk_le k 1 (fun z1 => fin fun q => by omega) (fun z1 => ?_)
  exact yw_clash ha hb lx ly (fun q => br_f (by decide) (h0' fun r => q (r.1 (by omega)))) (fun q1 => br_t rfl (fin fun _ => q1))
theorem yw_after {post : Int32 → Prop} {s tu : Nat} (hk : mo_K k) (ok : cg_OK tg op) (hst : yw_ST tg op b_steps) (hs : s < mo_N k) (hO : mo_O op k s) (htu : tu < 125)
    (h0 : (∀ t, ¬ mo_bY tg k s tu t) → post (-1)) (h1 : ∀ t, mo_bY tg k s tu t → post (nI (rv_c t))) : wpY_after post (nI k, b_isWall, b_waysOut, b_isSet, b_place, b_goal, b_walkers, b_steps, b_cost, b_good) (nI (rv_c s)) (nI tu) := by
  have lr := rv_lt s
  obtain ⟨r0, r1, r2, r3⟩ := rv_d s
  have hk3 : 1 ≤ k ∧ k ≤ 3 := by rcases hk with e | e | e <;> omega
  refine ⟨by decide, nm_r (e' := nI (s % 12)) (by rw [xb_d 144 (by omega) (by omega), r0]) ⟨by decide, by decide, nm_r (e' := nI (s / 12 % 12)) (by rw [xb_d 12 (by omega) (by omega), xb_r 12 (by omega) (by omega), r1]) ⟨by decide, nm_r (e' := nI (s / 144 % 12)) (by rw [xb_r 12 (by omega) (by omega), r2]) (br_f (nI_ge (a := 0) (b := k) (by omega) (by omega)) ⟨by decide, ?_⟩)⟩⟩⟩
  rw [xb_d 25 (show tu < 2 ^ 31 by omega) (by omega), xb_ix5]
  refine ⟨vp_in_nI (by omega) (by omega), ?_⟩
  rw [nI_clamp (by omega), yw_STn hst (by omega) (by omega) hO.1]
  have l0 : ∀ x, mo_nY tg (s % 12) (tu / 25) = some x → x < 12 := fun x hx => mo_nY_lt ok (by omega) hx
  have l1 : ∀ x, mo_nY tg (s / 12 % 12) (tu / 5 % 5) = some x → x < 12 := fun x hx => mo_nY_lt ok (by omega) hx
  have l2 : ∀ x, mo_nY tg (s / 144 % 12) (tu % 5) = some x → x < 12 := fun x hx => mo_nY_lt ok (by omega) hx
  refine pk_le k 1 (fun z1 => ?_) (fun z1 => ?_)
  · refine pk_le k 2 (fun z2 => ?_) (fun z2 => by omega)
    obtain rfl : k = 1 := by omega
    refine yw_a101 (k := 1) (oy := some 0) (oz := some 0) (Or.inl rfl) (by omega) (by omega) (by omega) l0 (fun x e => by cases e; omega) (fun x e => by cases e; omega) (fun x y z e1 e2 e3 _ _ => ?_) (fun hn => h0 fun t ht => hn (t % 12) 0 0 ht.2.1 rfl rfl (fun z => by omega) (fun z => by omega))
    cases e2
    cases e3
    have lx := l0 x e1
    rw [show 144 * x + 12 * 0 + 0 = rv_c x by unfold rv_c; omega]
    exact h1 x ⟨lx, by rw [Nat.mod_eq_of_lt lx]; exact e1, fun z => by omega, fun z => by omega⟩
  · refine ⟨by decide, by decide, ?_⟩
    rw [xb_d 5 (show tu < 2 ^ 31 by omega) (by omega), xb_r 5 (show tu / 5 < 2 ^ 31 by omega) (by omega), xb_ix5]
    refine ⟨vp_in_nI (by omega) (by omega), ?_⟩
    rw [nI_clamp (by omega), yw_STn hst (by omega) (by omega) (hO.2.1 (by omega))]
    refine pk_le k 2 (fun z2 => ?_) (fun z2 => ⟨by decide, ?_⟩)
    · obtain rfl : k = 2 := by omega
      refine yw_a101 (k := 2) (oz := some 0) (Or.inr (Or.inl rfl)) (by omega) (by omega) (by omega) l0 l1 (fun x e => by cases e; omega) (fun x y z e1 e2 e3 q1 _ => ?_) (fun hn => h0 fun t ht => hn (t % 12) (t / 12 % 12) 0 ht.2.1 (ht.2.2.1 (by omega)).1 rfl (fun _ => (ht.2.2.1 (by omega)).2) (fun z => by omega))
      cases e3
      have lx := l0 x e1
      have ly := l1 y e2
      have d0 : (x + 12 * y) % 12 = x := by omega
      have d1 : (x + 12 * y) / 12 % 12 = y := by omega
      have d2 : (x + 12 * y) / 144 % 12 = 0 := by omega
      rw [show 144 * x + 12 * y + 0 = rv_c (x + 12 * y) by unfold rv_c; rw [d0, d1, d2]]
      exact h1 _ ⟨by show x + 12 * y < 144; omega, by rw [d0]; exact e1, fun _ => by rw [d0, d1]; exact ⟨e2, q1 (by omega)⟩, fun z => by omega⟩
    · obtain rfl : k = 3 := by omega
      rw [xb_r 5 (show tu < 2 ^ 31 by omega) (by omega), xb_ix5]
      refine ⟨vp_in_nI (by omega) (by omega), ?_⟩
      rw [nI_clamp (by omega), yw_STn hst (by omega) (by omega) (hO.2.2 (by omega))]
      refine yw_a101 (k := 3) (Or.inr (Or.inr rfl)) (by omega) (by omega) (by omega) l0 l1 l2 (fun x y z e1 e2 e3 q1 q2 => ?_) (fun hn => h0 fun t ht => hn (t % 12) (t / 12 % 12) (t / 144 % 12) ht.2.1 (ht.2.2.1 (by omega)).1 (ht.2.2.2 (by omega)).1 (fun _ => (ht.2.2.1 (by omega)).2) (fun _ => (ht.2.2.2 (by omega)).2))
      have lx := l0 x e1
      have ly := l1 y e2
      have lz := l2 z e3
      obtain ⟨d0, d1, d2, d3⟩ := mo_dig lx ly lz
      rw [show 144 * x + 12 * y + z = rv_c (x + 12 * y + 144 * z) by unfold rv_c; rw [d0, d1, d2]]
      exact h1 _ ⟨d3, by rw [d0]; exact e1, fun _ => by rw [d0, d1]; exact ⟨e2, q1 (by omega)⟩, fun _ => by rw [d0, d1, d2]; exact ⟨e3, q2 (by omega)⟩⟩
theorem yw_effort {post : Int32 → Prop} {tu : Nat} (hk : mo_K k) (htu : tu < 125) (h : post (nI (yw_ef k tu))) : wpY_effort post (nI k, b_isWall, b_waysOut, b_isSet, b_place, b_goal, b_walkers, b_steps, b_cost, b_good) (nI tu) := by
  have hk3 : 1 ≤ k ∧ k ≤ 3 := by rcases hk with e | e | e <;> omega
  have e38 : ∀ v, post (nI (v + (if 3 ≤ k then (if tu % 5 < 4 then 1 else 0) else 0))) → wY_effort_38 post (nI tu) (nI v) (nI k) b_isWall b_waysOut b_isSet b_place b_goal b_walkers b_steps b_cost b_good := by
    intro v hv
    refine pk_le k 2 (fun z => ?_) (fun z => ⟨by decide, ?_⟩)
    · rw [if_neg (by omega)] at hv; exact hv
    · rw [xb_r 5 (show tu < 2 ^ 31 by omega) (by omega)]
      rw [if_pos (by omega)] at hv
      refine pk_le 4 (tu % 5) (fun q => ?_) (fun q => ?_)
      · rw [if_neg (by omega)] at hv; exact hv
      · rw [if_pos q] at hv
        rw [nI_1]; exact hv
  have e13 : ∀ v, post (nI (v + (if 2 ≤ k then (if tu / 5 % 5 < 4 then 1 else 0) else 0) + (if 3 ≤ k then (if tu % 5 < 4 then 1 else 0) else 0))) → wY_effort_13 post (nI tu) (nI v) (nI k) b_isWall b_waysOut b_isSet b_place b_goal b_walkers b_steps b_cost b_good := by
    intro v hv
    refine pk_le k 1 (fun z => e38 v ?_) (fun z => ⟨by decide, by decide, ?_⟩)
    · rw [if_neg (show ¬ 2 ≤ k by omega)] at hv; exact hv
    · rw [xb_d 5 (show tu < 2 ^ 31 by omega) (by omega), xb_r 5 (show tu / 5 < 2 ^ 31 by omega) (by omega)]
      rw [if_pos (show 2 ≤ k by omega)] at hv
      refine pk_le 4 (tu / 5 % 5) (fun q => e38 v ?_) (fun q => ?_)
      · rw [if_neg (show ¬ tu / 5 % 5 < 4 by omega)] at hv; exact hv
      · rw [if_pos q] at hv
        rw [nI_1]
        exact e38 (v + 1) hv
  refine ⟨by decide, ?_⟩
  rw [xb_d 25 (show tu < 2 ^ 31 by omega) (by omega)]
  unfold yw_ef at h
  refine pk_le 4 (tu / 25) (fun q => e13 0 ?_) (fun q => e13 1 ?_)
  · rw [if_neg (show ¬ tu / 25 < 4 by omega)] at h; exact h
  · rw [if_pos (show tu / 25 < 4 by omega)] at h; exact h
end
end
section
def dj_S (E : Nat → Nat → Nat → Prop) (N st c : Nat) (C : Nat → Nat) : Prop := C st = 0 ∧ (∀ s, C s ≤ 1000000) ∧ (∀ s, C s < 1000000 → s < N ∧ gr_R E (C s) st s ∧ C s ≤ c + 3)
def dj_le (c : Nat) (C C' : Nat → Nat) : Prop := ∀ x, C' x = C x ∨ (c < C' x ∧ C' x < C x)
theorem dj_le_r (c : Nat) (C : Nat → Nat) : dj_le c C C := fun _ => Or.inl rfl
theorem dj_le_t {c : Nat} {C C' C'' : Nat → Nat} (h : dj_le c C C') (h' : dj_le c C' C'') : dj_le c C C'' := by
  intro x
  have a := h x
  have b := h' x
  omega
/-- everything is known: the least costs from st -/
def dj_F (E : Nat → Nat → Nat → Prop) (st : Nat) (C : Nat → Nat) : Prop := ∀ s, (C s < 1728 ∧ gr_L E (C s) st s) ∨ (C s = 1000000 ∧ ∀ n, ¬ gr_R E n st s)
/-- Y's array of costs, by X's numbers -/
def yc_R (C : Nat → Nat) (a : Nat → Int32) : Prop := ∀ s, s < 1728 → (C s = 1000000 ∧ a (rv_c s) = -1) ∨ (C s < 1000000 ∧ a (rv_c s) = nI (C s))
theorem yc_Ru {C : Nat → Nat} {a : Nat → Int32} (R : yc_R C a) {t v : Nat} (ht : t < 1728) (hv : v < 1000000) : yc_R (ag_up C t v) (upd a (rv_c t) (nI v)) := by
  intro s hs
  rcases Nat.decEq s t with e | rfl
  · rw [ag_un _ _ e, pk_un (fun z => e (rv_inj hs ht z))]
    exact R s hs
  · rw [ag_us, pk_us]
    exact Or.inr ⟨hv, rfl⟩
theorem dj_relax {E : Nat → Nat → Nat → Prop} {N st c s t w : Nat} {C : Nat → Nat} (S : dj_S E N st c C) (hE : s < N ∧ t < N ∧ w ≤ 3 ∧ (s ≠ t → 1 ≤ w)) (e : E s t w) (hs : C s = c) (hc : c < 2000) (hlt : c + w < C t) : dj_S E N st c (ag_up C t (c + w)) ∧ dj_le c C (ag_up C t (c + w)) := by
  obtain ⟨s1, s2, s3⟩ := S
  have hst : s ≠ t := fun z => by rw [← z, hs] at hlt; omega
  have htt : st ≠ t := fun z => by rw [← z, s1] at hlt; omega
  have hw := hE.2.2.2 hst
  refine ⟨⟨by rw [ag_un _ _ htt]; exact s1, fun x => ?_, fun x hx => ?_⟩, fun x => ?_⟩
  · rcases Nat.decEq x t with z | rfl
    · rw [ag_un _ _ z]; exact s2 x
    · rw [ag_us]; omega
  · rcases Nat.decEq x t with z | rfl
    · rw [ag_un _ _ z] at hx ⊢; exact s3 x hx
    · rw [ag_us]
      have := (s3 s (by omega)).2.1
      rw [hs] at this
      exact ⟨hE.2.1, gr_rs this e, by omega⟩
  · rcases Nat.decEq x t with z | rfl
    · rw [ag_un _ _ z]; exact Or.inl rfl
    · rw [ag_us]; exact Or.inr ⟨by omega, hlt⟩
theorem dj_opt {E : Nat → Nat → Nat → Prop} {st c : Nat} {C : Nat → Nat} (h0 : C st = 0) (hA : ∀ s t w, C s < c → E s t w → C t ≤ C s + w) {n t : Nat} (h : gr_R E n st t) : n < c → C t ≤ n := by
  refine gr_ind (P := fun n t => n < c → C t ≤ n) (fun _ => by omega) ?_ h
  intro n u t w _ ih e hn
  have h1 := ih (by omega)
  have h2 := hA u t w (by omega) e
  omega
theorem dj_done {E : Nat → Nat → Nat → Prop} {N st c c' : Nat} {C : Nat → Nat} (S : dj_S E N st c' C) (hE : ∀ s t w, E s t w → w ≤ 3) (hA : ∀ s t w, C s < c → E s t w → C t ≤ C s + w) (hc : c ≤ 2000) (hall : ∀ s, C s < 1000000 → C s < c) (hb : ∀ c s, gr_L E c st s → c < 1728) : dj_F E st C := by
  obtain ⟨s1, s2, s3⟩ := S
  have key : ∀ {n t}, gr_R E n st t → C t ≤ n ∧ C t < 1000000 := by
    intro n t h
    refine gr_ind (P := fun n t => C t ≤ n ∧ C t < 1000000) ⟨by omega, by omega⟩ ?_ h
    intro n u t w _ ih e
    have h1 := hall u ih.2
    have h2 := hA u t w h1 e
    have h3 := hE u t w e
    omega
  intro s
  have := s2 s
  rcases Nat.lt_or_ge (C s) 1000000 with z | z
  · have hl : gr_L E (C s) st s := ⟨(s3 s z).2.1, fun c' h => (key h).1⟩
    exact Or.inl ⟨hb _ _ hl, hl⟩
  · exact Or.inr ⟨by omega, fun n h => by have := (key h).2; omega⟩
section
variable {tg : Nat → Nat → Option Nat} {op : Nat → Prop} {k : Nat} {wh : Nat → Nat} {b : Bool} {st : Nat}
variable {b_size : Int32} {b_isWall b_waysOut b_isSet b_place b_goal b_walkers b_steps b_cost b_good : Nat → Int32}
theorem yw_lv34 {post : SY → Prop} {J3 : Int32 → (Nat → Int32) → (Nat → Int32) → (Nat → Int32) → (Nat → Int32) → (Nat → Int32) → (Nat → Int32) → (Nat → Int32) → (Nat → Int32) → (Nat → Int32) → Prop} {s t tu c w : Nat} {x1 x3 : Int32} {C : Nat → Nat} (S : dj_S (mo_E tg b k) (mo_N k) st c C) (R : yc_R C b_cost) (hk : mo_K k) (e : mo_E tg b k s t w) (hs : C s = c) (hc : c < 2000)
    (hJ : ∀ C' b_cost, dj_S (mo_E tg b k) (mo_N k) st c C' → yc_R C' b_cost → dj_le c C C' → C' t ≤ c + w → J3 (nI (tu + 1)) b_isWall b_waysOut b_isSet b_place b_goal b_walkers b_steps b_cost b_good) : wY_leave_34 post J3 x1 (nI c) x3 (nI tu) (nI (rv_c t)) (nI w) (nI c) b_size b_isWall b_waysOut b_isSet b_place b_goal b_walkers b_steps b_cost b_good := by
  have lt := Nat.lt_of_lt_of_le (mo_E_lt e).2 (mo_Nle k)
  have lr := rv_lt t
  have vt : vp_in (nI (rv_c t)) 1728 := vp_in_nI lr (by omega)
  have ct : (nI (rv_c t)).toNatClampNeg = rv_c t := nI_clamp (by omega)
  have hE : s < mo_N k ∧ t < mo_N k ∧ w ≤ 3 ∧ (s ≠ t → 1 ≤ w) := ⟨(mo_E_lt e).1, (mo_E_lt e).2, mo_E_3 e, mo_E_1 hk e⟩
  have h3 := hE.2.2.1
  refine nm_r (nI_add c w) (br_f (nI_pos (by omega)) ⟨vt, ?_⟩)
  rw [ct]
  have upd1 : c + w < C t → J3 (nI (tu + 1)) b_isWall b_waysOut b_isSet b_place b_goal b_walkers b_steps (upd b_cost (rv_c t) (nI (c + w))) b_good := fun hlt => by
    obtain ⟨S', le'⟩ := dj_relax S hE e hs hc hlt
    exact hJ _ _ S' (yc_Ru R lt (by omega)) le' (by rw [ag_us]; omega)
  rcases R t lt with ⟨q1, q2⟩ | ⟨q1, q2⟩
  · rw [q2]
    exact br_t xb_neg ⟨vt, nm_e (nm_r (nI_1 tu) (upd1 (by omega)))⟩
  · rw [q2]
    refine br_f (nI_pos (by omega)) ⟨vt, ?_⟩
    refine pk_le (C t) (c + w) (fun z => nm_r (nI_1 tu) (hJ C b_cost S R (dj_le_r c C) z)) (fun z => ⟨vt, nm_e (nm_r (nI_1 tu) (upd1 z))⟩)
theorem yw_leave3 {post : SY → Prop} {s c : Nat} {C0 : Nat → Nat} (hk : mo_K k) (ok : cg_OK tg op) (hst : yw_ST tg op b_steps) (hs : s < mo_N k) (hO : mo_O op k s) (hc : c < 2000) (hCs : C0 s = c)
    (hp : ∀ C' b_cost, dj_S (mo_E tg b k) (mo_N k) st c C' → yc_R C' b_cost → dj_le c C0 C' → (∀ t w, mo_E tg b k s t w → C' t ≤ c + w) → post (nI k, b_isWall, b_waysOut, b_isSet, b_place, b_goal, b_walkers, b_steps, b_cost, b_good)) :
    ∀ e tu n C b_cost, tu + e = 125 → e < n → dj_S (mo_E tg b k) (mo_N k) st c C → yc_R C b_cost → dj_le c C0 C → (∀ tu' t, tu' < tu → mo_bY tg k s tu' t → C t ≤ c + mo_wt b k s t) →
      wY_leave_3 post (nI (rv_c s)) (nI c) (tm_b b) (nI k) n (nI tu) b_isWall b_waysOut b_isSet b_place b_goal b_walkers b_steps b_cost b_good := by
  intro e
  induction e with
  | zero =>
    intro tu n C b_cost he hn S R le hd
    obtain ⟨n, rfl⟩ : ∃ m, n = m + 1 := ⟨n - 1, by omega⟩
    refine pk_le 125 tu (fun _ => hp C b_cost S R le fun t w e => ?_) (fun h => by omega)
    obtain ⟨tu', h1, h2⟩ := mo_M_bY e.2.1
    rw [e.2.2]
    exact hd tu' t (by omega) h2
  | succ e ih =>
    intro tu n C b_cost he hn S R le hd
    obtain ⟨n, rfl⟩ : ∃ m, n = m + 1 := ⟨n - 1, by omega⟩
    have hCs' : C s = c := by have := le s; omega
    refine pk_le 125 tu (fun _ => by omega) (fun hlt => ?_)
    have skip : (∀ t, ¬ mo_bY tg k s tu t) → ∀ w : Nat, w ≤ 3 → wY_leave_34 post (wY_leave_3 post (nI (rv_c s)) (nI c) (tm_b b) (nI k) n) (nI (rv_c s)) (nI c) (tm_b b) (nI tu) (-1) (nI w) (nI c) (nI k) b_isWall b_waysOut b_isSet b_place b_goal b_walkers b_steps b_cost b_good := fun hno w hw => by
      refine nm_r (nI_add c w) (br_t xb_neg (nm_r (nI_1 tu) (ih (tu + 1) n C b_cost (by omega) (by omega) S R le fun tu' t h1 h2 => ?_)))
      rcases Nat.decEq tu' tu with z | rfl
      · exact hd tu' t (by omega) h2
      · exact absurd h2 (hno t)
    have go : ∀ t, mo_bY tg k s tu t → wY_leave_34 post (wY_leave_3 post (nI (rv_c s)) (nI c) (tm_b b) (nI k) n) (nI (rv_c s)) (nI c) (tm_b b) (nI tu) (nI (rv_c t)) (nI (mo_wt b k s t)) (nI c) (nI k) b_isWall b_waysOut b_isSet b_place b_goal b_walkers b_steps b_cost b_good := fun t hby => by
      refine yw_lv34 (s := s) S R hk ⟨hs, mo_bY_M hlt hby, rfl⟩ hCs' hc fun C' b_cost S' R' le' hle => ih (tu + 1) n C' b_cost (by omega) (by omega) S' R' (dj_le_t le le') fun tu' t' h1 h2 => ?_
      rcases Nat.decEq tu' tu with z | rfl
      · have h3 := hd tu' t' (by omega) h2
        have h4 := le' t'
        omega
      · rw [mo_bY_u hk h2 hby]; exact hle
    refine yw_after hk ok hst hs hO hlt (fun hno => ?_) (fun t hby => ?_)
    · cases b with
      | false => exact br_t rfl (skip hno 1 (by omega))
      | true => exact br_f (by decide) (yw_effort hk hlt (skip hno _ (yw_ef_le k tu)))
    · have g := go t hby
      cases b with
      | false => exact br_t rfl g
      | true =>
        refine br_f (by decide) (yw_effort hk hlt ?_)
        rw [yw_ef_e ok hlt hby]
        exact g
theorem yw_leave {post : SY → Prop} {s c : Nat} {C : Nat → Nat} (hk : mo_K k) (ok : cg_OK tg op) (hst : yw_ST tg op b_steps) (hs : s < mo_N k) (hO : mo_O op k s) (hc : c < 2000) (hCs : C s = c) (S : dj_S (mo_E tg b k) (mo_N k) st c C) (R : yc_R C b_cost)
    (hp : ∀ C' b_cost, dj_S (mo_E tg b k) (mo_N k) st c C' → yc_R C' b_cost → dj_le c C C' → (∀ t w, mo_E tg b k s t w → C' t ≤ c + w) → post (nI k, b_isWall, b_waysOut, b_isSet, b_place, b_goal, b_walkers, b_steps, b_cost, b_good)) : wpY_leave post (nI k, b_isWall, b_waysOut, b_isSet, b_place, b_goal, b_walkers, b_steps, b_cost, b_good) (nI (rv_c s)) (nI c) (tm_b b) :=
  ⟨126, yw_leave3 hk ok hst hs hO hc hCs hp 125 0 126 C b_cost (by omega) (by omega) S R (dj_le_r c C) fun _ _ h => by omega⟩
/-- what stands at level c -/
def dj_A (E : Nat → Nat → Nat → Prop) (c : Nat) (C : Nat → Nat) : Prop := ∀ s t w, C s < c → E s t w → C t ≤ C s + w
theorem yw_spr85 {post : SY → Prop} {J39 J56 : Int32 → Int32 → Int32 → (Nat → Int32) → (Nat → Int32) → (Nat → Int32) → (Nat → Int32) → (Nat → Int32) → (Nat → Int32) → (Nat → Int32) → (Nat → Int32) → (Nat → Int32) → Prop} {x1 x3 : Int32} {c i : Nat} {C : Nat → Nat} (hi : i < 1728) (hc : c < 2000) (R : yc_R C b_cost) (hx : x3 = 0 ∨ x3 = 1)
    (h0 : x3 = 0 → (C (rv_c i) = 1000000 ∨ C (rv_c i) < c) → J56 0 (nI (i + 1)) b_size b_isWall b_waysOut b_isSet b_place b_goal b_walkers b_steps b_cost b_good) (h1 : J56 1 (nI (i + 1)) b_size b_isWall b_waysOut b_isSet b_place b_goal b_walkers b_steps b_cost b_good) : wY_spread_85 post J39 J56 x1 x3 (nI c) (nI i) b_size b_isWall b_waysOut b_isSet b_place b_goal b_walkers b_steps b_cost b_good := by
  have ci : (nI i).toNatClampNeg = i := nI_clamp (by omega)
  rcases hx with rfl | rfl
  · refine br_t rfl ⟨vp_in_nI hi (by omega), ?_⟩
    have R' := R (rv_c i) (rv_lt i)
    rw [rv_rv hi] at R'
    rw [ci]
    rcases R' with ⟨q1, q2⟩ | ⟨q1, q2⟩
    · rw [q2]
      exact br_t (Int32.lt_iff_toInt_lt.mpr (by rw [nI_toInt (by omega), show (-1 : Int32).toInt = -1 from by decide]; omega)) (nm_r (nI_1 i) (h0 rfl (Or.inl q1)))
    · rw [q2]
      exact pk_lt (C (rv_c i)) c (fun z => nm_r (nI_1 i) (h0 rfl (Or.inr z))) (fun z => nm_r (nI_1 i) h1)
  · exact br_f (by decide) (nm_r (nI_1 i) h1)
theorem yw_spr56 {post : SY → Prop} {J39 : Int32 → Int32 → Int32 → (Nat → Int32) → (Nat → Int32) → (Nat → Int32) → (Nat → Int32) → (Nat → Int32) → (Nat → Int32) → (Nat → Int32) → (Nat → Int32) → (Nat → Int32) → Prop} {c : Nat} (hk : mo_K k) (ok : cg_OK tg op) (hst : yw_ST tg op b_steps) (hV : mo_O op k st) (hc : c < 2000)
    (hJ : ∀ x3 C b_cost, dj_S (mo_E tg b k) (mo_N k) st c C → yc_R C b_cost → dj_A (mo_E tg b k) (c + 1) C → ((x3 = 0 ∧ ∀ s, s < 1728 → C s = 1000000 ∨ C s < c) ∨ x3 = 1) → J39 x3 (nI (c + 1)) (nI k) b_isWall b_waysOut b_isSet b_place b_goal b_walkers b_steps b_cost b_good) :
    ∀ e i n x3 C b_cost, i + e = 1728 → e < n → dj_S (mo_E tg b k) (mo_N k) st c C → yc_R C b_cost → dj_A (mo_E tg b k) c C → (∀ y, y < i → C (rv_c y) = c → ∀ t w, mo_E tg b k (rv_c y) t w → C t ≤ c + w) →
      ((x3 = 0 ∧ ∀ y, y < i → C (rv_c y) = 1000000 ∨ C (rv_c y) < c) ∨ x3 = 1) → wY_spread_56 post J39 (tm_b b) (nI c) n x3 (nI i) (nI k) b_isWall b_waysOut b_isSet b_place b_goal b_walkers b_steps b_cost b_good := by
  intro e
  induction e with
  | zero =>
    intro i n x3 C b_cost he hn S R hA hB hx
    obtain ⟨n, rfl⟩ : ∃ m, n = m + 1 := ⟨n - 1, by omega⟩
    refine pk_le 1728 i (fun _ => nm_r (nI_1 c) (hJ x3 C b_cost S R (fun s t w hs e => ?_) ?_)) (fun h => by omega)
    · rcases Nat.lt_or_ge (C s) c with z | z
      · exact hA s t w z e
      · have ls := Nat.lt_of_lt_of_le (mo_E_lt e).1 (mo_Nle k)
        have q := hB (rv_c s) (by have := rv_lt s; omega)
        rw [rv_rv ls] at q
        have := q (by omega) t w e
        omega
    · rcases hx with ⟨h1, h2⟩ | h1
      · refine Or.inl ⟨h1, fun s hs => ?_⟩
        have := h2 (rv_c s) (by have := rv_lt s; omega)
        rwa [rv_rv hs] at this
      · exact Or.inr h1
  | succ e ih =>
    intro i n x3 C b_cost he hn S R hA hB hx
    obtain ⟨n, rfl⟩ : ∃ m, n = m + 1 := ⟨n - 1, by omega⟩
    refine pk_le 1728 i (fun _ => by omega) (fun hlt => ⟨vp_in_nI hlt (by omega), ?_⟩)
    have ci : (nI i).toNatClampNeg = i := nI_clamp (by omega)
    have R' := R (rv_c i) (rv_lt i)
    rw [rv_rv hlt] at R'
    have hx01 : x3 = 0 ∨ x3 = 1 := hx.elim (fun z => Or.inl z.1) Or.inr
    rw [ci]
    -- not at this level
    have no : C (rv_c i) ≠ c → wY_spread_85 post J39 (wY_spread_56 post J39 (tm_b b) (nI c) n) (tm_b b) x3 (nI c) (nI i) (nI k) b_isWall b_waysOut b_isSet b_place b_goal b_walkers b_steps b_cost b_good := fun hne => by
      have hB' : ∀ y, y < i + 1 → C (rv_c y) = c → ∀ t w, mo_E tg b k (rv_c y) t w → C t ≤ c + w := fun y hy hy2 => by
        rcases Nat.decEq y i with z | rfl
        · exact hB y (by omega) hy2
        · exact absurd hy2 hne
      refine yw_spr85 hlt hc R hx01 (fun z q => ih (i + 1) n 0 C b_cost (by omega) (by omega) S R hA hB' (Or.inl ⟨rfl, fun y hy => ?_⟩)) (ih (i + 1) n 1 C b_cost (by omega) (by omega) S R hA hB' (Or.inr rfl))
      rcases Nat.decEq y i with y1 | rfl
      · rcases hx with ⟨_, h2⟩ | h1
        · exact h2 y (by omega)
        · rw [z] at h1; exact absurd h1 (by decide)
      · exact q
    rcases R' with ⟨q1, q2⟩ | ⟨q1, q2⟩
    · rw [q2]
      refine br_f (fun e => ?_) (no (by omega))
      have := congrArg Int32.toInt e
      rw [nI_toInt (by omega), show (-1 : Int32).toInt = -1 from by decide] at this
      omega
    · rw [q2]
      refine pk_eq (C (rv_c i)) c (fun z => ?_) (fun z => no z)
      have hr := (S.2.2 _ q1)
      have hleave := yw_leave (b_isWall := b_isWall) (b_waysOut := b_waysOut) (b_isSet := b_isSet) (b_place := b_place) (b_goal := b_goal) (b_walkers := b_walkers) (b_cost := b_cost) (b_good := b_good) (post := fun u => match u with | (b_size_1, b_isWall_1, b_waysOut_1, b_isSet_1, b_place_1, b_goal_1, b_walkers_1, b_steps_1, b_cost_1, b_good_1) => wY_spread_85 post J39 (wY_spread_56 post J39 (tm_b b) (nI c) n) (tm_b b) x3 (nI c) (nI i) b_size_1 b_isWall_1 b_waysOut_1 b_isSet_1 b_place_1 b_goal_1 b_walkers_1 b_steps_1 b_cost_1 b_good_1) hk ok hst hr.1 (mo_R_O ok hV hr.2.1) hc z S R (fun C' b_cost S' R' le hd => ?_)
      · rw [rv_rv hlt] at hleave
        exact hleave
      · have hz' : C' (rv_c i) = c := by have := le (rv_c i); omega
        refine yw_spr85 hlt hc R' hx01 (fun _ q => by omega) (ih (i + 1) n 1 C' b_cost (by omega) (by omega) S' R' (fun s t w hs e => ?_) (fun y hy hy2 t w e => ?_) (Or.inr rfl))
        · have h1 := le s
          have h2 := le t
          have h3 := hA s t w (by omega) e
          omega
        · rcases Nat.decEq y i with z1 | rfl
          · have h1 := le (rv_c y)
            have h2 := le t
            have h3 := hB y (by omega) (by omega) t w e
            omega
          · exact hd t w e
theorem yw_spr39 {post : SY → Prop} (hk : mo_K k) (ok : cg_OK tg op) (hst : yw_ST tg op b_steps) (hO : mo_O op k st) (hV : mo_V k st)
    (hp : ∀ C b_cost, yc_R C b_cost → dj_F (mo_E tg b k) st C → post (nI k, b_isWall, b_waysOut, b_isSet, b_place, b_goal, b_walkers, b_steps, b_cost, b_good)) :
    ∀ e c n x3 C b_cost, c + e = 2000 → e < n → dj_S (mo_E tg b k) (mo_N k) st c C → yc_R C b_cost → dj_A (mo_E tg b k) c C → ((x3 = 0 ∧ ∀ s, s < 1728 → C s = 1000000 ∨ C s < c) ∨ x3 = 1) → wY_spread_39 post (tm_b b) n x3 (nI c) (nI k) b_isWall b_waysOut b_isSet b_place b_goal b_walkers b_steps b_cost b_good := by
  have hb : ∀ c s, gr_L (mo_E tg b k) c st s → c < 1728 := fun c s l => Nat.lt_of_lt_of_le (mo_bound hk ok hV l) (mo_Nle k)
  intro e
  induction e with
  | zero =>
    intro c n x3 C b_cost he hn S R hA hx
    obtain ⟨n, rfl⟩ : ∃ m, n = m + 1 := ⟨n - 1, by omega⟩
    refine pk_le 2000 c (fun _ => hp C b_cost R (dj_done S (fun s t w e => mo_E_3 e) hA (by omega) (fun s hs => ?_) hb)) (fun h => by omega)
    obtain ⟨c', l, _⟩ := gr_ll (S.2.2 s hs).2.1
    have h1 := hb _ _ l
    have h2 := dj_opt S.1 hA l.1 (by omega)
    omega
  | succ e ih =>
    intro c n x3 C b_cost he hn S R hA hx
    obtain ⟨n, rfl⟩ : ∃ m, n = m + 1 := ⟨n - 1, by omega⟩
    refine pk_le 2000 c (fun _ => by omega) (fun hlt => ?_)
    rcases hx with ⟨rfl, h2⟩ | rfl
    · refine br_t rfl (hp C b_cost R (dj_done S (fun s t w e => mo_E_3 e) hA (by omega) (fun s hs => ?_) hb))
      have := h2 s (Nat.lt_of_lt_of_le (S.2.2 s hs).1 (mo_Nle k))
      omega
    · refine br_f (by decide) ⟨1729, yw_spr56 hk ok hst hO hlt (fun x3 C b_cost S R hA hx => ih (c + 1) n x3 C b_cost (by omega) (by omega) ⟨S.1, S.2.1, fun s hs => ⟨(S.2.2 s hs).1, (S.2.2 s hs).2.1, by have := (S.2.2 s hs).2.2; omega⟩⟩ R hA ?_) 1728 0 1729 0 C b_cost (by omega) (by omega) S R hA (fun y hy => by omega) (Or.inl ⟨rfl, fun y hy => by omega⟩)⟩
      rcases hx with ⟨h1, h2⟩ | h1
      · exact Or.inl ⟨h1, fun s hs => by have := h2 s hs; omega⟩
      · exact Or.inr h1
theorem yw_spr2 {post : SY → Prop} {pl : Nat → Nat} (hk : mo_K k) (ok : cg_OK tg op) (hst : yw_ST tg op b_steps) (hw : tm_W k wh b_walkers) (hp : ∀ w, w < 3 → b_place w = nI (pl w) ∧ pl w < 12) (hO : mo_O op k (tm_s k fun i => pl (wh i))) (hV : mo_V k (tm_s k fun i => pl (wh i)))
    (h : ∀ C b_cost, yc_R C b_cost → dj_F (mo_E tg b k) (tm_s k fun i => pl (wh i)) C → post (nI k, b_isWall, b_waysOut, b_isSet, b_place, b_goal, b_walkers, b_steps, b_cost, b_good)) :
    ∀ e i n b_cost, i + e = 1728 → e < n → (∀ y, y < i → b_cost y = -1) → wY_spread_2 post (tm_b b) (nI k) n (nI i) b_isWall b_waysOut b_isSet b_place b_goal b_walkers b_steps b_cost b_good := by
  intro e
  induction e with
  | zero =>
    intro i n b_cost he hn hi
    obtain ⟨n, rfl⟩ : ∃ m, n = m + 1 := ⟨n - 1, by omega⟩
    refine pk_le 1728 i (fun _ => yw_start hk hw hp ?_) (fun h => by omega)
    have lst := Nat.lt_of_lt_of_le hV.1 (mo_Nle k)
    have hVN := hV.1
    generalize (tm_s k fun i => pl (wh i)) = st at *
    have lr := rv_lt st
    refine ⟨vp_in_nI lr (by omega), nm_r (by rw [nI_clamp (by omega)]) ⟨2001, ?_⟩⟩
    have hK : ∀ s, (if s = st then 0 else 1000000) < 1000000 → s = st := fun s z => by
      rcases Nat.decEq s st with e | e
      · rw [if_neg e] at z; omega
      · exact e
    refine yw_spr39 hk ok hst hO hV h 2000 0 2001 1 (fun s => if s = st then 0 else 1000000) _ (by omega) (by omega) ⟨if_pos rfl, fun s => ?_, fun s hs => ?_⟩ (fun s hs => ?_) (fun s t w hs => by omega) (Or.inr rfl)
    · show (if s = st then 0 else 1000000) ≤ 1000000
      split <;> omega
    · obtain rfl := hK s hs
      show s < mo_N k ∧ gr_R (mo_E tg b k) (if s = s then 0 else 1000000) s s ∧ (if s = s then 0 else 1000000) ≤ 0 + 3
      rw [if_pos rfl]
      exact ⟨hVN, gr_r0 s, by omega⟩
    · dsimp only
      rcases Nat.decEq s st with z | rfl
      · rw [if_neg z, pk_un (fun q => z (rv_inj hs lst q))]
        exact Or.inl ⟨rfl, hi _ (by have := rv_lt s; omega)⟩
      · rw [if_pos rfl, pk_us]
        exact Or.inr ⟨by omega, rfl⟩
  | succ e ih =>
    intro i n b_cost he hn hi
    obtain ⟨n, rfl⟩ : ∃ m, n = m + 1 := ⟨n - 1, by omega⟩
    refine pk_le 1728 i (fun _ => by omega) (fun hlt => ⟨vp_in_nI hlt (by omega), nm_r (by rw [nI_clamp (by omega)]) (nm_r (nI_1 i) (ih (i + 1) n _ (by omega) (by omega) fun y hy => ?_))⟩)
    rcases Nat.decEq y i with z | rfl
    · rw [pk_un z]; exact hi y (by omega)
    · exact pk_us
theorem yw_spread {post : SY → Prop} {pl : Nat → Nat} (hk : mo_K k) (ok : cg_OK tg op) (hst : yw_ST tg op b_steps) (hw : tm_W k wh b_walkers) (hp : ∀ w, w < 3 → b_place w = nI (pl w) ∧ pl w < 12) (hO : mo_O op k (tm_s k fun i => pl (wh i))) (hV : mo_V k (tm_s k fun i => pl (wh i)))
    (h : ∀ C b_cost, yc_R C b_cost → dj_F (mo_E tg b k) (tm_s k fun i => pl (wh i)) C → post (nI k, b_isWall, b_waysOut, b_isSet, b_place, b_goal, b_walkers, b_steps, b_cost, b_good)) : wpY_spread post (nI k, b_isWall, b_waysOut, b_isSet, b_place, b_goal, b_walkers, b_steps, b_cost, b_good) (tm_b b) :=
  ⟨1729, yw_spr2 hk ok hst hw hp hO hV h 1728 0 1729 b_cost (by omega) (by omega) fun y hy => by omega⟩
theorem yw_costOf {post : Int32 → Prop} {s : Nat} {C : Nat → Nat} (hs : s < 1728) (R : yc_R C b_cost) (hF : dj_F (mo_E tg b k) st C) (h : ∀ r, an_P (mo_E tg b k) st s r → post r) : wpY_costOf post (b_size, b_isWall, b_waysOut, b_isSet, b_place, b_goal, b_walkers, b_steps, b_cost, b_good) (nI (rv_c s)) := by
  have lr := rv_lt s
  refine ⟨vp_in_nI lr (by omega), ?_⟩
  rw [nI_clamp (by omega)]
  rcases R s hs with ⟨q1, q2⟩ | ⟨q1, q2⟩
  · rw [q2]
    refine br_f (by decide) (h _ (Or.inr ⟨rfl, ?_⟩))
    rcases hF s with ⟨z, _⟩ | ⟨_, z⟩
    · omega
    · exact z
  · rw [q2]
    refine br_t (nI_pos' (by omega)) ⟨vp_in_nI lr (by omega), h _ (Or.inl ⟨_, ?_, rfl⟩)⟩
    rcases hF s with ⟨_, z⟩ | ⟨z, _⟩
    · exact z
    · omega
end
end
section
/-- the grid and the walkers, in plain numbers -/
def rl_E (W : Nat) (wy : Nat → Nat) (P : Nat) (pl gl : Nat → Nat) : Prop := W < 4096 ∧ (∀ c, c < 12 → wy c < 16) ∧ P < 8 ∧ (∀ w, w < 3 → pl w < 12) ∧ ∀ w, w < 3 → gl w < 12
def rl_X (W : Nat) (wy : Nat → Nat) (P : Nat) (pl gl : Nat → Nat) (u : SX) : Prop := match u with
  | (f_walls, f_placed, f_count, f_byEffort, f_best, f_turns, a_waysOut, a_placeOf, a_goalOf, a_stepTo, a_toGoal, a_distance, a_who, a_cost, a_origin, a_closed, a_onward, a_queue, a_cellNow, a_cellNext, a_walkNow, a_walkNext, a_used, a_flowFrom, a_flowTo, a_cameBy, a_line) => f_walls = nI W ∧ f_placed = nI P ∧ (∀ c, c < 12 → a_waysOut c = nI (wy c)) ∧ (∀ w, w < 3 → a_placeOf w = nI (pl w)) ∧ (∀ w, w < 3 → a_goalOf w = nI (gl w))
def rl_Y (W : Nat) (wy : Nat → Nat) (P : Nat) (pl gl : Nat → Nat) (v : SY) : Prop := match v with
  | (b_size, b_isWall, b_waysOut, b_isSet, b_place, b_goal, b_walkers, b_steps, b_cost, b_good) => yw_W W b_isWall ∧ (∀ c, c < 12 → b_waysOut c = nI (wy c)) ∧ (∀ w, w < 3 → b_isSet w = if P.testBit w = true then 1 else 0) ∧ (∀ w, w < 3 → b_place w = nI (pl w)) ∧ (∀ w, w < 3 → b_goal w = nI (gl w))
/-- the relation: both hold one grid and the same walkers -/
def i_Rel (_ : Nat) (u : SX) (v : SY) : Prop := ∃ W wy P pl gl, rl_E W wy P pl gl ∧ rl_X W wy P pl gl u ∧ rl_Y W wy P pl gl v
theorem i_up {k : Nat} {u : SX} {v : SY} (h : i_Rel k u v) : i_Rel (k + 4) u v := h
theorem rl_elX {W : Nat} {wy : Nat → Nat} {P : Nat} {pl gl : Nat → Nat} {Q : SX → Prop} {u : SX} (hX : rl_X W wy P pl gl u)
    (h : ∀ f_count f_byEffort f_best f_turns a_waysOut a_placeOf a_goalOf a_stepTo a_toGoal a_distance a_who a_cost a_origin a_closed a_onward a_queue a_cellNow a_cellNext a_walkNow a_walkNext a_used a_flowFrom a_flowTo a_cameBy a_line,
      (∀ c, c < 12 → a_waysOut c = nI (wy c)) → (∀ w, w < 3 → a_placeOf w = nI (pl w)) → (∀ w, w < 3 → a_goalOf w = nI (gl w)) → Q (nI W, nI P, f_count, f_byEffort, f_best, f_turns, a_waysOut, a_placeOf, a_goalOf, a_stepTo, a_toGoal, a_distance, a_who, a_cost, a_origin, a_closed, a_onward, a_queue, a_cellNow, a_cellNext, a_walkNow, a_walkNext, a_used, a_flowFrom, a_flowTo, a_cameBy, a_line)) : Q u := by
  obtain ⟨f_walls, f_placed, f_count, f_byEffort, f_best, f_turns, a_waysOut, a_placeOf, a_goalOf, a_stepTo, a_toGoal, a_distance, a_who, a_cost, a_origin, a_closed, a_onward, a_queue, a_cellNow, a_cellNext, a_walkNow, a_walkNext, a_used, a_flowFrom, a_flowTo, a_cameBy, a_line⟩ := u
  obtain ⟨h1, h2, h3, h4, h5⟩ := hX
  rw [h1, h2]
  exact h _ _ _ _ _ _ _ _ _ _ _ _ _ _ _ _ _ _ _ _ _ _ _ _ _ h3 h4 h5
theorem rl_elY {W : Nat} {wy : Nat → Nat} {P : Nat} {pl gl : Nat → Nat} {Q : SY → Prop} {v : SY} (hY : rl_Y W wy P pl gl v)
    (h : ∀ b_size b_isWall b_waysOut b_isSet b_place b_goal b_walkers b_steps b_cost b_good, yw_W W b_isWall → (∀ c, c < 12 → b_waysOut c = nI (wy c)) → (∀ w, w < 3 → b_isSet w = if P.testBit w = true then 1 else 0) → (∀ w, w < 3 → b_place w = nI (pl w)) → (∀ w, w < 3 → b_goal w = nI (gl w)) → Q (b_size, b_isWall, b_waysOut, b_isSet, b_place, b_goal, b_walkers, b_steps, b_cost, b_good)) : Q v := by
  obtain ⟨b_size, b_isWall, b_waysOut, b_isSet, b_place, b_goal, b_walkers, b_steps, b_cost, b_good⟩ := v
  obtain ⟨h1, h2, h3, h4, h5⟩ := hY
  exact h _ _ _ _ _ _ _ _ _ _ h1 h2 h3 h4 h5
/-- a team that is ready -/
def rl_rdy (W P : Nat) (pl gl : Nat → Nat) (T : Nat) : Prop := (∀ w, w < 3 → T.testBit w = true → P.testBit w = true ∧ W.testBit (pl w) = false ∧ W.testBit (gl w) = false) ∧ tm_R T pl gl
theorem rl_sub : ∀ T, T < 8 → ∀ P, P < 8 → (nI T &&& (nI P ^^^ (-1)) = 0 ↔ ∀ w, w < 3 → T.testBit w = true → P.testBit w = true) := by decide +kernel
theorem xb_and {M c : Nat} (hM : M < 2 ^ 31) : nI M &&& nI (2 ^ c) = 0 ↔ M.testBit c = false := by
  rw [nx_and, show (0 : Int32) = nI 0 from rfl, nI_eq (Nat.lt_of_le_of_lt Nat.and_le_left hM) (by omega)]
  constructor
  · intro h
    have h1 : (M &&& 2 ^ c).testBit c = (0 : Nat).testBit c := by rw [h]
    rw [Nat.testBit_and, Nat.testBit_two_pow_self, Nat.zero_testBit, Bool.and_true] at h1
    exact h1
  · intro h
    apply Nat.eq_of_testBit_eq
    intro i
    rw [Nat.testBit_and, Nat.zero_testBit, Nat.testBit_two_pow]
    by_cases e : c = i
    · rw [← e, h]; rfl
    · rw [decide_eq_false e, Bool.and_false]
theorem xb_and2 {M c d : Nat} (hM : M < 2 ^ 31) : nI M &&& (nI (2 ^ c) ||| nI (2 ^ d)) = 0 ↔ M.testBit c = false ∧ M.testBit d = false := by
  rw [nx_or, nx_and, show (0 : Int32) = nI 0 from rfl, nI_eq (Nat.lt_of_le_of_lt Nat.and_le_left hM) (by omega)]
  constructor
  · intro h
    have h1 : ∀ i, (M &&& (2 ^ c ||| 2 ^ d)).testBit i = (0 : Nat).testBit i := fun i => by rw [h]
    have a := h1 c
    have b := h1 d
    rw [Nat.testBit_and, Nat.testBit_or, Nat.testBit_two_pow_self, Nat.zero_testBit, Bool.true_or, Bool.and_true] at a
    rw [Nat.testBit_and, Nat.testBit_or, Nat.testBit_two_pow_self, Nat.zero_testBit, Bool.or_true, Bool.and_true] at b
    exact ⟨a, b⟩
  · rintro ⟨h, h'⟩
    apply Nat.eq_of_testBit_eq
    intro i
    rw [Nat.testBit_and, Nat.zero_testBit, Nat.testBit_or, Nat.testBit_two_pow, Nat.testBit_two_pow]
    by_cases e : c = i
    · rw [← e, h]; rfl
    · by_cases e' : d = i
      · rw [← e', h']; rfl
      · rw [decide_eq_false e, decide_eq_false e', Bool.or_false, Bool.and_false]
section
variable {W P : Nat} {wy pl gl : Nat → Nat}
variable {f_walls f_placed f_count f_byEffort f_best f_turns : Int32} {a_waysOut a_placeOf a_goalOf a_stepTo a_toGoal a_distance a_who a_cost a_origin a_closed a_onward a_queue a_cellNow a_cellNext a_walkNow a_walkNext a_used a_flowFrom a_flowTo a_cameBy a_line : Nat → Int32}
/-- the cells taken by a team's walkers ahead of w -/
def rl_m (T : Nat) (pl : Nat → Nat) (w M : Nat) : Prop := M < 4096 ∧ ∀ c, M.testBit c = true ↔ ∃ v, v < w ∧ T.testBit v = true ∧ pl v = c
theorem rl_mS {T w M : Nat} (hpl : pl w < 12) (hb : T.testBit w = true) (h : rl_m T pl w M) : rl_m T pl (w + 1) (M ||| 2 ^ pl w) := by
  refine ⟨Nat.or_lt_two_pow (n := 12) h.1 (Nat.pow_lt_pow_right (by omega) hpl), fun c => ?_⟩
  rw [Nat.testBit_or, Nat.testBit_two_pow, Bool.or_eq_true, h.2 c, decide_eq_true_eq]
  constructor
  · rintro (⟨v, h1, h2, h3⟩ | h1)
    · exact ⟨v, by omega, h2, h3⟩
    · exact ⟨w, by omega, hb, h1⟩
  · rintro ⟨v, h1, h2, h3⟩
    rcases Nat.decEq v w with z | rfl
    · exact Or.inl ⟨v, by omega, h2, h3⟩
    · exact Or.inr h3
theorem rl_mN {T w M : Nat} (hb : T.testBit w = false) (h : rl_m T pl w M) : rl_m T pl (w + 1) M := by
  refine ⟨h.1, fun c => ?_⟩
  rw [h.2 c]
  constructor
  · rintro ⟨v, h1, h2, h3⟩
    exact ⟨v, by omega, h2, h3⟩
  · rintro ⟨v, h1, h2, h3⟩
    rcases Nat.decEq v w with z | rfl
    · exact ⟨v, by omega, h2, h3⟩
    · rw [hb] at h2; cases h2
theorem xw_rdy31 {post : Int32 → Prop} {T : Nat} (hE : rl_E W wy P pl gl) (hT : T < 8) (hp : ∀ w, w < 3 → a_placeOf w = nI (pl w)) (hg : ∀ w, w < 3 → a_goalOf w = nI (gl w))
    (h1 : ((∀ w, w < 3 → T.testBit w = true → W.testBit (pl w) = false ∧ W.testBit (gl w) = false) ∧ tm_R T pl gl) → post 1)
    (h0 : ¬ ((∀ w, w < 3 → T.testBit w = true → W.testBit (pl w) = false ∧ W.testBit (gl w) = false) ∧ tm_R T pl gl) → post 0) :
    ∀ e w n M1 M2, w + e = 3 → e < n → rl_m T pl w M1 → rl_m T gl w M2 → (∀ v, v < w → T.testBit v = true → W.testBit (pl v) = false ∧ W.testBit (gl v) = false) →
      (∀ i j, i < j → j < w → T.testBit i = true → T.testBit j = true → pl i ≠ pl j ∧ gl i ≠ gl j) → wX_isReady_31 post (nI T) (nI W) f_placed f_count f_byEffort f_best f_turns a_waysOut a_placeOf a_goalOf a_stepTo a_toGoal a_distance a_who a_cost a_origin a_closed a_onward a_queue a_cellNow a_cellNext a_walkNow a_walkNext a_used a_flowFrom a_flowTo a_cameBy a_line n (nI M1) (nI M2) (nI w) := by
  obtain ⟨eW, ewy, eP, epl, egl⟩ := hE
  intro e
  induction e with
  | zero =>
    intro w n M1 M2 he hn m1 m2 ho hd
    obtain ⟨n, rfl⟩ : ∃ m, n = m + 1 := ⟨n - 1, by omega⟩
    refine pk_le 3 w (fun _ => h1 ⟨fun v hv => ho v (by omega), fun i j hij hj => hd i j hij (by omega)⟩) (fun h => by omega)
  | succ e ih =>
    intro w n M1 M2 he hn m1 m2 ho hd
    obtain ⟨n, rfl⟩ : ∃ m, n = m + 1 := ⟨n - 1, by omega⟩
    refine pk_le 3 w (fun _ => by omega) (fun hlt => xb_br (by omega) (by omega) (fun hb => ⟨vp_in_nI hlt (by omega), nm_r (e' := nI (2 ^ pl w)) ?_ ⟨vp_in_nI hlt (by omega), nm_r (e' := nI (2 ^ gl w)) ?_ ?_⟩⟩) (fun hb => nm_r (nI_1 w) (ih (w + 1) n M1 M2 (by omega) (by omega) (rl_mN hb m1) (rl_mN hb m2) (fun v hv hbv => ?_) (fun i j hij hj bi bj => ?_))))
    · have := epl w hlt
      rw [nI_clamp (by omega), hp w hlt, xb_sh1 (by omega)]
    · have := egl w hlt
      rw [nI_clamp (by omega), hg w hlt, xb_sh1 (by omega)]
    · refine br_c (fun z1 => br_c (fun z2 => br_c (fun z3 => nm_r (nx_or _ _) (nm_r (nx_or _ _) (nm_r (nI_1 w) (ih (w + 1) n _ _ (by omega) (by omega) (rl_mS (epl w hlt) hb m1) (rl_mS (egl w hlt) hb m2) (fun v hv hbv => ?_) (fun i j hij hj bi bj => ?_))))) (fun z3 => h0 fun q => z3 ?_)) (fun z2 => h0 fun q => z2 ?_)) (fun z1 => h0 fun q => z1 ?_)
      · rcases Nat.decEq v w with z | rfl
        · exact ho v (by omega) hbv
        · exact (xb_and2 (by omega)).mp z3
      · rcases Nat.decEq j w with z | rfl
        · exact hd i j hij (by omega) bi bj
        · have a := (xb_and (by have := m1.1; omega)).mp z1
          have b := (xb_and (by have := m2.1; omega)).mp z2
          refine ⟨fun q => ?_, fun q => ?_⟩
          · rw [(m1.2 (pl j)).mpr ⟨i, hij, bi, q⟩] at a; cases a
          · rw [(m2.2 (gl j)).mpr ⟨i, hij, bi, q⟩] at b; cases b
      · exact (xb_and2 (by omega)).mpr (q.1 w hlt hb)
      · refine (xb_and (by have := m2.1; omega)).mpr (ts_nt fun z => ?_)
        obtain ⟨v, v1, v2, v3⟩ := (m2.2 (gl w)).mp z
        exact (q.2 v w v1 hlt v2 hb).2 v3
      · refine (xb_and (by have := m1.1; omega)).mpr (ts_nt fun z => ?_)
        obtain ⟨v, v1, v2, v3⟩ := (m1.2 (pl w)).mp z
        exact (q.2 v w v1 hlt v2 hb).1 v3
    · rcases Nat.decEq v w with z | rfl
      · exact ho v (by omega) hbv
      · rw [hb] at hbv; cases hbv
    · rcases Nat.decEq j w with z | rfl
      · exact hd i j hij (by omega) bi bj
      · rw [hb] at bj; cases bj
theorem xw_isReady {post : Int32 → Prop} {x : Int32} (hE : rl_E W wy P pl gl) (hp : ∀ w, w < 3 → a_placeOf w = nI (pl w)) (hg : ∀ w, w < 3 → a_goalOf w = nI (gl w))
    (h1 : ∀ T, 1 ≤ T → T < 8 → x = nI T → rl_rdy W P pl gl T → post 1) (h0 : (∀ T, 1 ≤ T → T < 8 → x = nI T → ¬ rl_rdy W P pl gl T) → post 0) : wpX_isReady post (nI W, nI P, f_count, f_byEffort, f_best, f_turns, a_waysOut, a_placeOf, a_goalOf, a_stepTo, a_toGoal, a_distance, a_who, a_cost, a_origin, a_closed, a_onward, a_queue, a_cellNow, a_cellNext, a_walkNow, a_walkNext, a_used, a_flowFrom, a_flowTo, a_cameBy, a_line) x := by
  refine br_c (fun z => h0 fun T t1 t8 e => ?_) (fun z => br_c (fun z2 => h0 fun T t1 t8 e => ?_) (fun z2 => ?_))
  · rw [e] at z
    exact absurd z (nI_nlt (b := 1) t1 (by omega))
  · rw [e] at z2
    exact absurd z2 (nI_nlt (a := 7) (by omega) (by omega))
  · obtain ⟨T, hT, rfl⟩ := nI_of (x := x) (fun q => z (Int32.lt_of_lt_of_le q (by decide)))
    have t1 : 1 ≤ T := by
      rcases Nat.lt_or_ge T 1 with q | q
      · exact absurd (nI_lt (b := 1) q (by omega)) z
      · exact q
    have t8 : T < 8 := by
      rcases Nat.lt_or_ge T 8 with q | q
      · exact q
      · exact absurd (nI_lt (a := 7) q hT) z2
    have inj : ∀ T', T' < 8 → nI T = nI T' → T' = T := fun T' h e => ((nI_eq (by omega) (by omega)).mp e).symm
    refine ek_if (rl_sub T t8 P hE.2.2.1) (fun hs => ⟨4, ?_⟩) (fun hs => h0 fun T' _ t8' e q => hs ?_)
    · refine xw_rdy31 hE t8 hp hg (fun q => h1 T t1 t8 rfl ⟨fun w hw hb => ⟨hs w hw hb, q.1 w hw hb⟩, q.2⟩) (fun q => h0 fun T' _ t8' e r => q ?_) 3 0 4 0 0 (by omega) (by omega) ⟨by omega, fun c => ?_⟩ ⟨by omega, fun c => ?_⟩ (fun v hv => by omega) (fun i j _ hj => by omega)
      · rw [inj T' t8' e] at r
        exact ⟨fun w hw hb => (r.1 w hw hb).2, r.2⟩
      · rw [Nat.zero_testBit]
        exact ⟨(fun z => nomatch z), fun ⟨v, hv, _⟩ => absurd hv (by omega)⟩
      · rw [Nat.zero_testBit]
        exact ⟨(fun z => nomatch z), fun ⟨v, hv, _⟩ => absurd hv (by omega)⟩
    · rw [inj T' t8' e] at q
      exact fun w hw hb => (q.1 w hw hb).1
end
end
section
section
variable {W P : Nat} {wy pl gl : Nat → Nat}
variable {b_size : Int32} {b_isWall b_waysOut b_isSet b_place b_goal b_walkers b_steps b_cost b_good : Nat → Int32}
/-- what Y has looked at of a team: all of the walkers ahead of i, and walker i against those ahead of j -/
def rl_o (W P : Nat) (pl gl : Nat → Nat) (T w : Nat) : Prop := T.testBit w = true → P.testBit w = true ∧ W.testBit (pl w) = false ∧ W.testBit (gl w) = false
def rl_p (pl gl : Nat → Nat) (T a b : Nat) : Prop := T.testBit a = true → T.testBit b = true → pl a ≠ pl b ∧ gl a ≠ gl b
def rl_Q (W P : Nat) (pl gl : Nat → Nat) (T i : Nat) : Prop := ∀ b, b < i → rl_o W P pl gl T b ∧ ∀ a, a < b → rl_p pl gl T a b
def rl_Q2 (W P : Nat) (pl gl : Nat → Nat) (T i j : Nat) : Prop := rl_Q W P pl gl T i ∧ rl_o W P pl gl T i ∧ ∀ a, a < j → rl_p pl gl T a i
def rl_f (x : Int32) (Q : Prop) : Prop := (x = 1 ∧ Q) ∨ (x = 0 ∧ ¬ Q)
theorem yw_rdy81 {post : Int32 → Prop} {J17 : Int32 → Int32 → Prop} {T i : Nat} (hT : T < 8) (hi : i < 3) (hE : rl_E W wy P pl gl) (hp : ∀ w, w < 3 → b_place w = nI (pl w)) (hg : ∀ w, w < 3 → b_goal w = nI (gl w))
    (hJ : ∀ x, rl_f x (rl_Q W P pl gl T (i + 1)) → J17 x (nI (i + 1))) :
    ∀ e j n x, j + e = i → e < n → rl_f x (rl_Q2 W P pl gl T i j) → wY_isReady_81 post J17 (nI T) (nI i) b_size b_isWall b_waysOut b_isSet b_place b_goal b_walkers b_steps b_cost b_good n x (nI j) := by
  intro e
  induction e with
  | zero =>
    intro j n x he hn hx
    obtain ⟨n, rfl⟩ : ∃ m, n = m + 1 := ⟨n - 1, by omega⟩
    obtain rfl : j = i := by omega
    refine pk_le j j (fun _ => nm_r (nI_1 j) (hJ x ?_)) (fun h => by omega)
    have eq : rl_Q2 W P pl gl T j j ↔ rl_Q W P pl gl T (j + 1) := by
      constructor
      · rintro ⟨q1, q2, q3⟩ b hb
        rcases Nat.decEq b j with z | rfl
        · exact q1 b (by omega)
        · exact ⟨q2, q3⟩
      · intro q
        exact ⟨fun b hb => q b (by omega), (q j (by omega)).1, (q j (by omega)).2⟩
    unfold rl_f at *
    rwa [eq] at hx
  | succ e ih =>
    intro j n x he hn hx
    obtain ⟨n, rfl⟩ : ∃ m, n = m + 1 := ⟨n - 1, by omega⟩
    have epl := hE.2.2.2.1
    have egl := hE.2.2.2.2
    refine pk_le i j (fun _ => by omega) (fun hlt => ?_)
    have down : ¬ rl_Q2 W P pl gl T i j → ¬ rl_Q2 W P pl gl T i (j + 1) := fun q r => q ⟨r.1, r.2.1, fun a ha => r.2.2 a (by omega)⟩
    rcases hx with ⟨rfl, q⟩ | ⟨rfl, q⟩
    · have good : rl_p pl gl T j i → rl_Q2 W P pl gl T i (j + 1) := fun r => ⟨q.1, q.2.1, fun a ha => by
        rcases Nat.decEq a j with z | rfl
        · exact q.2.2 a (by omega)
        · exact r⟩
      have bad : ¬ rl_p pl gl T j i → ¬ rl_Q2 W P pl gl T i (j + 1) := fun r s => r (s.2.2 j (by omega))
      have yes := fun r => ih (j + 1) n 1 (by omega) (by omega) (Or.inl ⟨rfl, good r⟩)
      have no := fun r => ih (j + 1) n 0 (by omega) (by omega) (Or.inr ⟨rfl, bad r⟩)
      refine br_f (by decide) (yw_in hT hi (fun bi => br_f (by decide) (yw_in hT (by omega) (fun bj => br_f (by decide) ⟨vp_in_nI hi (by omega), vp_in_nI (by omega) (by omega), ?_⟩) (fun bj => br_t rfl (nm_r (nI_1 j) (yes fun z => by rw [bj] at z; cases z))))) (fun bi => br_t rfl (nm_r (nI_1 j) (yes fun _ z => by rw [bi] at z; cases z))))
      have l1 := epl i hi
      have l2 := epl j (by omega)
      have l3 := egl i hi
      have l4 := egl j (by omega)
      rw [nI_clamp (show i < 2 ^ 31 by omega), nI_clamp (show j < 2 ^ 31 by omega), hp i hi, hp j (by omega)]
      refine pk_eq (pl i) (pl j) (fun z => nm_r (nI_1 j) (no fun r => (r bj bi).1 z.symm)) (fun z => ⟨vp_in_nI hi (by omega), vp_in_nI (by omega) (by omega), ?_⟩)
      rw [hg i hi, hg j (by omega)]
      exact pk_eq (gl i) (gl j) (fun z2 => nm_r (nI_1 j) (no fun r => (r bj bi).2 z2.symm)) (fun z2 => nm_r (nI_1 j) (yes fun _ _ => ⟨fun e => z e.symm, fun e => z2 e.symm⟩))
    · exact br_t rfl (nm_r (nI_1 j) (ih (j + 1) n 0 (by omega) (by omega) (Or.inr ⟨rfl, down q⟩)))
theorem yw_rdy17 {post : Int32 → Prop} {T : Nat} (hT : T < 8) (hE : rl_E W wy P pl gl) (hW : yw_W W b_isWall) (hs : ∀ w, w < 3 → b_isSet w = if P.testBit w = true then 1 else 0) (hp : ∀ w, w < 3 → b_place w = nI (pl w)) (hg : ∀ w, w < 3 → b_goal w = nI (gl w))
    (h : ∀ x, rl_f x (rl_Q W P pl gl T 3) → post x) :
    ∀ e i n x, i + e = 3 → e < n → rl_f x (rl_Q W P pl gl T i) → wY_isReady_17 post (nI T) b_size b_isWall b_waysOut b_isSet b_place b_goal b_walkers b_steps b_cost b_good n x (nI i) := by
  intro e
  induction e with
  | zero =>
    intro i n x he hn hx
    obtain ⟨n, rfl⟩ : ∃ m, n = m + 1 := ⟨n - 1, by omega⟩
    obtain rfl : i = 3 := by omega
    refine br_t (by decide) ⟨?_, h x hx⟩
    rcases hx with ⟨rfl, _⟩ | ⟨rfl, _⟩ <;> rfl
  | succ e ih =>
    intro i n x he hn hx
    obtain ⟨n, rfl⟩ : ∃ m, n = m + 1 := ⟨n - 1, by omega⟩
    have epl := hE.2.2.2.1
    have egl := hE.2.2.2.2
    refine pk_le 3 i (fun _ => by omega) (fun hlt => ?_)
    have go : ∀ y, rl_f y (rl_Q2 W P pl gl T i 0) → ∃ n81 : Nat, wY_isReady_81 post (wY_isReady_17 post (nI T) b_size b_isWall b_waysOut b_isSet b_place b_goal b_walkers b_steps b_cost b_good n) (nI T) (nI i) b_size b_isWall b_waysOut b_isSet b_place b_goal b_walkers b_steps b_cost b_good n81 y 0 := fun y hy =>
      ⟨4, yw_rdy81 hT hlt hE hp hg (fun x hx => ih (i + 1) n x (by omega) (by omega) hx) i 0 4 y (by omega) (by omega) hy⟩
    rcases hx with ⟨rfl, q⟩ | ⟨rfl, q⟩
    · have yes : rl_o W P pl gl T i → rl_f 1 (rl_Q2 W P pl gl T i 0) := fun r => Or.inl ⟨rfl, q, r, fun a ha => by omega⟩
      have no : ¬ rl_o W P pl gl T i → rl_f 0 (rl_Q2 W P pl gl T i 0) := fun r => Or.inr ⟨rfl, fun s => r s.2.1⟩
      refine br_f (by decide) (yw_in hT hlt (fun bi => br_f (by decide) ⟨vp_in_nI hlt (by omega), ?_⟩) (fun bi => br_t rfl (go 1 (yes fun z => by rw [bi] at z; cases z))))
      rw [nI_clamp (show i < 2 ^ 31 by omega), hs i hlt]
      have l1 := epl i hlt
      have l2 := egl i hlt
      by_cases bp : P.testBit i = true
      · rw [if_pos bp]
        refine br_f (by decide) ⟨vp_in_nI hlt (by omega), ?_⟩
        rw [hp i hlt]
        refine ⟨vp_in_nI l1 (by omega), ?_⟩
        rw [nI_clamp (show pl i < 2 ^ 31 by omega)]
        refine yw_Wb hW l1 (fun w1 => ⟨vp_in_nI hlt (by omega), ?_⟩) (fun w1 => go 0 (no fun r => by have := (r bi).2.1; rw [w1] at this; cases this))
        rw [hg i hlt]
        refine ⟨vp_in_nI l2 (by omega), ?_⟩
        rw [nI_clamp (show gl i < 2 ^ 31 by omega)]
        exact yw_Wb hW l2 (fun w2 => go 1 (yes fun _ => ⟨bp, w1, w2⟩)) (fun w2 => go 0 (no fun r => by have := (r bi).2.2; rw [w2] at this; cases this))
      · rw [if_neg bp]
        exact br_t rfl (go 0 (no fun r => bp (r bi).1))
    · exact br_t rfl (go 0 (Or.inr ⟨rfl, fun s => q s.1⟩))
theorem yw_isReady {post : Int32 → Prop} {x : Int32} (hE : rl_E W wy P pl gl) (hW : yw_W W b_isWall) (hs : ∀ w, w < 3 → b_isSet w = if P.testBit w = true then 1 else 0) (hp : ∀ w, w < 3 → b_place w = nI (pl w)) (hg : ∀ w, w < 3 → b_goal w = nI (gl w))
    (h1 : ∀ T, 1 ≤ T → T < 8 → x = nI T → rl_rdy W P pl gl T → post 1) (h0 : (∀ T, 1 ≤ T → T < 8 → x = nI T → ¬ rl_rdy W P pl gl T) → post 0) : wpY_isReady post (b_size, b_isWall, b_waysOut, b_isSet, b_place, b_goal, b_walkers, b_steps, b_cost, b_good) x := by
  refine br_c (fun z => h0 fun T t1 t8 e => ?_) (fun z => br_c (fun z2 => ?_) (fun z2 => h0 fun T t1 t8 e => ?_))
  · rw [e] at z
    exact absurd z (nI_nlt (b := 1) t1 (by omega))
  · obtain ⟨T, hT, rfl⟩ := nI_of (x := x) (fun q => z (Int32.lt_of_lt_of_le q (by decide)))
    have t1 : 1 ≤ T := by
      rcases Nat.lt_or_ge T 1 with q | q
      · exact absurd (nI_lt (b := 1) q (by omega)) z
      · exact q
    have t8 : T < 8 := by
      rcases Nat.lt_or_ge T 8 with q | q
      · exact q
      · exact absurd z2 (nI_ge (a := 7) q hT)
    have inj : ∀ T', T' < 8 → nI T = nI T' → T' = T := fun T' h e => ((nI_eq (by omega) (by omega)).mp e).symm
    have eq : rl_Q W P pl gl T 3 ↔ rl_rdy W P pl gl T := by
      constructor
      · intro q
        exact ⟨fun w hw => (q w hw).1, fun i j hij hj => (q j hj).2 i hij⟩
      · intro q b hb
        exact ⟨q.1 b hb, fun a ha => q.2 a b ha hb⟩
    refine ⟨4, yw_rdy17 t8 hE hW hs hp hg (fun y hy => ?_) 3 0 4 1 (by omega) (by omega) (Or.inl ⟨rfl, fun b hb => by omega⟩)⟩
    rcases hy with ⟨rfl, q⟩ | ⟨rfl, q⟩
    · exact h1 T t1 t8 rfl (eq.mp q)
    · refine h0 fun T' _ t8' e r => q (eq.mpr ?_)
      rw [inj T' t8' e] at r
      exact r
  · rw [e] at z2
    exact absurd (nI_le (b := 7) (by omega) (by omega)) z2
end
end
section
section
variable {W P : Nat} {wy pl gl : Nat → Nat} {k : Nat}
variable {f_walls f_placed f_count f_byEffort f_best f_turns : Int32} {a_waysOut a_placeOf a_goalOf a_stepTo a_toGoal a_distance a_who a_cost a_origin a_closed a_onward a_queue a_cellNow a_cellNext a_walkNow a_walkNext a_used a_flowFrom a_flowTo a_cameBy a_line : Nat → Int32}
variable {b_size : Int32} {b_isWall b_waysOut b_isSet b_place b_goal b_walkers b_steps b_cost b_good : Nat → Int32}
theorem rl_mkX (h1 : ∀ c, c < 12 → a_waysOut c = nI (wy c)) (h2 : ∀ w, w < 3 → a_placeOf w = nI (pl w)) (h3 : ∀ w, w < 3 → a_goalOf w = nI (gl w)) : rl_X W wy P pl gl (nI W, nI P, f_count, f_byEffort, f_best, f_turns, a_waysOut, a_placeOf, a_goalOf, a_stepTo, a_toGoal, a_distance, a_who, a_cost, a_origin, a_closed, a_onward, a_queue, a_cellNow, a_cellNext, a_walkNow, a_walkNext, a_used, a_flowFrom, a_flowTo, a_cameBy, a_line) :=
  And.intro rfl (And.intro rfl (And.intro h1 (And.intro h2 h3)))
theorem rl_mkY (h0 : yw_W W b_isWall) (h1 : ∀ c, c < 12 → b_waysOut c = nI (wy c)) (hs : ∀ w, w < 3 → b_isSet w = if P.testBit w = true then 1 else 0) (h2 : ∀ w, w < 3 → b_place w = nI (pl w)) (h3 : ∀ w, w < 3 → b_goal w = nI (gl w)) : rl_Y W wy P pl gl (b_size, b_isWall, b_waysOut, b_isSet, b_place, b_goal, b_walkers, b_steps, b_cost, b_good) :=
  And.intro h0 (And.intro h1 (And.intro hs (And.intro h2 h3)))
theorem rl_in {u : SX} {v : SY} (hE : rl_E W wy P pl gl) (hX : rl_X W wy P pl gl u) (hY : rl_Y W wy P pl gl v) : i_Rel k u v := ⟨W, wy, P, pl, gl, hE, hX, hY⟩
theorem xw_init {post : SX → Prop} (h : ∀ a_waysOut, (∀ c, c < 12 → a_waysOut c = nI 15) → post (f_walls, f_placed, f_count, f_byEffort, f_best, f_turns, a_waysOut, a_placeOf, a_goalOf, a_stepTo, a_toGoal, a_distance, a_who, a_cost, a_origin, a_closed, a_onward, a_queue, a_cellNow, a_cellNext, a_walkNow, a_walkNext, a_used, a_flowFrom, a_flowTo, a_cameBy, a_line)) :
    ∀ e i n a_waysOut, i + e = 12 → e < n → (∀ c, c < i → a_waysOut c = nI 15) → wX_init_177 post f_walls f_placed f_count f_byEffort f_best f_turns n (nI i) a_waysOut a_placeOf a_goalOf a_stepTo a_toGoal a_distance a_who a_cost a_origin a_closed a_onward a_queue a_cellNow a_cellNext a_walkNow a_walkNext a_used a_flowFrom a_flowTo a_cameBy a_line := by
  intro e
  induction e with
  | zero =>
    intro i n a_waysOut he hn hi
    obtain ⟨n, rfl⟩ : ∃ m, n = m + 1 := ⟨n - 1, by omega⟩
    exact pk_le 12 i (fun _ => h a_waysOut fun c hc => hi c (by omega)) (fun h => by omega)
  | succ e ih =>
    intro i n a_waysOut he hn hi
    obtain ⟨n, rfl⟩ : ∃ m, n = m + 1 := ⟨n - 1, by omega⟩
    refine pk_le 12 i (fun _ => by omega) (fun hlt => ⟨vp_in_nI hlt (by omega), nm_r (by rw [nI_clamp (by omega)]) (nm_r (nI_1 i) (ih (i + 1) n _ (by omega) (by omega) fun c hc => ?_))⟩)
    rcases Nat.decEq c i with z | rfl
    · rw [pk_un z]; exact hi c (by omega)
    · rw [pk_us]; rfl
theorem yw_init {post : SY → Prop} (h : ∀ b_waysOut, (∀ c, c < 12 → b_waysOut c = nI 15) → post (b_size, b_isWall, b_waysOut, b_isSet, b_place, b_goal, b_walkers, b_steps, b_cost, b_good)) :
    ∀ e i n b_waysOut, i + e = 12 → e < n → (∀ c, c < i → b_waysOut c = nI 15) → wY_init_76 post b_size n (nI i) b_isWall b_waysOut b_isSet b_place b_goal b_walkers b_steps b_cost b_good := by
  intro e
  induction e with
  | zero =>
    intro i n b_waysOut he hn hi
    obtain ⟨n, rfl⟩ : ∃ m, n = m + 1 := ⟨n - 1, by omega⟩
    exact pk_le 12 i (fun _ => h b_waysOut fun c hc => hi c (by omega)) (fun h => by omega)
  | succ e ih =>
    intro i n b_waysOut he hn hi
    obtain ⟨n, rfl⟩ : ∃ m, n = m + 1 := ⟨n - 1, by omega⟩
    refine pk_le 12 i (fun _ => by omega) (fun hlt => ⟨vp_in_nI hlt (by omega), nm_r (by rw [nI_clamp (by omega)]) (nm_r (nI_1 i) (ih (i + 1) n _ (by omega) (by omega) fun c hc => ?_))⟩)
    rcases Nat.decEq c i with z | rfl
    · rw [pk_un z]; exact hi c (by omega)
    · rw [pk_us]; rfl
end
theorem i_vc0 : wpX_init (fun u => wpY_init (fun v => i_Rel 0 u v)) := by
  refine ⟨13, xw_init (fun a_waysOut hw => ⟨13, yw_init (fun b_waysOut hv => ?_) 12 0 13 (fun _ => 0) (by omega) (by omega) fun c hc => by omega⟩) 12 0 13 (fun _ => 0) (by omega) (by omega) fun c hc => by omega⟩
  refine rl_in (W := 0) (wy := fun _ => 15) (P := 0) (pl := fun _ => 0) (gl := fun _ => 0) ⟨by omega, fun c hc => (by decide : 15 < 16), by omega, fun w hw => (by decide : 0 < 12), fun w hw => (by decide : 0 < 12)⟩ (rl_mkX hw (fun w hw => rfl) (fun w hw => rfl)) (rl_mkY (fun c hc => ?_) hv (fun w hw => ?_) (fun w hw => rfl) (fun w hw => rfl))
  · rw [Nat.zero_testBit]; rfl
  · rw [Nat.zero_testBit]; rfl
theorem i_vc_wall {k : Nat} {u : SX} {v : SY} (I : i_Rel k u v) (hk : k + 4 ≤ 2048) (v1 : Int32) : wpX_wall (fun r u' => wpY_wall (fun r' v' => r' = r ∧ i_Rel (k + 4) u' v') v v1) u v1 := by
  obtain ⟨W, wy, P, pl, gl, hE, hX, hY⟩ := I
  refine rl_elX (Q := fun u => wpX_wall (fun r u' => wpY_wall (fun r' v' => r' = r ∧ i_Rel (k + 4) u' v') v v1) u v1) hX ?_
  intro f_count f_byEffort f_best f_turns a_waysOut a_placeOf a_goalOf a_stepTo a_toGoal a_distance a_who a_cost a_origin a_closed a_onward a_queue a_cellNow a_cellNext a_walkNow a_walkNext a_used a_flowFrom a_flowTo a_cameBy a_line x1 x2 x3
  refine rl_elY (Q := fun v => wpX_wall (fun r u' => wpY_wall (fun r' v' => r' = r ∧ i_Rel (k + 4) u' v') v v1) (nI W, nI P, f_count, f_byEffort, f_best, f_turns, a_waysOut, a_placeOf, a_goalOf, a_stepTo, a_toGoal, a_distance, a_who, a_cost, a_origin, a_closed, a_onward, a_queue, a_cellNow, a_cellNext, a_walkNow, a_walkNext, a_used, a_flowFrom, a_flowTo, a_cameBy, a_line) v1) hY ?_
  intro b_size b_isWall b_waysOut b_isSet b_place b_goal b_walkers b_steps b_cost b_good y0 y1 ys y2 y3
  unfold wpX_wall wpY_wall
  dsimp only
  refine xw_isCell (fun c hc e => ?_) (fun hn => br_t rfl (yw_isCell (fun c hc e => absurd e (hn c hc)) (fun _ => br_t rfl ⟨rfl, rl_in hE (rl_mkX x1 x2 x3) (rl_mkY y0 y1 ys y2 y3)⟩)))
  subst e
  have hW := hE.1
  have hW' : W ^^^ 2 ^ c < 4096 := Nat.xor_lt_two_pow (n := 12) hW (Nat.pow_lt_pow_right (by omega) hc)
  have cc : (nI c).toNatClampNeg = c := nI_clamp (by omega)
  have vc : vp_in (nI c) 12 := vp_in_nI hc (by omega)
  have hb : (W ^^^ 2 ^ c).testBit c = !W.testBit c := by
    rw [Nat.testBit_xor, Nat.testBit_two_pow_self, Bool.xor_true]
  have hY' : ∀ x : Int32, x = (if (W ^^^ 2 ^ c).testBit c = true then 1 else 0) → yw_W (W ^^^ 2 ^ c) (upd b_isWall c x) := by
    intro x hx d hd
    rcases Nat.decEq d c with z | rfl
    · rw [pk_un z, y0 d hd, Nat.testBit_xor, Nat.testBit_two_pow_of_ne (fun e => z e.symm), Bool.xor_false]
    · rw [pk_us]; exact hx
  have hE' : rl_E (W ^^^ 2 ^ c) wy P pl gl := ⟨hW', hE.2⟩
  refine br_f (by decide) (nm_r (e' := nI (W ^^^ 2 ^ c)) (by rw [xb_sh1 (by omega), nx_xor]) ?_)
  refine yw_isCell (fun _ _ _ => br_f (by decide) ⟨vc, ?_⟩) (fun hn => absurd rfl (hn c hc))
  rw [xb_bit (by omega) (by omega), cc]
  have hr : nI ((W ^^^ 2 ^ c) / 2 ^ c % 2) = if (W ^^^ 2 ^ c).testBit c = true then 1 else 0 := by
    rw [Nat.testBit_eq_decide_div_mod_eq]
    have : (W ^^^ 2 ^ c) / 2 ^ c % 2 < 2 := Nat.mod_lt _ (by omega)
    generalize (W ^^^ 2 ^ c) / 2 ^ c % 2 = q at *
    have : q = 0 ∨ q = 1 := by omega
    rcases this with rfl | rfl <;> rfl
  rw [hr, hb] at *
  refine yw_Wb y0 hc (fun z => ⟨vc, nm_r (by rw [cc, xb_b1]) ⟨vc, ?_⟩⟩) (fun z => ⟨vc, nm_r (by rw [cc, xb_b0]) ⟨vc, ?_⟩⟩)
  · rw [cc, pk_us]
    rw [z]
    exact br_f (by decide) ⟨rfl, rl_in hE' (rl_mkX x1 x2 x3) (rl_mkY (hY' 1 (by rw [z]; rfl)) y1 ys y2 y3)⟩
  · rw [cc, pk_us]
    rw [z]
    exact br_t rfl ⟨rfl, rl_in hE' (rl_mkX x1 x2 x3) (rl_mkY (hY' 0 (by rw [z]; rfl)) y1 ys y2 y3)⟩
theorem i_vc_ways {k : Nat} {u : SX} {v : SY} (I : i_Rel k u v) (hk : k + 4 ≤ 2048) (v1 : Int32) (v2 : Int32) : wpX_ways (fun r u' => wpY_ways (fun r' v' => r' = r ∧ i_Rel (k + 4) u' v') v v1 v2) u v1 v2 := by
  obtain ⟨W, wy, P, pl, gl, hE, hX, hY⟩ := I
  refine rl_elX (Q := fun u => wpX_ways (fun r u' => wpY_ways (fun r' v' => r' = r ∧ i_Rel (k + 4) u' v') v v1 v2) u v1 v2) hX ?_
  intro f_count f_byEffort f_best f_turns a_waysOut a_placeOf a_goalOf a_stepTo a_toGoal a_distance a_who a_cost a_origin a_closed a_onward a_queue a_cellNow a_cellNext a_walkNow a_walkNext a_used a_flowFrom a_flowTo a_cameBy a_line x1 x2 x3
  refine rl_elY (Q := fun v => wpX_ways (fun r u' => wpY_ways (fun r' v' => r' = r ∧ i_Rel (k + 4) u' v') v v1 v2) (nI W, nI P, f_count, f_byEffort, f_best, f_turns, a_waysOut, a_placeOf, a_goalOf, a_stepTo, a_toGoal, a_distance, a_who, a_cost, a_origin, a_closed, a_onward, a_queue, a_cellNow, a_cellNext, a_walkNow, a_walkNext, a_used, a_flowFrom, a_flowTo, a_cameBy, a_line) v1 v2) hY ?_
  intro b_size b_isWall b_waysOut b_isSet b_place b_goal b_walkers b_steps b_cost b_good y0 y1 ys y2 y3
  have same : ∀ r : Int32, r = r ∧ i_Rel (k + 4) (nI W, nI P, f_count, f_byEffort, f_best, f_turns, a_waysOut, a_placeOf, a_goalOf, a_stepTo, a_toGoal, a_distance, a_who, a_cost, a_origin, a_closed, a_onward, a_queue, a_cellNow, a_cellNext, a_walkNow, a_walkNext, a_used, a_flowFrom, a_flowTo, a_cameBy, a_line) (b_size, b_isWall, b_waysOut, b_isSet, b_place, b_goal, b_walkers, b_steps, b_cost, b_good) := fun r => ⟨rfl, rl_in hE (rl_mkX x1 x2 x3) (rl_mkY y0 y1 ys y2 y3)⟩
  unfold wpX_ways wpY_ways
  dsimp only
  refine xw_isCell (fun c hc e => ?_) (fun hn => br_t rfl (yw_isCell (fun c hc e => absurd e (hn c hc)) (fun _ => br_t rfl (same _))))
  subst e
  have cc : (nI c).toNatClampNeg = c := nI_clamp (by omega)
  have vc : vp_in (nI c) 12 := vp_in_nI hc (by omega)
  refine br_f (by decide) (br_c (fun n1 => yw_isCell (fun _ _ _ => br_f (by decide) (br_t n1 (same _))) (fun hn => absurd rfl (hn c hc))) (fun n1 => br_c (fun n2 => ?_) (fun n2 => yw_isCell (fun _ _ _ => br_f (by decide) (br_f n1 (br_f n2 (same _)))) (fun hn => absurd rfl (hn c hc)))))
  obtain ⟨x, hx, rfl⟩ := nI_of2 (x := v2) (M := 15) (n := 15) (by decide) n1 n2
  refine ⟨vc, nm_r (by rw [cc]) ⟨vc, nm_r (by rw [cc]) ?_⟩⟩
  refine yw_isCell (fun _ _ _ => br_f (by decide) (br_f n1 (br_t n2 ⟨vc, nm_r (by rw [cc]) ⟨vc, nm_r (by rw [cc]) ⟨by rw [x1 c hc, y1 c hc], ?_⟩⟩⟩))) (fun hn => absurd rfl (hn c hc))
  refine rl_in (wy := ag_up wy c x) ⟨hE.1, fun d hd => ?_, hE.2.2⟩ (rl_mkX (fun d hd => ?_) x2 x3) (rl_mkY y0 (fun d hd => ?_) ys y2 y3)
  · rcases Nat.decEq d c with z | rfl
    · rw [ag_un _ _ z]; exact hE.2.1 d hd
    · rw [ag_us]; omega
  · rcases Nat.decEq d c with z | rfl
    · rw [ag_un _ _ z, pk_un z]; exact x1 d hd
    · rw [ag_us, pk_us]
  · rcases Nat.decEq d c with z | rfl
    · rw [ag_un _ _ z, pk_un z]; exact y1 d hd
    · rw [ag_us, pk_us]
theorem i_vc_set {k : Nat} {u : SX} {v : SY} (I : i_Rel k u v) (hk : k + 4 ≤ 2048) (v1 : Int32) (v2 : Int32) (v3 : Int32) : wpX_set (fun r u' => wpY_set (fun r' v' => r' = r ∧ i_Rel (k + 4) u' v') v v1 v2 v3) u v1 v2 v3 := by
  obtain ⟨W, wy, P, pl, gl, hE, hX, hY⟩ := I
  refine rl_elX (Q := fun u => wpX_set (fun r u' => wpY_set (fun r' v' => r' = r ∧ i_Rel (k + 4) u' v') v v1 v2 v3) u v1 v2 v3) hX ?_
  intro f_count f_byEffort f_best f_turns a_waysOut a_placeOf a_goalOf a_stepTo a_toGoal a_distance a_who a_cost a_origin a_closed a_onward a_queue a_cellNow a_cellNext a_walkNow a_walkNext a_used a_flowFrom a_flowTo a_cameBy a_line x1 x2 x3
  refine rl_elY (Q := fun v => wpX_set (fun r u' => wpY_set (fun r' v' => r' = r ∧ i_Rel (k + 4) u' v') v v1 v2 v3) (nI W, nI P, f_count, f_byEffort, f_best, f_turns, a_waysOut, a_placeOf, a_goalOf, a_stepTo, a_toGoal, a_distance, a_who, a_cost, a_origin, a_closed, a_onward, a_queue, a_cellNow, a_cellNext, a_walkNow, a_walkNext, a_used, a_flowFrom, a_flowTo, a_cameBy, a_line) v1 v2 v3) hY ?_
  intro b_size b_isWall b_waysOut b_isSet b_place b_goal b_walkers b_steps b_cost b_good y0 y1 ys y2 y3
  have same : ∀ r : Int32, r = r ∧ i_Rel (k + 4) (nI W, nI P, f_count, f_byEffort, f_best, f_turns, a_waysOut, a_placeOf, a_goalOf, a_stepTo, a_toGoal, a_distance, a_who, a_cost, a_origin, a_closed, a_onward, a_queue, a_cellNow, a_cellNext, a_walkNow, a_walkNext, a_used, a_flowFrom, a_flowTo, a_cameBy, a_line) (b_size, b_isWall, b_waysOut, b_isSet, b_place, b_goal, b_walkers, b_steps, b_cost, b_good) := fun r => ⟨rfl, rl_in hE (rl_mkX x1 x2 x3) (rl_mkY y0 y1 ys y2 y3)⟩
  unfold wpX_set wpY_set
  dsimp only
  refine br_c (fun n1 => br_t n1 (same _)) (fun n1 => ?_)
  rcases pk_ix v1 (n := 3) (by omega) with z | z | ⟨w, hw, rfl⟩
  · exact absurd z n1
  · refine br_f (fun q => ?_) (br_f n1 (br_f (fun q => ?_) (same _)))
    · exact absurd z (Int32.not_le.mpr q)
    · exact absurd (Int32.le_trans z q) (by decide)
  · have cw : (nI w).toNatClampNeg = w := nI_clamp (by omega)
    have vw : vp_in (nI w) 3 := vp_in_nI hw (by omega)
    have le2 : nI w ≤ 2 := nI_le (b := 2) (by omega) (by omega)
    refine br_t (nI_lt (b := 3) hw (by omega)) ?_
    refine xw_isCell (fun p hp e => ?_) (fun hn => br_t rfl (br_f n1 (br_t le2 (yw_isCell (fun c hc e => absurd e (hn c hc)) (fun _ => br_t rfl (same _))))))
    subst e
    refine br_f (by decide) (xw_isCell (fun g hg e => ?_) (fun hn => br_t rfl (br_f n1 (br_t le2 (yw_isCell (fun _ _ _ => br_f (by decide) (yw_isCell (fun c hc e => absurd e (hn c hc)) (fun _ => br_t rfl (same _)))) (fun h => absurd rfl (h p hp)))))))
    subst e
    refine br_f (by decide) (nm_r (e' := nI (P ||| 2 ^ w)) (by rw [xb_sh1 (by omega), nx_or]) ⟨vw, nm_r (by rw [cw]) ⟨vw, nm_r (by rw [cw]) ?_⟩⟩)
    refine br_f n1 (br_t le2 (yw_isCell (fun _ _ _ => br_f (by decide) (yw_isCell (fun _ _ _ => br_f (by decide) ⟨vw, nm_r (by rw [cw, xb_b1]) ⟨vw, nm_r (by rw [cw]) ⟨vw, nm_r (by rw [cw]) ⟨rfl, ?_⟩⟩⟩⟩) (fun h => absurd rfl (h g hg)))) (fun h => absurd rfl (h p hp))))
    refine rl_in (P := P ||| 2 ^ w) (pl := ag_up pl w p) (gl := ag_up gl w g) ⟨hE.1, hE.2.1, Nat.or_lt_two_pow (n := 3) hE.2.2.1 (Nat.pow_lt_pow_right (by omega) hw), fun d hd => ?_, fun d hd => ?_⟩ (rl_mkX x1 (fun d hd => ?_) (fun d hd => ?_)) (rl_mkY y0 y1 (fun d hd => ?_) (fun d hd => ?_) (fun d hd => ?_))
    · rcases Nat.decEq d w with z | rfl
      · rw [ag_un _ _ z]; exact hE.2.2.2.1 d hd
      · rw [ag_us]; exact hp
    · rcases Nat.decEq d w with z | rfl
      · rw [ag_un _ _ z]; exact hE.2.2.2.2 d hd
      · rw [ag_us]; exact hg
    · rcases Nat.decEq d w with z | rfl
      · rw [ag_un _ _ z, pk_un z]; exact x2 d hd
      · rw [ag_us, pk_us]
    · rcases Nat.decEq d w with z | rfl
      · rw [ag_un _ _ z, pk_un z]; exact x3 d hd
      · rw [ag_us, pk_us]
    · rw [Nat.testBit_or]
      rcases Nat.decEq d w with z | rfl
      · rw [pk_un z, ys d hd, Nat.testBit_two_pow_of_ne (fun e => z e.symm), Bool.or_false]
      · rw [pk_us, Nat.testBit_two_pow_self, Bool.or_true]; rfl
    · rcases Nat.decEq d w with z | rfl
      · rw [ag_un _ _ z, pk_un z]; exact y2 d hd
      · rw [ag_us, pk_us]
    · rcases Nat.decEq d w with z | rfl
      · rw [ag_un _ _ z, pk_un z]; exact y3 d hd
      · rw [ag_us, pk_us]
end
section
/-- places and goals changed for those of a team ahead of w -/
def tr_v (T : Nat) (pl gl : Nat → Nat) (w v : Nat) : Nat := if v < w ∧ T.testBit v = true then gl v else pl v
section
variable {W P T : Nat} {wy pl gl : Nat → Nat}
theorem tr_S {w v : Nat} (hb : T.testBit w = true) : tr_v T pl gl (w + 1) v = if v = w then gl v else tr_v T pl gl w v := by
  unfold tr_v
  rcases Nat.decEq v w with z | rfl
  · rw [if_neg z]
    by_cases q : v < w ∧ T.testBit v = true
    · rw [if_pos q, if_pos ⟨by omega, q.2⟩]
    · rw [if_neg q, if_neg (fun r => q ⟨by omega, r.2⟩)]
  · rw [if_pos ⟨by omega, hb⟩, if_pos rfl]
theorem tr_N {w v : Nat} (hb : T.testBit w = false) : tr_v T pl gl (w + 1) v = tr_v T pl gl w v := by
  unfold tr_v
  by_cases q : v < w ∧ T.testBit v = true
  · rw [if_pos q, if_pos ⟨by omega, q.2⟩]
  · rw [if_neg q, if_neg (fun r => ?_)]
    rcases Nat.decEq v w with z | rfl
    · exact q ⟨by omega, r.2⟩
    · rw [hb] at r; exact absurd r.2 (by decide)
theorem tr_w {w : Nat} : tr_v T pl gl w w = pl w := if_neg (fun r => by omega)
theorem tr_lt {w v : Nat} (h1 : pl v < 12) (h2 : gl v < 12) : tr_v T pl gl w v < 12 := by
  unfold tr_v
  split
  · exact h2
  · exact h1
variable {f_walls f_placed f_count f_byEffort f_best f_turns : Int32} {a_waysOut a_placeOf a_goalOf a_stepTo a_toGoal a_distance a_who a_cost a_origin a_closed a_onward a_queue a_cellNow a_cellNext a_walkNow a_walkNext a_used a_flowFrom a_flowTo a_cameBy a_line : Nat → Int32}
variable {b_size : Int32} {b_isWall b_waysOut b_isSet b_place b_goal b_walkers b_steps b_cost b_good : Nat → Int32}
theorem xw_turn14 {post : Int32 → SX → Prop} (hT : T < 8) (h : ∀ a_placeOf a_goalOf, (∀ v, v < 3 → a_placeOf v = nI (tr_v T pl gl 3 v)) → (∀ v, v < 3 → a_goalOf v = nI (tr_v T gl pl 3 v)) → post (nI (tm_k T)) (f_walls, f_placed, f_count, f_byEffort, f_best, f_turns, a_waysOut, a_placeOf, a_goalOf, a_stepTo, a_toGoal, a_distance, a_who, a_cost, a_origin, a_closed, a_onward, a_queue, a_cellNow, a_cellNext, a_walkNow, a_walkNext, a_used, a_flowFrom, a_flowTo, a_cameBy, a_line)) :
    ∀ e w n a_placeOf a_goalOf, w + e = 3 → e < n → (∀ v, v < 3 → a_placeOf v = nI (tr_v T pl gl w v)) → (∀ v, v < 3 → a_goalOf v = nI (tr_v T gl pl w v)) → wX_turnRound_14 post (nI T) f_walls f_placed f_count f_byEffort f_best f_turns n (nI (tm_c T w)) (nI w) a_waysOut a_placeOf a_goalOf a_stepTo a_toGoal a_distance a_who a_cost a_origin a_closed a_onward a_queue a_cellNow a_cellNext a_walkNow a_walkNext a_used a_flowFrom a_flowTo a_cameBy a_line := by
  intro e
  induction e with
  | zero =>
    intro w n a_placeOf a_goalOf he hn hp hg
    obtain ⟨n, rfl⟩ : ∃ m, n = m + 1 := ⟨n - 1, by omega⟩
    obtain rfl : w = 3 := by omega
    exact br_t (by decide) (h a_placeOf a_goalOf hp hg)
  | succ e ih =>
    intro w n a_placeOf a_goalOf he hn hp hg
    obtain ⟨n, rfl⟩ : ∃ m, n = m + 1 := ⟨n - 1, by omega⟩
    have f := tm_f1 T hT w (by omega)
    refine pk_le 3 w (fun _ => by omega) (fun hlt => xb_br (by omega) (by omega) (fun hb => ?_) (fun hb => nm_r (nI_1 w) ?_))
    · have f := f.1 hb
      have vw : vp_in (nI w) 3 := vp_in_nI hlt (by omega)
      have cw : (nI w).toNatClampNeg = w := nI_clamp (by omega)
      refine ⟨vw, nm_r (e' := nI (pl w)) (by rw [cw, hp w hlt, tr_w]) ⟨vw, vw, nm_r (by rw [cw, hg w hlt, tr_w]) ⟨vw, nm_r (by rw [cw]) (nm_r (nI_1 _) (nm_r (nI_1 w) ?_))⟩⟩⟩
      rw [← f.2.1]
      refine ih (w + 1) n _ _ (by omega) (by omega) (fun v hv => ?_) (fun v hv => ?_)
      · rw [tr_S hb]
        rcases Nat.decEq v w with z | rfl
        · rw [pk_un z, if_neg z]; exact hp v hv
        · rw [pk_us, if_pos rfl]
      · rw [tr_S hb]
        rcases Nat.decEq v w with z | rfl
        · rw [pk_un z, if_neg z]; exact hg v hv
        · rw [pk_us, if_pos rfl]
    · rw [← f.2 hb]
      exact ih (w + 1) n a_placeOf a_goalOf (by omega) (by omega) (fun v hv => by rw [tr_N hb]; exact hp v hv) (fun v hv => by rw [tr_N hb]; exact hg v hv)
theorem yw_turn14 {post : Int32 → SY → Prop} (hT : T < 8) (h : ∀ b_place b_goal, (∀ v, v < 3 → b_place v = nI (tr_v T pl gl 3 v)) → (∀ v, v < 3 → b_goal v = nI (tr_v T gl pl 3 v)) → post (nI (tm_k T)) (b_size, b_isWall, b_waysOut, b_isSet, b_place, b_goal, b_walkers, b_steps, b_cost, b_good)) :
    ∀ e w n b_place b_goal, w + e = 3 → e < n → (∀ v, v < 3 → b_place v = nI (tr_v T pl gl w v)) → (∀ v, v < 3 → b_goal v = nI (tr_v T gl pl w v)) → wY_turnRound_14 post (nI T) b_size n (nI (tm_c T w)) (nI w) b_isWall b_waysOut b_isSet b_place b_goal b_walkers b_steps b_cost b_good := by
  intro e
  induction e with
  | zero =>
    intro w n b_place b_goal he hn hp hg
    obtain ⟨n, rfl⟩ : ∃ m, n = m + 1 := ⟨n - 1, by omega⟩
    obtain rfl : w = 3 := by omega
    exact br_t (by decide) (h b_place b_goal hp hg)
  | succ e ih =>
    intro w n b_place b_goal he hn hp hg
    obtain ⟨n, rfl⟩ : ∃ m, n = m + 1 := ⟨n - 1, by omega⟩
    have f := tm_f1 T hT w (by omega)
    refine pk_le 3 w (fun _ => by omega) (fun hlt => yw_in hT hlt (fun hb => br_f (by decide) ?_) (fun hb => br_t rfl (nm_r (nI_1 w) ?_)))
    · have f := f.1 hb
      have vw : vp_in (nI w) 3 := vp_in_nI hlt (by omega)
      have cw : (nI w).toNatClampNeg = w := nI_clamp (by omega)
      refine ⟨vw, nm_r (e' := nI (pl w)) (by rw [cw, hp w hlt, tr_w]) ⟨vw, vw, nm_r (by rw [cw, hg w hlt, tr_w]) ⟨vw, nm_r (by rw [cw]) (nm_r (nI_1 _) (nm_r (nI_1 w) ?_))⟩⟩⟩
      rw [← f.2.1]
      refine ih (w + 1) n _ _ (by omega) (by omega) (fun v hv => ?_) (fun v hv => ?_)
      · rw [tr_S hb]
        rcases Nat.decEq v w with z | rfl
        · rw [pk_un z, if_neg z]; exact hp v hv
        · rw [pk_us, if_pos rfl]
      · rw [tr_S hb]
        rcases Nat.decEq v w with z | rfl
        · rw [pk_un z, if_neg z]; exact hg v hv
        · rw [pk_us, if_pos rfl]
    · rw [← f.2 hb]
      exact ih (w + 1) n b_place b_goal (by omega) (by omega) (fun v hv => by rw [tr_N hb]; exact hp v hv) (fun v hv => by rw [tr_N hb]; exact hg v hv)
end
theorem i_vc_turnRound {k : Nat} {u : SX} {v : SY} (I : i_Rel k u v) (hk : k + 4 ≤ 2048) (v1 : Int32) : wpX_turnRound (fun r u' => wpY_turnRound (fun r' v' => r' = r ∧ i_Rel (k + 4) u' v') v v1) u v1 := by
  obtain ⟨W, wy, P, pl, gl, hE, hX, hY⟩ := I
  refine rl_elX (Q := fun u => wpX_turnRound (fun r u' => wpY_turnRound (fun r' v' => r' = r ∧ i_Rel (k + 4) u' v') v v1) u v1) hX ?_
  intro f_count f_byEffort f_best f_turns a_waysOut a_placeOf a_goalOf a_stepTo a_toGoal a_distance a_who a_cost a_origin a_closed a_onward a_queue a_cellNow a_cellNext a_walkNow a_walkNext a_used a_flowFrom a_flowTo a_cameBy a_line x1 x2 x3
  refine rl_elY (Q := fun v => wpX_turnRound (fun r u' => wpY_turnRound (fun r' v' => r' = r ∧ i_Rel (k + 4) u' v') v v1) (nI W, nI P, f_count, f_byEffort, f_best, f_turns, a_waysOut, a_placeOf, a_goalOf, a_stepTo, a_toGoal, a_distance, a_who, a_cost, a_origin, a_closed, a_onward, a_queue, a_cellNow, a_cellNext, a_walkNow, a_walkNext, a_used, a_flowFrom, a_flowTo, a_cameBy, a_line) v1) hY ?_
  intro b_size b_isWall b_waysOut b_isSet b_place b_goal b_walkers b_steps b_cost b_good y0 y1 ys y2 y3
  unfold wpX_turnRound wpY_turnRound
  dsimp only
  refine xw_isReady hE x2 x3 (fun T t1 t8 e hr => ?_) (fun hn => br_t rfl (yw_isReady hE y0 ys y2 y3 (fun T t1 t8 e hr => absurd hr (hn T t1 t8 e)) (fun _ => br_t rfl ⟨rfl, rl_in hE (rl_mkX x1 x2 x3) (rl_mkY y0 y1 ys y2 y3)⟩)))
  subst e
  refine br_f (by decide) ⟨4, xw_turn14 (pl := pl) (gl := gl) t8 (fun a_placeOf a_goalOf hp hg => ?_) 3 0 4 a_placeOf a_goalOf (by omega) (by omega) (fun v hv => ?_) (fun v hv => ?_)⟩
  · refine yw_isReady hE y0 ys y2 y3 (fun _ _ _ _ _ => br_f (by decide) ⟨4, yw_turn14 (pl := pl) (gl := gl) t8 (fun b_place b_goal hp' hg' => ⟨rfl, ?_⟩) 3 0 4 b_place b_goal (by omega) (by omega) (fun v hv => ?_) (fun v hv => ?_)⟩) (fun hn => absurd hr (hn T t1 t8 rfl))
    · rw [show tr_v T pl gl 0 v = pl v from if_neg (fun r => by omega)]; exact y2 v hv
    · rw [show tr_v T gl pl 0 v = gl v from if_neg (fun r => by omega)]; exact y3 v hv
    · exact rl_in (pl := tr_v T pl gl 3) (gl := tr_v T gl pl 3) ⟨hE.1, hE.2.1, hE.2.2.1, fun w hw => tr_lt (hE.2.2.2.1 w hw) (hE.2.2.2.2 w hw), fun w hw => tr_lt (hE.2.2.2.2 w hw) (hE.2.2.2.1 w hw)⟩ (rl_mkX x1 hp hg) (rl_mkY y0 y1 ys hp' hg')
  · rw [show tr_v T pl gl 0 v = pl v from if_neg (fun r => by omega)]; exact x2 v hv
  · rw [show tr_v T gl pl 0 v = gl v from if_neg (fun r => by omega)]; exact x3 v hv
end
section
theorem rl_st {W P T : Nat} {wy pl gl : Nat → Nat} (hE : rl_E W wy P pl gl) (t1 : 1 ≤ T) (t8 : T < 8) (hr : tm_R T pl gl) (ho : ∀ w, w < 3 → T.testBit w = true → W.testBit (pl w) = false) :
    mo_V (tm_k T) (tm_s (tm_k T) fun i => pl (tm_w T i)) ∧ mo_O (cg_op W) (tm_k T) (tm_s (tm_k T) fun i => pl (tm_w T i)) := by
  refine ⟨tm_R_V t1 t8 (fun _ _ z => z) hE.2.2.2.1 fun i j hij hj bi bj => (hr i j hij hj bi bj).1, ?_⟩
  obtain ⟨hk, hf⟩ := tm_f2 T t8 t1
  have h3 : ∀ i, i < tm_k T → i < 3 := fun i hi => by rcases hk with e | e | e <;> omega
  have lp : ∀ i, i < tm_k T → pl (tm_w T i) < 12 := fun i hi => hE.2.2.2.1 _ (hf i (h3 i hi) hi).1
  have d := tm_s_d hk lp
  have op : ∀ i, i < tm_k T → cg_op W (pl (tm_w T i)) := fun i hi => ho _ (hf i (h3 i hi) hi).1 (hf i (h3 i hi) hi).2.1
  have k0 : 0 < tm_k T := by rcases hk with e | e | e <;> omega
  exact ⟨by rw [d.1]; exact op 0 k0, fun z => by rw [d.2.1 z]; exact op 1 (by omega), fun z => by rw [d.2.2 z]; exact op 2 (by omega)⟩
section
variable {W P T : Nat} {wy pl gl : Nat → Nat} {b : Bool}
variable {b_size : Int32} {b_isWall b_waysOut b_isSet b_place b_goal b_walkers b_steps b_cost b_good : Nat → Int32}
theorem yw_lt0 {post : Int32 → SY → Prop} (hE : rl_E W wy P pl gl) (t1 : 1 ≤ T) (t8 : T < 8) (hr : tm_R T pl gl) (ho : ∀ w, w < 3 → T.testBit w = true → W.testBit (pl w) = false) (hW : yw_W W b_isWall) (hw : ∀ c, c < 12 → b_waysOut c = nI (wy c)) (hp : ∀ w, w < 3 → b_place w = nI (pl w)) (hg : ∀ w, w < 3 → b_goal w = nI (gl w))
    (h : ∀ C b_walkers b_steps b_cost r, yw_ST (cg_tg W wy) (cg_op W) b_steps → tm_W (tm_k T) (tm_w T) b_walkers → yc_R C b_cost → dj_F (mo_E (cg_tg W wy) false (tm_k T)) (tm_s (tm_k T) fun i => pl (tm_w T i)) C → an_P (mo_E (cg_tg W wy) false (tm_k T)) (tm_s (tm_k T) fun i => pl (tm_w T i)) (tm_s (tm_k T) fun i => gl (tm_w T i)) r → post r (nI (tm_k T), b_isWall, b_waysOut, b_isSet, b_place, b_goal, b_walkers, b_steps, b_cost, b_good)) :
    wpY_leastTurns post (b_size, b_isWall, b_waysOut, b_isSet, b_place, b_goal, b_walkers, b_steps, b_cost, b_good) (nI T) := by
  obtain ⟨hk, hf⟩ := tm_f2 T t8 t1
  obtain ⟨hV, hO⟩ := rl_st hE t1 t8 hr ho
  have h3 : ∀ i, i < tm_k T → i < 3 := fun i hi => by rcases hk with e | e | e <;> omega
  have lg : (tm_s (tm_k T) fun i => gl (tm_w T i)) < 1728 := Nat.lt_of_lt_of_le (tm_s_lt hk fun i hi => hE.2.2.2.2 _ (hf i (h3 i hi) hi).1) (mo_Nle _)
  have ok := cg_tg_ok W wy
  unfold wpY_leastTurns
  dsimp only
  refine yw_choose t1 t8 hW (fun c hc => ⟨hw c hc, hE.2.1 c hc⟩) fun b_walkers b_steps hst hwk => ?_
  refine yw_spread (b := false) hk ok hst hwk (fun w hw => ⟨hp w hw, hE.2.2.2.1 w hw⟩) hO hV fun C b_cost R hF => ?_
  refine yw_finish hk hwk (fun w hw => ⟨hg w hw, hE.2.2.2.2 w hw⟩) ?_
  exact yw_costOf lg R hF fun r hr => h C b_walkers b_steps b_cost r hst hwk R hF hr
theorem yw_easy {post : Int32 → SY → Prop} (hE : rl_E W wy P pl gl) (t1 : 1 ≤ T) (t8 : T < 8) (hr : rl_rdy W P pl gl T) (hW : yw_W W b_isWall) (hs : ∀ w, w < 3 → b_isSet w = if P.testBit w = true then 1 else 0) (hw : ∀ c, c < 12 → b_waysOut c = nI (wy c)) (hp : ∀ w, w < 3 → b_place w = nI (pl w)) (hg : ∀ w, w < 3 → b_goal w = nI (gl w))
    (h : ∀ b_size b_walkers b_steps b_cost r, an_P (mo_E (cg_tg W wy) true (tm_k T)) (tm_s (tm_k T) fun i => pl (tm_w T i)) (tm_s (tm_k T) fun i => gl (tm_w T i)) r → post r (b_size, b_isWall, b_waysOut, b_isSet, b_place, b_goal, b_walkers, b_steps, b_cost, b_good)) :
    wpY_easiest post (b_size, b_isWall, b_waysOut, b_isSet, b_place, b_goal, b_walkers, b_steps, b_cost, b_good) (nI T) := by
  obtain ⟨hk, hf⟩ := tm_f2 T t8 t1
  obtain ⟨hV, hO⟩ := rl_st hE t1 t8 hr.2 (fun w hw hb => (hr.1 w hw hb).2.1)
  have h3 : ∀ i, i < tm_k T → i < 3 := fun i hi => by rcases hk with e | e | e <;> omega
  have lg : (tm_s (tm_k T) fun i => gl (tm_w T i)) < 1728 := Nat.lt_of_lt_of_le (tm_s_lt hk fun i hi => hE.2.2.2.2 _ (hf i (h3 i hi) hi).1) (mo_Nle _)
  have ok := cg_tg_ok W wy
  unfold wpY_easiest
  dsimp only
  refine yw_isReady hE hW hs hp hg (fun _ _ _ _ _ => br_f (by decide) ?_) (fun hn => absurd hr (hn T t1 t8 rfl))
  refine yw_choose t1 t8 hW (fun c hc => ⟨hw c hc, hE.2.1 c hc⟩) fun b_walkers b_steps hst hwk => ?_
  refine yw_spread (b := true) hk ok hst hwk (fun w hw => ⟨hp w hw, hE.2.2.2.1 w hw⟩) hO hV fun C b_cost R hF => ?_
  refine yw_finish hk hwk (fun w hw => ⟨hg w hw, hE.2.2.2.2 w hw⟩) ?_
  exact yw_costOf lg R hF fun r hr => h (nI (tm_k T)) b_walkers b_steps b_cost r hr
end
theorem i_vc_fastest {k : Nat} {u : SX} {v : SY} (I : i_Rel k u v) (hk : k + 4 ≤ 2048) (v1 : Int32) : wpX_fastest (fun r u' => wpY_fastest (fun r' v' => r' = r ∧ i_Rel (k + 4) u' v') v v1) u v1 := by
  obtain ⟨W, wy, P, pl, gl, hE, hX, hY⟩ := I
  refine rl_elX (Q := fun u => wpX_fastest (fun r u' => wpY_fastest (fun r' v' => r' = r ∧ i_Rel (k + 4) u' v') v v1) u v1) hX ?_
  intro f_count f_byEffort f_best f_turns a_waysOut a_placeOf a_goalOf a_stepTo a_toGoal a_distance a_who a_cost a_origin a_closed a_onward a_queue a_cellNow a_cellNext a_walkNow a_walkNext a_used a_flowFrom a_flowTo a_cameBy a_line x1 x2 x3
  refine rl_elY (Q := fun v => wpX_fastest (fun r u' => wpY_fastest (fun r' v' => r' = r ∧ i_Rel (k + 4) u' v') v v1) (nI W, nI P, f_count, f_byEffort, f_best, f_turns, a_waysOut, a_placeOf, a_goalOf, a_stepTo, a_toGoal, a_distance, a_who, a_cost, a_origin, a_closed, a_onward, a_queue, a_cellNow, a_cellNext, a_walkNow, a_walkNext, a_used, a_flowFrom, a_flowTo, a_cameBy, a_line) v1) hY ?_
  intro b_size b_isWall b_waysOut b_isSet b_place b_goal b_walkers b_steps b_cost b_good y0 y1 ys y2 y3
  unfold wpX_fastest wpY_fastest
  dsimp only
  refine xw_isReady hE x2 x3 (fun T t1 t8 e hr => ?_) (fun hn => br_t rfl (yw_isReady hE y0 ys y2 y3 (fun T t1 t8 e hr => absurd hr (hn T t1 t8 e)) (fun _ => br_t rfl ⟨rfl, rl_in hE (rl_mkX x1 x2 x3) (rl_mkY y0 y1 ys y2 y3)⟩)))
  subst e
  refine br_f (by decide) ?_
  refine xw_plan (b := false) t1 t8 hE.1 (fun c hc => ⟨x1 c hc, hE.2.1 c hc⟩) (fun w hw => ⟨x2 w hw, hE.2.2.2.1 w hw⟩) (fun w hw => ⟨x3 w hw, hE.2.2.2.2 w hw⟩) hr.2 ?_
  intro f_count f_best a_stepTo a_toGoal a_distance a_who a_cost a_origin a_closed a_onward a_cellNow a_cellNext a_walkNow a_walkNext r _ hA
  refine yw_isReady hE y0 ys y2 y3 (fun _ _ _ _ _ => br_f (by decide) ?_) (fun hn => absurd hr (hn T t1 t8 rfl))
  refine yw_lt0 hE t1 t8 hr.2 (fun w hw hb => (hr.1 w hw hb).2.1) y0 y1 y2 y3 fun C b_walkers b_steps b_cost r' _ _ _ _ hA' => ?_
  exact ⟨an_u hA' hA, rl_in hE (rl_mkX x1 x2 x3) (rl_mkY y0 y1 ys y2 y3)⟩
theorem i_vc_easiest {k : Nat} {u : SX} {v : SY} (I : i_Rel k u v) (hk : k + 4 ≤ 2048) (v1 : Int32) : wpX_easiest (fun r u' => wpY_easiest (fun r' v' => r' = r ∧ i_Rel (k + 4) u' v') v v1) u v1 := by
  obtain ⟨W, wy, P, pl, gl, hE, hX, hY⟩ := I
  refine rl_elX (Q := fun u => wpX_easiest (fun r u' => wpY_easiest (fun r' v' => r' = r ∧ i_Rel (k + 4) u' v') v v1) u v1) hX ?_
  intro f_count f_byEffort f_best f_turns a_waysOut a_placeOf a_goalOf a_stepTo a_toGoal a_distance a_who a_cost a_origin a_closed a_onward a_queue a_cellNow a_cellNext a_walkNow a_walkNext a_used a_flowFrom a_flowTo a_cameBy a_line x1 x2 x3
  refine rl_elY (Q := fun v => wpX_easiest (fun r u' => wpY_easiest (fun r' v' => r' = r ∧ i_Rel (k + 4) u' v') v v1) (nI W, nI P, f_count, f_byEffort, f_best, f_turns, a_waysOut, a_placeOf, a_goalOf, a_stepTo, a_toGoal, a_distance, a_who, a_cost, a_origin, a_closed, a_onward, a_queue, a_cellNow, a_cellNext, a_walkNow, a_walkNext, a_used, a_flowFrom, a_flowTo, a_cameBy, a_line) v1) hY ?_
  intro b_size b_isWall b_waysOut b_isSet b_place b_goal b_walkers b_steps b_cost b_good y0 y1 ys y2 y3
  unfold wpX_easiest
  dsimp only
  refine xw_isReady hE x2 x3 (fun T t1 t8 e hr => ?_) (fun hn => br_t rfl ?_)
  · subst e
    refine br_f (by decide) ?_
    refine xw_plan (b := true) t1 t8 hE.1 (fun c hc => ⟨x1 c hc, hE.2.1 c hc⟩) (fun w hw => ⟨x2 w hw, hE.2.2.2.1 w hw⟩) (fun w hw => ⟨x3 w hw, hE.2.2.2.2 w hw⟩) hr.2 ?_
    intro f_count f_best a_stepTo a_toGoal a_distance a_who a_cost a_origin a_closed a_onward a_cellNow a_cellNext a_walkNow a_walkNext r _ hA
    refine yw_easy hE t1 t8 hr y0 ys y1 y2 y3 fun b_size b_walkers b_steps b_cost r' hA' => ?_
    exact ⟨an_u hA' hA, rl_in hE (rl_mkX x1 x2 x3) (rl_mkY y0 y1 ys y2 y3)⟩
  · unfold wpY_easiest
    dsimp only
    exact yw_isReady hE y0 ys y2 y3 (fun T t1 t8 e hr => absurd hr (hn T t1 t8 e)) (fun _ => br_t rfl ⟨rfl, rl_in hE (rl_mkX x1 x2 x3) (rl_mkY y0 y1 ys y2 y3)⟩)
end
section
def nd_end (T : Nat) (pl gl : Nat → Nat) (c : Nat) : Prop := ∃ w, w < 3 ∧ T.testBit w = true ∧ (pl w = c ∨ gl w = c)
/-- a cell whose closing changes the answer r -/
def nd_C (W : Nat) (wy : Nat → Nat) (T : Nat) (pl gl : Nat → Nat) (r : Int32) (c : Nat) : Prop :=
  W.testBit c = false ∧ ¬ nd_end T pl gl c ∧ ∀ r', an_P (mo_E (cg_tg (W ^^^ 2 ^ c) wy) false (tm_k T)) (tm_s (tm_k T) fun i => pl (tm_w T i)) (tm_s (tm_k T) fun i => gl (tm_w T i)) r' → r' ≠ r
theorem xr_xx (W M : Nat) : W ^^^ M ^^^ M = W := by rw [Nat.xor_assoc, Nat.xor_self, Nat.xor_zero]
theorem ct_S1 {P : Nat → Prop} {i : Nat} (h : P i) : ct_n P (i + 1) = ct_n P i + 1 := by
  simp only [ct_n]; rw [ct_bt h]
theorem ct_S0 {P : Nat → Prop} {i : Nat} (h : ¬ P i) : ct_n P (i + 1) = ct_n P i := by
  simp only [ct_n]; rw [ct_bf h]; rfl
section
variable {W P T : Nat} {wy pl gl : Nat → Nat}
variable {f_walls f_placed f_count f_byEffort f_best f_turns : Int32} {a_waysOut a_placeOf a_goalOf a_stepTo a_toGoal a_distance a_who a_cost a_origin a_closed a_onward a_queue a_cellNow a_cellNext a_walkNow a_walkNext a_used a_flowFrom a_flowTo a_cameBy a_line : Nat → Int32}
variable {b_size : Int32} {b_isWall b_waysOut b_isSet b_place b_goal b_walkers b_steps b_cost b_good : Nat → Int32}
theorem xw_isEnd {post : Int32 → Prop} {c : Nat} (t8 : T < 8) (hE : rl_E W wy P pl gl) (hc : c < 12) (hp : ∀ w, w < 3 → a_placeOf w = nI (pl w)) (hg : ∀ w, w < 3 → a_goalOf w = nI (gl w)) (h1 : nd_end T pl gl c → post 1) (h0 : ¬ nd_end T pl gl c → post 0) : wpX_isEnd post (f_walls, f_placed, f_count, f_byEffort, f_best, f_turns, a_waysOut, a_placeOf, a_goalOf, a_stepTo, a_toGoal, a_distance, a_who, a_cost, a_origin, a_closed, a_onward, a_queue, a_cellNow, a_cellNext, a_walkNow, a_walkNext, a_used, a_flowFrom, a_flowTo, a_cameBy, a_line) (nI T) (nI c) := by
  have key : ∀ e w n, w + e = 3 → e < n → (∀ v, v < w → T.testBit v = true → pl v ≠ c ∧ gl v ≠ c) → wX_isEnd_2 post (nI T) (nI c) f_walls f_placed f_count f_byEffort f_best f_turns a_waysOut a_placeOf a_goalOf a_stepTo a_toGoal a_distance a_who a_cost a_origin a_closed a_onward a_queue a_cellNow a_cellNext a_walkNow a_walkNext a_used a_flowFrom a_flowTo a_cameBy a_line n (nI w) := by
    intro e
    induction e with
    | zero =>
      intro w n he hn hi
      obtain ⟨n, rfl⟩ : ∃ m, n = m + 1 := ⟨n - 1, by omega⟩
      refine pk_le 3 w (fun _ => h0 ?_) (fun h => by omega)
      rintro ⟨v, v3, vb, vv⟩
      have := hi v (by omega) vb
      exact vv.elim this.1 this.2
    | succ e ih =>
      intro w n he hn hi
      obtain ⟨n, rfl⟩ : ∃ m, n = m + 1 := ⟨n - 1, by omega⟩
      have next : (T.testBit w = true → pl w ≠ c ∧ gl w ≠ c) → wX_isEnd_2 post (nI T) (nI c) f_walls f_placed f_count f_byEffort f_best f_turns a_waysOut a_placeOf a_goalOf a_stepTo a_toGoal a_distance a_who a_cost a_origin a_closed a_onward a_queue a_cellNow a_cellNext a_walkNow a_walkNext a_used a_flowFrom a_flowTo a_cameBy a_line n (nI (w + 1)) := fun q => ih (w + 1) n (by omega) (by omega) fun v hv hb => by
        rcases Nat.decEq v w with z | rfl
        · exact hi v (by omega) hb
        · exact q hb
      refine pk_le 3 w (fun _ => by omega) (fun hlt => xb_br (by omega) (by omega) (fun hb => ⟨vp_in_nI hlt (by omega), ?_⟩) (fun hb => nm_r (nI_1 w) (next fun z => by rw [hb] at z; cases z)))
      have l1 := hE.2.2.2.1 w hlt
      have l2 := hE.2.2.2.2 w hlt
      rw [nI_clamp (show w < 2 ^ 31 by omega), hp w hlt]
      refine pk_eq (pl w) c (fun z => h1 ⟨w, hlt, hb, Or.inl z⟩) (fun z => ⟨vp_in_nI hlt (by omega), ?_⟩)
      rw [hg w hlt]
      exact pk_eq (gl w) c (fun z2 => h1 ⟨w, hlt, hb, Or.inr z2⟩) (fun z2 => nm_r (nI_1 w) (next fun _ => ⟨z, z2⟩))
  exact ⟨4, key 3 0 4 (by omega) (by omega) fun v hv => by omega⟩
theorem yw_isUsed {post : Int32 → Prop} {c : Nat} (t8 : T < 8) (hE : rl_E W wy P pl gl) (hc : c < 12) (hp : ∀ w, w < 3 → b_place w = nI (pl w)) (hg : ∀ w, w < 3 → b_goal w = nI (gl w)) (h1 : nd_end T pl gl c → post 1) (h0 : ¬ nd_end T pl gl c → post 0) : wpY_isUsed post (b_size, b_isWall, b_waysOut, b_isSet, b_place, b_goal, b_walkers, b_steps, b_cost, b_good) (nI T) (nI c) := by
  have key : ∀ e w n x, w + e = 3 → e < n → rl_f x (∃ v, v < w ∧ T.testBit v = true ∧ (pl v = c ∨ gl v = c)) → wY_isUsed_5 post (nI T) (nI c) b_size b_isWall b_waysOut b_isSet b_place b_goal b_walkers b_steps b_cost b_good n x (nI w) := by
    intro e
    induction e with
    | zero =>
      intro w n x he hn hx
      obtain ⟨n, rfl⟩ : ∃ m, n = m + 1 := ⟨n - 1, by omega⟩
      obtain rfl : w = 3 := by omega
      refine br_t (by decide) ?_
      rcases hx with ⟨rfl, q⟩ | ⟨rfl, q⟩
      · exact ⟨rfl, h1 q⟩
      · exact ⟨rfl, h0 q⟩
    | succ e ih =>
      intro w n x he hn hx
      obtain ⟨n, rfl⟩ : ∃ m, n = m + 1 := ⟨n - 1, by omega⟩
      refine pk_le 3 w (fun _ => by omega) (fun hlt => ?_)
      rcases hx with ⟨rfl, ⟨v, v1, v2, v3⟩⟩ | ⟨rfl, q⟩
      · exact br_f (by decide) (nm_r (nI_1 w) (ih (w + 1) n 1 (by omega) (by omega) (Or.inl ⟨rfl, v, by omega, v2, v3⟩)))
      · have no : (T.testBit w = true → pl w ≠ c ∧ gl w ≠ c) → wY_isUsed_5 post (nI T) (nI c) b_size b_isWall b_waysOut b_isSet b_place b_goal b_walkers b_steps b_cost b_good n 0 (nI (w + 1)) := fun r => ih (w + 1) n 0 (by omega) (by omega) (Or.inr ⟨rfl, by
          rintro ⟨v, v1, v2, v3⟩
          rcases Nat.decEq v w with z | rfl
          · exact q ⟨v, by omega, v2, v3⟩
          · exact v3.elim (r v2).1 (r v2).2⟩)
        have yes : T.testBit w = true → (pl w = c ∨ gl w = c) → wY_isUsed_5 post (nI T) (nI c) b_size b_isWall b_waysOut b_isSet b_place b_goal b_walkers b_steps b_cost b_good n 1 (nI (w + 1)) := fun hb r => ih (w + 1) n 1 (by omega) (by omega) (Or.inl ⟨rfl, w, by omega, hb, r⟩)
        refine br_t rfl (yw_in t8 hlt (fun hb => br_f (by decide) ⟨vp_in_nI hlt (by omega), ?_⟩) (fun hb => br_t rfl (nm_r (nI_1 w) (no fun z => by rw [hb] at z; cases z))))
        have l1 := hE.2.2.2.1 w hlt
        have l2 := hE.2.2.2.2 w hlt
        rw [nI_clamp (show w < 2 ^ 31 by omega), hp w hlt]
        refine pk_eq (pl w) c (fun z => nm_r (nI_1 w) (yes hb (Or.inl z))) (fun z => ⟨vp_in_nI hlt (by omega), ?_⟩)
        rw [hg w hlt]
        exact pk_eq (gl w) c (fun z2 => nm_r (nI_1 w) (yes hb (Or.inr z2))) (fun z2 => nm_r (nI_1 w) (no fun _ => ⟨z, z2⟩))
  exact ⟨4, key 3 0 4 0 (by omega) (by omega) (Or.inr ⟨rfl, fun ⟨v, hv, _⟩ => by omega⟩)⟩
theorem xw_need33 {post : Int32 → SX → Prop} {r : Int32} (t1 : 1 ≤ T) (t8 : T < 8) (hE : rl_E W wy P pl gl) (hw : ∀ c, c < 12 → a_waysOut c = nI (wy c)) (hp : ∀ w, w < 3 → a_placeOf w = nI (pl w)) (hg : ∀ w, w < 3 → a_goalOf w = nI (gl w)) (hR : tm_R T pl gl)
    (h : ∀ f_count f_best a_stepTo a_toGoal a_distance a_who a_cost a_origin a_closed a_onward a_cellNow a_cellNext a_walkNow a_walkNext, post (nI (ct_n (nd_C W wy T pl gl r) 12)) (nI W, f_placed, f_count, tm_b false, f_best, f_turns, a_waysOut, a_placeOf, a_goalOf, a_stepTo, a_toGoal, a_distance, a_who, a_cost, a_origin, a_closed, a_onward, a_queue, a_cellNow, a_cellNext, a_walkNow, a_walkNext, a_used, a_flowFrom, a_flowTo, a_cameBy, a_line)) :
    ∀ e c n f_count f_best a_stepTo a_toGoal a_distance a_who a_cost a_origin a_closed a_onward a_cellNow a_cellNext a_walkNow a_walkNext, c + e = 12 → e < n →
      wX_needed_33 post (nI T) r n (nI (ct_n (nd_C W wy T pl gl r) c)) (nI c) (nI W) f_placed f_count (tm_b false) f_best f_turns a_waysOut a_placeOf a_goalOf a_stepTo a_toGoal a_distance a_who a_cost a_origin a_closed a_onward a_queue a_cellNow a_cellNext a_walkNow a_walkNext a_used a_flowFrom a_flowTo a_cameBy a_line := by
  intro e
  induction e with
  | zero =>
    intro c n f_count f_best a_stepTo a_toGoal a_distance a_who a_cost a_origin a_closed a_onward a_cellNow a_cellNext a_walkNow a_walkNext he hn
    obtain ⟨n, rfl⟩ : ∃ m, n = m + 1 := ⟨n - 1, by omega⟩
    obtain rfl : c = 12 := by omega
    exact br_t (by decide) (h _ _ _ _ _ _ _ _ _ _ _ _ _ _)
  | succ e ih =>
    intro c n f_count f_best a_stepTo a_toGoal a_distance a_who a_cost a_origin a_closed a_onward a_cellNow a_cellNext a_walkNow a_walkNext he hn
    obtain ⟨n, rfl⟩ : ∃ m, n = m + 1 := ⟨n - 1, by omega⟩
    refine pk_le 12 c (fun _ => by omega) (fun hlt => ?_)
    have hW := hE.1
    have skip : ¬ nd_C W wy T pl gl r c → wX_needed_63 post (wX_needed_33 post (nI T) r n) (nI T) r (nI (ct_n (nd_C W wy T pl gl r) c)) (nI c) (nI W) f_placed f_count (tm_b false) f_best f_turns a_waysOut a_placeOf a_goalOf a_stepTo a_toGoal a_distance a_who a_cost a_origin a_closed a_onward a_queue a_cellNow a_cellNext a_walkNow a_walkNext a_used a_flowFrom a_flowTo a_cameBy a_line := fun q => by
      refine br_t rfl (nm_r (nI_1 c) ?_)
      rw [← ct_S0 q]
      exact ih (c + 1) n _ _ _ _ _ _ _ _ _ _ _ _ _ _ (by omega) (by omega)
    refine xw_isOpen hW hlt (fun w1 => br_f (by decide) ?_) (fun w1 => br_t rfl (skip fun q => by have := q.1; rw [w1] at this; cases this))
    refine xw_isEnd t8 hE hlt hp hg (fun q => br_f (by decide) (skip fun q' => q'.2.1 q)) (fun q => br_t rfl (br_f (by decide) ?_))
    have hW' : W ^^^ 2 ^ c < 4096 := Nat.xor_lt_two_pow (n := 12) hW (Nat.pow_lt_pow_right (by omega) hlt)
    refine nm_r (e' := nI (W ^^^ 2 ^ c)) (by rw [xb_sh1 (by omega), nx_xor]) ?_
    refine xw_plan (b := false) t1 t8 hW' (fun c hc => ⟨hw c hc, hE.2.1 c hc⟩) (fun w hw => ⟨hp w hw, hE.2.2.2.1 w hw⟩) (fun w hw => ⟨hg w hw, hE.2.2.2.2 w hw⟩) hR ?_
    intro f_count f_best a_stepTo a_toGoal a_distance a_who a_cost a_origin a_closed a_onward a_cellNow a_cellNext a_walkNow a_walkNext r' _ hA
    refine nm_r (e' := nI W) (by rw [xb_sh1 (by omega), nx_xor, xr_xx]) (br_c (fun z => ?_) (fun z => ?_))
    · refine nm_r (nI_add _ 0) (nm_r (nI_1 c) ?_)
      rw [Nat.add_zero, ← ct_S0 (show ¬ nd_C W wy T pl gl r c from fun q' => q'.2.2 r' hA z)]
      exact ih (c + 1) n _ _ _ _ _ _ _ _ _ _ _ _ _ _ (by omega) (by omega)
    · refine nm_r (nI_1 _) (nm_r (nI_1 c) ?_)
      rw [← ct_S1 (show nd_C W wy T pl gl r c from ⟨w1, q, fun r2 h2 => by rw [an_u h2 hA]; exact z⟩)]
      exact ih (c + 1) n _ _ _ _ _ _ _ _ _ _ _ _ _ _ (by omega) (by omega)
theorem yw_need28 {post : Int32 → SY → Prop} {r : Int32} (t1 : 1 ≤ T) (t8 : T < 8) (hE : rl_E W wy P pl gl) (hw : ∀ c, c < 12 → b_waysOut c = nI (wy c)) (hp : ∀ w, w < 3 → b_place w = nI (pl w)) (hg : ∀ w, w < 3 → b_goal w = nI (gl w)) (hR : tm_R T pl gl) (ho : ∀ w, w < 3 → T.testBit w = true → W.testBit (pl w) = false)
    (h : ∀ b_size b_isWall b_walkers b_steps b_cost, yw_W W b_isWall → post (nI (ct_n (nd_C W wy T pl gl r) 12)) (b_size, b_isWall, b_waysOut, b_isSet, b_place, b_goal, b_walkers, b_steps, b_cost, b_good)) :
    ∀ e c n b_size b_isWall b_walkers b_steps b_cost, c + e = 12 → e < n → yw_W W b_isWall → wY_needed_28 post (nI T) r n (nI (ct_n (nd_C W wy T pl gl r) c)) (nI c) b_size b_isWall b_waysOut b_isSet b_place b_goal b_walkers b_steps b_cost b_good := by
  intro e
  induction e with
  | zero =>
    intro c n b_size b_isWall b_walkers b_steps b_cost he hn hW
    obtain ⟨n, rfl⟩ : ∃ m, n = m + 1 := ⟨n - 1, by omega⟩
    obtain rfl : c = 12 := by omega
    exact br_t (by decide) (h _ _ _ _ _ hW)
  | succ e ih =>
    intro c n b_size b_isWall b_walkers b_steps b_cost he hn hW
    obtain ⟨n, rfl⟩ : ∃ m, n = m + 1 := ⟨n - 1, by omega⟩
    refine pk_le 12 c (fun _ => by omega) (fun hlt => ⟨vp_in_nI hlt (by omega), ?_⟩)
    have cc : (nI c).toNatClampNeg = c := nI_clamp (by omega)
    have vc : vp_in (nI c) 12 := vp_in_nI hlt (by omega)
    rw [cc]
    refine yw_Wb hW hlt (fun w1 => ?_) (fun w1 => nm_r (nI_1 c) ?_)
    · refine yw_isUsed t8 hE hlt hp hg (fun q => br_f (by decide) (nm_r (nI_1 c) ?_)) (fun q => br_t rfl ⟨vc, nm_r (by rw [xb_b1]) ?_⟩)
      · rw [← ct_S0 (show ¬ nd_C W wy T pl gl r c from fun q' => q'.2.1 q)]
        exact ih (c + 1) n _ _ _ _ _ (by omega) (by omega) hW
      · have hb : (W ^^^ 2 ^ c).testBit c = true := by rw [Nat.testBit_xor, Nat.testBit_two_pow_self, Bool.xor_true, w1]; rfl
        have hne : ∀ d, d ≠ c → (W ^^^ 2 ^ c).testBit d = W.testBit d := fun d z => by rw [Nat.testBit_xor, Nat.testBit_two_pow_of_ne (fun e => z e.symm), Bool.xor_false]
        have hW' : yw_W (W ^^^ 2 ^ c) (upd b_isWall c 1) := by
          intro d hd
          rcases Nat.decEq d c with z | rfl
          · rw [pk_un z, hW d hd, hne d z]
          · rw [pk_us, if_pos hb]
        have hE' : rl_E (W ^^^ 2 ^ c) wy P pl gl := ⟨Nat.xor_lt_two_pow (n := 12) hE.1 (Nat.pow_lt_pow_right (by omega) hlt), hE.2⟩
        refine yw_lt0 hE' t1 t8 hR (fun w hw hb => ?_) hW' hw hp hg fun C b_walkers b_steps b_cost r' _ _ _ _ hA => ?_
        · rw [hne _ (fun z => q ⟨w, hw, hb, Or.inl z⟩)]; exact ho w hw hb
        · have back : yw_W W (upd (upd b_isWall c 1) c 0) := by
            intro d hd
            rcases Nat.decEq d c with z | rfl
            · rw [pk_un z, pk_un z, hW d hd]
            · rw [pk_us, w1]; rfl
          refine br_c (fun z => ⟨vc, nm_r (by first | rw [cc, xb_b0] | rw [xb_b0]) (nm_r (nI_1 c) ?_)⟩) (fun z => ⟨vc, nm_r (by first | rw [cc, xb_b0] | rw [xb_b0]) (nm_r (nI_1 c) ?_)⟩)
          · rw [← ct_S0 (show ¬ nd_C W wy T pl gl r c from fun q' => q'.2.2 r' hA z)]
            exact ih (c + 1) n _ _ _ _ _ (by omega) (by omega) back
          · rw [nI_1, ← ct_S1 (show nd_C W wy T pl gl r c from ⟨w1, q, fun r2 h2 => by rw [an_u h2 hA]; exact z⟩)]
            exact ih (c + 1) n _ _ _ _ _ (by omega) (by omega) back
    · rw [← ct_S0 (show ¬ nd_C W wy T pl gl r c from fun q' => by have := q'.1; rw [w1] at this; cases this)]
      exact ih (c + 1) n _ _ _ _ _ (by omega) (by omega) hW
end
theorem an_neg {E : Nat → Nat → Nat → Prop} {st g : Nat} {r : Int32} {A B : Prop} (h : an_P E st g r) (hb : ∀ c, gr_L E c st g → c < 2 ^ 31) (f : ∀ c, gr_L E c st g → r = nI c → A) (g' : r = -2 → (∀ c, ¬ gr_R E c st g) → B) : (0 ≤ r → A) ∧ (¬ 0 ≤ r → B) := by
  rcases h with ⟨c, l, rfl⟩ | ⟨rfl, n⟩
  · exact br_t (nI_pos' (hb c l)) (f c l rfl)
  · exact br_f (by decide) (g' rfl n)
theorem i_vc_needed {k : Nat} {u : SX} {v : SY} (I : i_Rel k u v) (hk : k + 4 ≤ 2048) (v1 : Int32) : wpX_needed (fun r u' => wpY_needed (fun r' v' => r' = r ∧ i_Rel (k + 4) u' v') v v1) u v1 := by
  obtain ⟨W, wy, P, pl, gl, hE, hX, hY⟩ := I
  refine rl_elX (Q := fun u => wpX_needed (fun r u' => wpY_needed (fun r' v' => r' = r ∧ i_Rel (k + 4) u' v') v v1) u v1) hX ?_
  intro f_count f_byEffort f_best f_turns a_waysOut a_placeOf a_goalOf a_stepTo a_toGoal a_distance a_who a_cost a_origin a_closed a_onward a_queue a_cellNow a_cellNext a_walkNow a_walkNext a_used a_flowFrom a_flowTo a_cameBy a_line x1 x2 x3
  refine rl_elY (Q := fun v => wpX_needed (fun r u' => wpY_needed (fun r' v' => r' = r ∧ i_Rel (k + 4) u' v') v v1) (nI W, nI P, f_count, f_byEffort, f_best, f_turns, a_waysOut, a_placeOf, a_goalOf, a_stepTo, a_toGoal, a_distance, a_who, a_cost, a_origin, a_closed, a_onward, a_queue, a_cellNow, a_cellNext, a_walkNow, a_walkNext, a_used, a_flowFrom, a_flowTo, a_cameBy, a_line) v1) hY ?_
  intro b_size b_isWall b_waysOut b_isSet b_place b_goal b_walkers b_steps b_cost b_good y0 y1 ys y2 y3
  unfold wpX_needed wpY_needed
  dsimp only
  refine xw_isReady hE x2 x3 (fun T t1 t8 e hr => ?_) (fun hn => br_t rfl (yw_isReady hE y0 ys y2 y3 (fun T t1 t8 e hr => absurd hr (hn T t1 t8 e)) (fun _ => br_t rfl ⟨rfl, rl_in hE (rl_mkX x1 x2 x3) (rl_mkY y0 y1 ys y2 y3)⟩)))
  subst e
  obtain ⟨hV, hO⟩ := rl_st hE t1 t8 hr.2 (fun w hw hb => (hr.1 w hw hb).2.1)
  have hb : ∀ c, gr_L (mo_E (cg_tg W wy) false (tm_k T)) c (tm_s (tm_k T) fun i => pl (tm_w T i)) (tm_s (tm_k T) fun i => gl (tm_w T i)) → c < 2 ^ 31 := fun c l => by
    have h1 := mo_bound (tm_f2 T t8 t1).1 (cg_tg_ok W wy) hV l
    have h2 := mo_Nle (tm_k T)
    omega
  refine br_f (by decide) ?_
  refine xw_plan (b := false) t1 t8 hE.1 (fun c hc => ⟨x1 c hc, hE.2.1 c hc⟩) (fun w hw => ⟨x2 w hw, hE.2.2.2.1 w hw⟩) (fun w hw => ⟨x3 w hw, hE.2.2.2.2 w hw⟩) hr.2 ?_
  intro f_count f_best a_stepTo a_toGoal a_distance a_who a_cost a_origin a_closed a_onward a_cellNow a_cellNext a_walkNow a_walkNext r _ hA
  refine an_neg hA hb (fun c hl hrc => ⟨13, ?_⟩) (fun hrc hno => ?_)
  · refine xw_need33 t1 t8 hE x1 x2 x3 hr.2 (fun f_count f_best a_stepTo a_toGoal a_distance a_who a_cost a_origin a_closed a_onward a_cellNow a_cellNext a_walkNow a_walkNext => ?_) 12 0 13 _ _ _ _ _ _ _ _ _ _ _ _ _ _ (by omega) (by omega)
    refine yw_isReady hE y0 ys y2 y3 (fun _ _ _ _ _ => br_f (by decide) ?_) (fun hn => absurd hr (hn T t1 t8 rfl))
    refine yw_lt0 hE t1 t8 hr.2 (fun w hw hb => (hr.1 w hw hb).2.1) y0 y1 y2 y3 fun C b_walkers b_steps b_cost r' _ _ _ _ hA' => ?_
    have e := an_u hA' hA
    subst e
    refine br_t (by rw [hrc]; exact nI_pos' (hb c hl)) ⟨13, ?_⟩
    refine yw_need28 t1 t8 hE y1 y2 y3 hr.2 (fun w hw hb => (hr.1 w hw hb).2.1) (fun b_size b_isWall b_walkers b_steps b_cost y0 => ?_) 12 0 13 _ _ _ _ _ (by omega) (by omega) y0
    exact ⟨rfl, rl_in hE (rl_mkX x1 x2 x3) (rl_mkY y0 y1 ys y2 y3)⟩
  · refine yw_isReady hE y0 ys y2 y3 (fun _ _ _ _ _ => br_f (by decide) ?_) (fun hn => absurd hr (hn T t1 t8 rfl))
    refine yw_lt0 hE t1 t8 hr.2 (fun w hw hb => (hr.1 w hw hb).2.1) y0 y1 y2 y3 fun C b_walkers b_steps b_cost r' _ _ _ _ hA' => ?_
    have e := an_u hA' hA
    subst e
    exact br_f (by rw [hrc]; decide) ⟨rfl, rl_in hE (rl_mkX x1 x2 x3) (rl_mkY y0 y1 ys y2 y3)⟩
end
section
theorem gr_last {E : Nat → Nat → Nat → Prop} {c s t : Nat} (h : gr_R E c s t) : (c = 0 ∧ s = t) ∨ ∃ u c1 w, gr_R E c1 s u ∧ E u t w ∧ c = c1 + w := by
  obtain ⟨n, hn⟩ := h
  cases n with
  | zero => exact Or.inl hn
  | succ n =>
    obtain ⟨u, c1, w, h1, e, h2⟩ := hn
    exact Or.inr ⟨u, c1, w, ⟨n, h1⟩, e, h2⟩
/-- within n steps of a -/
def ds_S (tg : Nat → Nat → Option Nat) (a n c : Nat) : Prop := ∃ m, m ≤ n ∧ gr_R (cg_E tg) m a c
theorem ds_0 {tg : Nat → Nat → Option Nat} {a c : Nat} : ds_S tg a 0 c ↔ a = c := by
  constructor
  · rintro ⟨m, hm, h⟩
    obtain rfl : m = 0 := by omega
    rcases gr_last h with ⟨_, e⟩ | ⟨u, c1, w, _, e, h2⟩
    · exact e
    · have : w = 1 := e.2.2
      omega
  · rintro rfl
    exact ⟨0, by omega, gr_r0 a⟩
theorem ds_s {tg : Nat → Nat → Option Nat} {a n c : Nat} : ds_S tg a (n + 1) c ↔ ds_S tg a n c ∨ ∃ u d, u < 12 ∧ d < 4 ∧ ds_S tg a n u ∧ tg u d = some c := by
  constructor
  · rintro ⟨m, hm, h⟩
    rcases gr_last h with ⟨rfl, rfl⟩ | ⟨u, c1, w, h1, e, h2⟩
    · exact Or.inl ⟨0, by omega, h⟩
    · obtain ⟨hu, ⟨d, hd, ht⟩, hw⟩ := e
      exact Or.inr ⟨u, d, hu, hd, ⟨c1, by omega, h1⟩, ht⟩
  · rintro (⟨m, hm, h⟩ | ⟨u, d, hu, hd, ⟨m, hm, h⟩, ht⟩)
    · exact ⟨m, by omega, h⟩
    · exact ⟨m + 1, by omega, gr_rs h ⟨hu, ⟨d, hd, ht⟩, rfl⟩⟩
section
variable {tg : Nat → Nat → Option Nat} {op : Nat → Prop}
variable {b_size : Int32} {b_isWall b_waysOut b_isSet b_place b_goal b_walkers b_steps b_cost b_good : Nat → Int32}
theorem yw_dist72 {post : Int32 → SY → Prop} {J47 : Int32 → Int32 → Prop} {M n : Nat} {x2 : Int32} (ok : cg_OK tg op) (hst : yw_ST tg op b_steps) (hM : M < 4096)
    (hJ : ∀ M', M' < 4096 → (∀ c, M'.testBit c = true ↔ M.testBit c = true ∨ ∃ u d, u < 12 ∧ d < 4 ∧ M.testBit u = true ∧ tg u d = some c) → J47 (nI M') (nI (n + 1))) :
    ∀ e j f M', j + e = 60 → e < f → M' < 4096 → (∀ c, M'.testBit c = true ↔ M.testBit c = true ∨ ∃ u d, u < 12 ∧ d < 4 ∧ 5 * u + d < j ∧ M.testBit u = true ∧ tg u d = some c) → wY_distance_72 post J47 x2 (nI M) (nI n) b_size b_isWall b_waysOut b_isSet b_place b_goal b_walkers b_steps b_cost b_good f (nI M') (nI j) := by
  intro e
  induction e with
  | zero =>
    intro j f M' he hn hM' hi
    obtain ⟨f, rfl⟩ : ∃ m, f = m + 1 := ⟨f - 1, by omega⟩
    refine pk_le 60 j (fun _ => nm_r (nI_1 n) (hJ M' hM' fun c => ?_)) (fun h => by omega)
    rw [hi c]
    constructor
    · rintro (h | ⟨u, d, h1, h2, h3, h4, h5⟩)
      · exact Or.inl h
      · exact Or.inr ⟨u, d, h1, h2, h4, h5⟩
    · rintro (h | ⟨u, d, h1, h2, h4, h5⟩)
      · exact Or.inl h
      · exact Or.inr ⟨u, d, h1, h2, by omega, h4, h5⟩
  | succ e ih =>
    intro j f M' he hn hM' hi
    obtain ⟨f, rfl⟩ : ∃ m, f = m + 1 := ⟨f - 1, by omega⟩
    refine pk_le 60 j (fun _ => by omega) (fun hlt => ⟨by decide, ?_⟩)
    have hu : j / 5 < 12 := by omega
    have vj : vp_in (nI j) 60 := vp_in_nI hlt (by omega)
    have cj : (nI j).toNatClampNeg = j := nI_clamp (by omega)
    have ej : j = 5 * (j / 5) + j % 5 := by omega
    rw [xb_d 5 (show j < 2 ^ 31 by omega) (by omega)]
    -- nothing new by entry j
    have same : (j % 5 < 4 → M.testBit (j / 5) = true → tg (j / 5) (j % 5) = none) → wY_distance_72 post J47 x2 (nI M) (nI n) b_size b_isWall b_waysOut b_isSet b_place b_goal b_walkers b_steps b_cost b_good f (nI M') (nI (j + 1)) := fun q => by
      refine ih (j + 1) f M' (by omega) (by omega) hM' fun c => ?_
      rw [hi c]
      constructor
      · rintro (h | ⟨u, d, h1, h2, h3, h4, h5⟩)
        · exact Or.inl h
        · exact Or.inr ⟨u, d, h1, h2, by omega, h4, h5⟩
      · rintro (h | ⟨u, d, h1, h2, h3, h4, h5⟩)
        · exact Or.inl h
        · rcases Nat.lt_or_ge (5 * u + d) j with z | z
          · exact Or.inr ⟨u, d, h1, h2, z, h4, h5⟩
          · have e1 : u = j / 5 := by omega
            have e2 : d = j % 5 := by omega
            subst e1 e2
            rw [q h2 h4] at h5; cases h5
    have add : ∀ o, o < 12 → (j % 5 < 4 → tg (j / 5) (j % 5) = some o) → (j % 5 = 4 → o = j / 5) → M.testBit (j / 5) = true → wY_distance_72 post J47 x2 (nI M) (nI n) b_size b_isWall b_waysOut b_isSet b_place b_goal b_walkers b_steps b_cost b_good f (nI (M' ||| 2 ^ o)) (nI (j + 1)) := fun o ho q1 q2 hb => by
      refine ih (j + 1) f _ (by omega) (by omega) (Nat.or_lt_two_pow (n := 12) hM' (Nat.pow_lt_pow_right (by omega) ho)) fun c => ?_
      rw [Nat.testBit_or, Nat.testBit_two_pow, Bool.or_eq_true, hi c, decide_eq_true_eq]
      constructor
      · rintro ((h | ⟨u, d, h1, h2, h3, h4, h5⟩) | rfl)
        · exact Or.inl h
        · exact Or.inr ⟨u, d, h1, h2, by omega, h4, h5⟩
        · rcases Nat.lt_or_ge (j % 5) 4 with z | z
          · exact Or.inr ⟨j / 5, j % 5, hu, z, by omega, hb, q1 z⟩
          · rw [q2 (by omega)]; exact Or.inl hb
      · rintro (h | ⟨u, d, h1, h2, h3, h4, h5⟩)
        · exact Or.inl (Or.inl h)
        · rcases Nat.lt_or_ge (5 * u + d) j with z | z
          · exact Or.inl (Or.inr ⟨u, d, h1, h2, z, h4, h5⟩)
          · have e1 : u = j / 5 := by omega
            have e2 : d = j % 5 := by omega
            subst e1 e2
            have := (q1 h2).symm.trans h5
            cases this
            exact Or.inr rfl
    refine xb_br (by omega) (by omega) (fun hb => ⟨vj, ?_⟩) (fun hb => nm_r (nI_1 j) (same fun _ z => by rw [hb] at z; cases z))
    rw [cj]
    rcases Nat.lt_or_ge (j % 5) 4 with z | z
    · have hv : b_steps j = cg_eO (tg (j / 5) (j % 5)) := by
        have := (hst (j / 5) hu).1 (j % 5) z
        rwa [← ej] at this
      rw [hv]
      rcases ht : tg (j / 5) (j % 5) with _ | o
      · exact br_t xb_neg (nm_r (nI_1 j) (same fun _ _ => ht))
      · have ho := (ok _ _ _ hu ht).1
        refine br_f (nI_pos (by omega)) ⟨vj, nm_r (e' := nI (M' ||| 2 ^ o)) ?_ (nm_r (nI_1 j) (add o ho (fun _ => ht) (fun q => by omega) hb))⟩
        rw [cg_eOs, xb_sh1 (by omega), nx_or]
    · have e4 : j = 5 * (j / 5) + 4 := by omega
      rcases Classical.em (op (j / 5)) with ho | ho
      · have hv : b_steps j = nI (j / 5) := by
          have := (hst (j / 5) hu).2.1 ho
          rwa [← e4] at this
        rw [hv]
        refine br_f (nI_pos (by omega)) ⟨vj, nm_r (e' := nI (M' ||| 2 ^ (j / 5))) ?_ (nm_r (nI_1 j) (add (j / 5) hu (fun q => by omega) (fun _ => rfl) hb))⟩
        rw [xb_sh1 (by omega), nx_or]
      · have hv : b_steps j = -1 := by
          have := (hst (j / 5) hu).2.2 ho
          rwa [← e4] at this
        rw [hv]
        exact br_t xb_neg (nm_r (nI_1 j) (same fun q => by omega))
theorem yw_dist47 {post : Int32 → SY → Prop} {a g : Nat} (ok : cg_OK tg op) (hst : yw_ST tg op b_steps) (ha : a < 12) (hg : g < 12) (h : ∀ r, an_P (cg_E tg) a g r → post r (b_size, b_isWall, b_waysOut, b_isSet, b_place, b_goal, b_walkers, b_steps, b_cost, b_good)) :
    ∀ e n f M, n + e = 12 → e < f → M < 4096 → (∀ c, M.testBit c = true ↔ ds_S tg a n c) → (∀ m, m < n → ¬ ds_S tg a m g) → wY_distance_47 post (nI g) b_size b_isWall b_waysOut b_isSet b_place b_goal b_walkers b_steps b_cost b_good f (nI M) (nI n) := by
  intro e
  induction e with
  | zero =>
    intro n f M he hn hM hi hno
    obtain ⟨f, rfl⟩ : ∃ m, f = m + 1 := ⟨f - 1, by omega⟩
    refine pk_le 12 n (fun _ => h _ (Or.inr ⟨rfl, fun c r => ?_⟩)) (fun h => by omega)
    obtain ⟨c', l, _⟩ := gr_ll r
    have := cg_lev ok hg l
    exact hno c' (by omega) ⟨c', Nat.le_refl _, l.1⟩
  | succ e ih =>
    intro n f M he hn hM hi hno
    obtain ⟨f, rfl⟩ : ∃ m, f = m + 1 := ⟨f - 1, by omega⟩
    refine pk_le 12 n (fun _ => by omega) (fun hlt => xb_br (by omega) (by omega) (fun hb => h _ (Or.inl ⟨n, ?_, rfl⟩)) (fun hb => ⟨61, ?_⟩))
    · obtain ⟨m, hm, hr⟩ := (hi g).mp hb
      have hge : ∀ c', gr_R (cg_E tg) c' a g → n ≤ c' := fun c' r => by
        rcases Nat.lt_or_ge c' n with z | z
        · exact absurd ⟨c', Nat.le_refl _, r⟩ (hno c' z)
        · exact z
      have : m = n := by have := hge m hr; omega
      subst this
      exact ⟨hr, hge⟩
    · refine yw_dist72 ok hst hM (fun M' hM' hi' => ih (n + 1) f M' (by omega) (by omega) hM' (fun c => ?_) fun m hm => ?_) 60 0 61 M (by omega) (by omega) hM fun c => ?_
      · rw [hi' c, ds_s, hi c]
        constructor
        · rintro (q | ⟨u, d, h1, h2, h3, h4⟩)
          · exact Or.inl q
          · exact Or.inr ⟨u, d, h1, h2, (hi u).mp h3, h4⟩
        · rintro (q | ⟨u, d, h1, h2, h3, h4⟩)
          · exact Or.inl q
          · exact Or.inr ⟨u, d, h1, h2, (hi u).mpr h3, h4⟩
      · rcases Nat.decEq m n with z | rfl
        · exact hno m (by omega)
        · intro q
          rw [(hi g).mpr q] at hb; cases hb
      · constructor
        · exact Or.inl
        · rintro (q | ⟨u, d, _, _, h3, _⟩)
          · exact q
          · omega
theorem yw_distance {post : Int32 → SY → Prop} {W P : Nat} {wy pl gl : Nat → Nat} {x y : Int32} (hE : rl_E W wy P pl gl) (hW : yw_W W b_isWall) (hw : ∀ c, c < 12 → b_waysOut c = nI (wy c))
    (h1 : ∀ a g b_steps r, a < 12 → g < 12 → x = nI a → y = nI g → W.testBit a = false → W.testBit g = false → an_P (cg_E (cg_tg W wy)) a g r → post r (b_size, b_isWall, b_waysOut, b_isSet, b_place, b_goal, b_walkers, b_steps, b_cost, b_good))
    (h0 : (∀ a g, a < 12 → g < 12 → x = nI a → y = nI g → W.testBit a = false → W.testBit g = false → False) → post (-1) (b_size, b_isWall, b_waysOut, b_isSet, b_place, b_goal, b_walkers, b_steps, b_cost, b_good)) : wpY_distance post (b_size, b_isWall, b_waysOut, b_isSet, b_place, b_goal, b_walkers, b_steps, b_cost, b_good) x y := by
  have ok := cg_tg_ok W wy
  have inj : ∀ a b, a < 12 → b < 12 → nI a = nI b → b = a := fun a b ha hb e => ((nI_eq (by omega) (by omega)).mp e).symm
  unfold wpY_distance
  dsimp only
  refine yw_isCell (fun a ha e => br_f (by decide) (yw_isCell (fun g hg e2 => br_f (by decide) ?_) (fun hn => br_t rfl (h0 fun _ g _ hg _ e2 _ _ => hn g hg e2)))) (fun hn => br_t rfl (h0 fun a _ ha _ e1 _ _ _ => hn a ha e1))
  subst e
  subst e2
  have va : vp_in (nI a) 12 := vp_in_nI ha (by omega)
  have ca : (nI a).toNatClampNeg = a := nI_clamp (by omega)
  have vg : vp_in (nI g) 12 := vp_in_nI hg (by omega)
  have cg : (nI g).toNatClampNeg = g := nI_clamp (by omega)
  refine ⟨va, ?_⟩
  rw [ca]
  refine yw_Wb hW ha (fun w1 => ⟨vg, ?_⟩) (fun w1 => h0 fun a' g' ha' hg' e1 e2 q1 q2 => by rw [inj a a' ha ha' e1, w1] at q1; cases q1)
  rw [cg]
  refine yw_Wb hW hg (fun w2 => ?_) (fun w2 => h0 fun a' g' ha' hg' e1 e2 q1 q2 => by rw [inj g g' hg hg' e2, w2] at q2; cases q2)
  refine yw_findSteps hW (fun c hc => ⟨hw c hc, hE.2.1 c hc⟩) fun b_steps hst' => nm_r (xb_sh1 (by omega)) ⟨13, ?_⟩
  refine yw_dist47 ok hst' ha hg (fun r hr => h1 a g b_steps r ha hg rfl rfl w1 w2 hr) 12 0 13 (2 ^ a) (by omega) (by omega) (show 2 ^ a < 2 ^ 12 from Nat.pow_lt_pow_right (by omega) ha) (fun c => ?_) (fun m hm => by omega)
  rw [Nat.testBit_two_pow, ds_0, decide_eq_true_eq]
end
theorem i_vc_distance {k : Nat} {u : SX} {v : SY} (I : i_Rel k u v) (hk : k + 4 ≤ 2048) (v1 : Int32) (v2 : Int32) : wpX_distance (fun r u' => wpY_distance (fun r' v' => r' = r ∧ i_Rel (k + 4) u' v') v v1 v2) u v1 v2 := by
  obtain ⟨W, wy, P, pl, gl, hE, hX, hY⟩ := I
  refine rl_elX (Q := fun u => wpX_distance (fun r u' => wpY_distance (fun r' v' => r' = r ∧ i_Rel (k + 4) u' v') v v1 v2) u v1 v2) hX ?_
  intro f_count f_byEffort f_best f_turns a_waysOut a_placeOf a_goalOf a_stepTo a_toGoal a_distance a_who a_cost a_origin a_closed a_onward a_queue a_cellNow a_cellNext a_walkNow a_walkNext a_used a_flowFrom a_flowTo a_cameBy a_line x1 x2 x3
  refine rl_elY (Q := fun v => wpX_distance (fun r u' => wpY_distance (fun r' v' => r' = r ∧ i_Rel (k + 4) u' v') v v1 v2) (nI W, nI P, f_count, f_byEffort, f_best, f_turns, a_waysOut, a_placeOf, a_goalOf, a_stepTo, a_toGoal, a_distance, a_who, a_cost, a_origin, a_closed, a_onward, a_queue, a_cellNow, a_cellNext, a_walkNow, a_walkNext, a_used, a_flowFrom, a_flowTo, a_cameBy, a_line) v1 v2) hY ?_
  intro b_size b_isWall b_waysOut b_isSet b_place b_goal b_walkers b_steps b_cost b_good y0 y1 ys y2 y3
  have ok := cg_tg_ok W wy
  have inj : ∀ a b, a < 12 → b < 12 → nI a = nI b → b = a := fun a b ha hb e => ((nI_eq (by omega) (by omega)).mp e).symm
  have goY : ∀ a_stepTo a_distance : Nat → Int32, ∀ a g r, a < 12 → g < 12 → v1 = nI a → v2 = nI g → W.testBit a = false → W.testBit g = false → an_P (cg_E (cg_tg W wy)) a g r → wpY_distance (fun r' v' => r' = r ∧ i_Rel (k + 4) (nI W, nI P, f_count, f_byEffort, f_best, f_turns, a_waysOut, a_placeOf, a_goalOf, a_stepTo, a_toGoal, a_distance, a_who, a_cost, a_origin, a_closed, a_onward, a_queue, a_cellNow, a_cellNext, a_walkNow, a_walkNext, a_used, a_flowFrom, a_flowTo, a_cameBy, a_line) v') (b_size, b_isWall, b_waysOut, b_isSet, b_place, b_goal, b_walkers, b_steps, b_cost, b_good) v1 v2 := by
    intro a_stepTo a_distance a g r ha hg e1 e2 q1 q2 hA
    refine yw_distance hE y0 y1 (fun a' g' b_steps r' ha' hg' e1' e2' _ _ hA' => ?_) (fun hn => absurd (hn a g ha hg e1 e2 q1 q2) id)
    rw [inj a a' ha ha' (e1.symm.trans e1'), inj g g' hg hg' (e2.symm.trans e2')] at hA'
    exact ⟨an_u hA' hA, rl_in hE (rl_mkX x1 x2 x3) (rl_mkY y0 y1 ys y2 y3)⟩
  have noY : (∀ a g, a < 12 → g < 12 → v1 = nI a → v2 = nI g → W.testBit a = false → W.testBit g = false → False) → wpY_distance (fun r' v' => r' = -1 ∧ i_Rel (k + 4) (nI W, nI P, f_count, f_byEffort, f_best, f_turns, a_waysOut, a_placeOf, a_goalOf, a_stepTo, a_toGoal, a_distance, a_who, a_cost, a_origin, a_closed, a_onward, a_queue, a_cellNow, a_cellNext, a_walkNow, a_walkNext, a_used, a_flowFrom, a_flowTo, a_cameBy, a_line) v') (b_size, b_isWall, b_waysOut, b_isSet, b_place, b_goal, b_walkers, b_steps, b_cost, b_good) v1 v2 := fun hn =>
    yw_distance hE y0 y1 (fun a g _ _ ha hg e1 e2 q1 q2 _ => absurd (hn a g ha hg e1 e2 q1 q2) id) (fun _ => ⟨rfl, rl_in hE (rl_mkX x1 x2 x3) (rl_mkY y0 y1 ys y2 y3)⟩)
  unfold wpX_distance
  refine xw_isCell ?_ (fun hn => br_t rfl (noY fun a _ ha _ e _ _ _ => hn a ha e))
  intro a ha ea
  refine br_f (by decide) (xw_isCell (fun g hg eg => br_f (by decide) ?_) (fun hn => br_t rfl (noY fun _ g _ hg _ e _ _ => hn g hg e)))
  subst ea
  subst eg
  refine xw_isOpen hE.1 ha (fun w1 => br_f (by decide) ?_) (fun w1 => br_t rfl (noY fun a' _ ha' _ e _ q _ => by rw [inj a a' ha ha' e, w1] at q; cases q))
  refine xw_isOpen hE.1 hg (fun w2 => br_f (by decide) ?_) (fun w2 => br_t rfl (noY fun _ g' _ hg' _ e _ q => by rw [inj g g' hg hg' e, w2] at q; cases q))
  refine xw_laySteps hE.1 (fun c hc => ⟨x1 c hc, hE.2.1 c hc⟩) fun a_stepTo hst => ?_
  refine xw_findDistances ok hst hg fun a_distance hd => ?_
  have va : vp_in (nI a) 12 := vp_in_nI ha (by omega)
  have ca : (nI a).toNatClampNeg = a := nI_clamp (by omega)
  have tdc := cg_td_c ok hg a
  have tdl := cg_td_le ok hg a
  refine ⟨va, ?_⟩
  rw [ca, hd a ha]
  refine pk_eq (cg_td (cg_tg W wy) g a) 1000000 (fun z => goY _ _ a g (-2) ha hg rfl rfl w1 w2 (Or.inr ⟨rfl, ?_⟩)) (fun z => ⟨va, goY _ _ a g (nI (cg_td (cg_tg W wy) g a)) ha hg rfl rfl w1 w2 (Or.inl ⟨_, ?_, rfl⟩)⟩)
  · rcases tdc with q | q
    · omega
    · exact q.2
  · rcases tdc with q | q
    · exact q.2
    · exact absurd q.1 z
end
section
def aq_I (E : Nat → Nat → Nat → Prop) (N st : Nat) (q : Nat → Nat) (n : Nat) (cl : Nat → Prop) : Prop :=
  (∀ s, cl s ↔ ∃ i, i < n ∧ q i = s) ∧ (∀ i, i < n → q i < N ∧ ∃ c, gr_R E c st (q i)) ∧ n = ct_n cl 1728
def aq_R (q : Nat → Nat) (n : Nat) (cl : Nat → Prop) (aq ac : Nat → Int32) : Prop :=
  (∀ i, i < n → aq i = nI (q i)) ∧ ∀ s, s < 1728 → (cl s → ac s = 1) ∧ (¬ cl s → ac s = 0)
theorem aq_le {E : Nat → Nat → Nat → Prop} {N st : Nat} {q : Nat → Nat} {n : Nat} {cl : Nat → Prop} (I : aq_I E N st q n cl) : n ≤ 1728 := by
  rw [I.2.2]; exact ct_le _ _
theorem aq_lt {E : Nat → Nat → Nat → Prop} {N st t : Nat} {q : Nat → Nat} {n : Nat} {cl : Nat → Prop} (I : aq_I E N st q n cl) (ht : t < 1728) (hn : ¬ cl t) : n < 1728 := by
  have h := ct_lt (P := cl) (Q := fun _ => True) hn trivial (N := 1728) (fun _ _ _ => trivial) ht
  have := ct_le (fun _ => True) 1728
  rw [I.2.2]; omega
theorem aq_add {E : Nat → Nat → Nat → Prop} {N st t c : Nat} {q : Nat → Nat} {n : Nat} {cl : Nat → Prop} (I : aq_I E N st q n cl) (ht : t < N) (ht' : t < 1728) (hr : gr_R E c st t) (hn : ¬ cl t) : aq_I E N st (ag_up q n t) (n + 1) (fun x => cl x ∨ x = t) := by
  obtain ⟨i1, i2, i3⟩ := I
  refine ⟨fun s => ?_, fun i hi => ?_, ?_⟩
  · constructor
    · rintro (h | rfl)
      · obtain ⟨i, hi, e⟩ := (i1 s).mp h
        exact ⟨i, by omega, by rw [ag_un _ _ (by omega)]; exact e⟩
      · exact ⟨n, by omega, ag_us _ _ _⟩
    · rintro ⟨i, hi, e⟩
      rcases Nat.decEq i n with z | rfl
      · rw [ag_un _ _ z] at e
        exact Or.inl ((i1 s).mpr ⟨i, by omega, e⟩)
      · rw [ag_us] at e
        exact Or.inr e.symm
  · rcases Nat.decEq i n with z | rfl
    · rw [ag_un _ _ z]; exact i2 i (by omega)
    · rw [ag_us]; exact ⟨ht, c, hr⟩
  · rw [ct_add hn ht', ← i3]
theorem aq_Radd {t : Nat} {q : Nat → Nat} {n : Nat} {cl : Nat → Prop} {aq ac : Nat → Int32} (R : aq_R q n cl aq ac) : aq_R (ag_up q n t) (n + 1) (fun x => cl x ∨ x = t) (upd aq n (nI t)) (upd ac t 1) := by
  refine ⟨fun i hi => ?_, fun s hs => ?_⟩
  · rcases Nat.decEq i n with z | rfl
    · rw [ag_un _ _ z, pk_un z]; exact R.1 i (by omega)
    · rw [ag_us, pk_us]
  · rcases Nat.decEq s t with z | rfl
    · rw [pk_un z]
      exact ⟨fun h => (R.2 s hs).1 (h.elim id fun e => absurd e z), fun h => (R.2 s hs).2 fun e => h (Or.inl e)⟩
    · rw [pk_us]
      exact ⟨fun _ => rfl, fun h => absurd (Or.inr rfl) h⟩
section
variable {tg : Nat → Nat → Option Nat} {op : Nat → Prop} {k : Nat} {st : Nat}
variable {f_walls f_placed f_count f_byEffort f_best f_turns : Int32} {a_waysOut a_placeOf a_goalOf a_stepTo a_toGoal a_distance a_who a_cost a_origin a_closed a_onward a_queue a_cellNow a_cellNext a_walkNow a_walkNext a_used a_flowFrom a_flowTo a_cameBy a_line : Nat → Int32}
theorem xw_enq10 {post : Int32 → SX → Prop} {s n0 : Nat} {q0 : Nat → Nat} {cl0 : Nat → Prop} (hk : mo_K k) (ok : cg_OK tg op) (hst : cg_ST tg a_stepTo) (hs : s < mo_N k) (hr : ∃ c, gr_R (mo_E tg false k) c st s) (hC : tm_C k s a_cellNow) (hcs : cl0 s)
    (hp : ∀ q n cl a_queue a_closed a_cellNext, aq_I (mo_E tg false k) (mo_N k) st q n cl → aq_R q n cl a_queue a_closed → (∀ i, i < n0 → q i = q0 i) → n0 ≤ n → (∀ x, cl0 x → cl x) → (∀ t w, mo_E tg false k s t w → cl t) → post (nI n) (f_walls, f_placed, nI k, f_byEffort, f_best, f_turns, a_waysOut, a_placeOf, a_goalOf, a_stepTo, a_toGoal, a_distance, a_who, a_cost, a_origin, a_closed, a_onward, a_queue, a_cellNow, a_cellNext, a_walkNow, a_walkNext, a_used, a_flowFrom, a_flowTo, a_cameBy, a_line)) :
    ∀ e ch f q n cl a_queue a_closed a_cellNext, ch + e = mo_ch k → e < f → 1 ≤ ch → aq_I (mo_E tg false k) (mo_N k) st q n cl → aq_R q n cl a_queue a_closed → (∀ i, i < n0 → q i = q0 i) → n0 ≤ n → (∀ x, cl0 x → cl x) → (∀ c t, 1 ≤ c → c < ch → mo_by tg k s c t → cl t) →
      wX_enqueue_10 post (nI (mo_ch k)) f (nI n) (nI ch) f_walls f_placed (nI k) f_byEffort f_best f_turns a_waysOut a_placeOf a_goalOf a_stepTo a_toGoal a_distance a_who a_cost a_origin a_closed a_onward a_queue a_cellNow a_cellNext a_walkNow a_walkNext a_used a_flowFrom a_flowTo a_cameBy a_line := by
  have hm := mo_ch_le k
  intro e
  induction e with
  | zero =>
    intro ch f q n cl a_queue a_closed a_cellNext he hf h1 I R hq hn hcl hby
    obtain ⟨f, rfl⟩ : ∃ m, f = m + 1 := ⟨f - 1, by omega⟩
    refine pk_le (mo_ch k) ch (fun _ => hp q n cl a_queue a_closed a_cellNext I R hq hn hcl fun t w e => ?_) (fun h => by omega)
    rcases Nat.decEq s t with z | rfl
    · obtain ⟨c, hc, hb, hc1⟩ := mo_M_by hk e.1 e.2.1
      exact hby c t (hc1 z) (by omega) hb
    · exact hcl s hcs
  | succ e ih =>
    intro ch f q n cl a_queue a_closed a_cellNext he hf h1 I R hq hn hcl hby
    obtain ⟨f, rfl⟩ : ∃ m, f = m + 1 := ⟨f - 1, by omega⟩
    refine pk_le (mo_ch k) ch (fun _ => by omega) (fun hlt => ?_)
    refine xw_chosen hk ok hst hC (by omega) (fun a_cellNext hno => ?_) (fun a_cellNext t hb hD => ?_)
    · refine br_t xb_neg (nm_r (nI_1 ch) (ih (ch + 1) f q n cl a_queue a_closed a_cellNext (by omega) (by omega) (by omega) I R hq hn hcl fun c t c1 c2 hb => ?_))
      rcases Nat.decEq c ch with z | rfl
      · exact hby c t c1 (by omega) hb
      · exact absurd hb (hno t)
    · have hM := mo_by_M hb
      have lt := Nat.lt_of_lt_of_le hM.1 (mo_Nle k)
      have vt : vp_in (nI t) 1728 := vp_in_nI lt (by omega)
      have ct : (nI t).toNatClampNeg = t := nI_clamp (by omega)
      refine br_f (nI_pos (by omega)) ⟨vt, ?_⟩
      rw [ct]
      have hby' : ∀ cl' : Nat → Prop, (∀ x, cl x → cl' x) → cl' t → ∀ c t', 1 ≤ c → c < ch + 1 → mo_by tg k s c t' → cl' t' := fun cl' hm ht c t' c1 c2 hb' => by
        rcases Nat.decEq c ch with z | rfl
        · exact hm _ (hby c t' c1 (by omega) hb')
        · rw [mo_by_u hk hb' hb]; exact ht
      rcases Classical.em (cl t) with z | z
      · rw [(R.2 t lt).1 z]
        exact br_f (by decide) (nm_r (nI_1 ch) (ih (ch + 1) f q n cl a_queue a_closed a_cellNext (by omega) (by omega) (by omega) I R hq hn hcl (hby' cl (fun _ h => h) z)))
      · rw [(R.2 t lt).2 z]
        have ln := aq_lt I lt z
        obtain ⟨c, hc⟩ := hr
        refine br_t rfl ⟨vt, nm_r (by rw [xb_b1]) ⟨vp_in_nI ln (by omega), nm_r (by rw [nI_clamp (by omega)]) (nm_r (nI_1 n) (nm_r (nI_1 ch) ?_))⟩⟩
        refine ih (ch + 1) f _ (n + 1) _ _ _ a_cellNext (by omega) (by omega) (by omega) (aq_add I hM.1 lt (gr_rs hc ⟨hs, hM, rfl⟩) z) (aq_Radd R) (fun i hi => ?_) (by omega) (fun x hx => Or.inl (hcl x hx)) (hby' _ (fun x hx => Or.inl hx) (Or.inr rfl))
        rw [ag_un _ _ (by omega)]; exact hq i hi
theorem xw_enqueue {post : Int32 → SX → Prop} {s n : Nat} {q : Nat → Nat} {cl : Nat → Prop} (hk : mo_K k) (ok : cg_OK tg op) (hst : cg_ST tg a_stepTo) (hs : s < mo_N k) (hr : ∃ c, gr_R (mo_E tg false k) c st s) (hC : tm_C k s a_cellNow) (hcs : cl s)
    (I : aq_I (mo_E tg false k) (mo_N k) st q n cl) (R : aq_R q n cl a_queue a_closed)
    (hp : ∀ q' n' cl' a_queue a_closed a_cellNext, aq_I (mo_E tg false k) (mo_N k) st q' n' cl' → aq_R q' n' cl' a_queue a_closed → (∀ i, i < n → q' i = q i) → n ≤ n' → (∀ x, cl x → cl' x) → (∀ t w, mo_E tg false k s t w → cl' t) → post (nI n') (f_walls, f_placed, nI k, f_byEffort, f_best, f_turns, a_waysOut, a_placeOf, a_goalOf, a_stepTo, a_toGoal, a_distance, a_who, a_cost, a_origin, a_closed, a_onward, a_queue, a_cellNow, a_cellNext, a_walkNow, a_walkNext, a_used, a_flowFrom, a_flowTo, a_cameBy, a_line)) :
    wpX_enqueue post (f_walls, f_placed, nI k, f_byEffort, f_best, f_turns, a_waysOut, a_placeOf, a_goalOf, a_stepTo, a_toGoal, a_distance, a_who, a_cost, a_origin, a_closed, a_onward, a_queue, a_cellNow, a_cellNext, a_walkNow, a_walkNext, a_used, a_flowFrom, a_flowTo, a_cameBy, a_line) (nI n) := by
  unfold wpX_enqueue
  refine xw_choices hk ⟨126, ?_⟩
  have h1 : 1 ≤ mo_ch k := by rcases hk with rfl | rfl | rfl <;> decide
  exact xw_enq10 (n0 := n) (q0 := q) (cl0 := cl) hk ok hst hs hr hC hcs hp (mo_ch k - 1) 1 126 q n cl a_queue a_closed a_cellNext (by omega) (by have := mo_ch_le k; omega) (by omega) I R (fun _ _ => rfl) (Nat.le_refl _) (fun _ h => h) (fun c t c1 c2 => by omega)
theorem xw_arr68 {post : Int32 → SX → Prop} (hk : mo_K k) (ok : cg_OK tg op) (hst : cg_ST tg a_stepTo)
    (hp : ∀ a_queue a_closed a_cellNow a_cellNext, post (nI (ct_n (fun s => ∃ c, gr_R (mo_E tg false k) c st s) 1728)) (f_walls, f_placed, nI k, f_byEffort, f_best, f_turns, a_waysOut, a_placeOf, a_goalOf, a_stepTo, a_toGoal, a_distance, a_who, a_cost, a_origin, a_closed, a_onward, a_queue, a_cellNow, a_cellNext, a_walkNow, a_walkNext, a_used, a_flowFrom, a_flowTo, a_cameBy, a_line)) :
    ∀ e m f q n cl a_queue a_closed a_cellNow a_cellNext, m + e = 1728 → e < f → m ≤ n → aq_I (mo_E tg false k) (mo_N k) st q n cl → aq_R q n cl a_queue a_closed → cl st → (∀ i, i < m → ∀ t w, mo_E tg false k (q i) t w → cl t) →
      wX_arrangements_68 post f (nI n) (nI m) f_walls f_placed (nI k) f_byEffort f_best f_turns a_waysOut a_placeOf a_goalOf a_stepTo a_toGoal a_distance a_who a_cost a_origin a_closed a_onward a_queue a_cellNow a_cellNext a_walkNow a_walkNext a_used a_flowFrom a_flowTo a_cameBy a_line := by
  have fin : ∀ m q n cl a_queue a_closed a_cellNow a_cellNext, n ≤ m → aq_I (mo_E tg false k) (mo_N k) st q n cl → cl st → (∀ i, i < m → ∀ t w, mo_E tg false k (q i) t w → cl t) → post (nI n) (f_walls, f_placed, nI k, f_byEffort, f_best, f_turns, a_waysOut, a_placeOf, a_goalOf, a_stepTo, a_toGoal, a_distance, a_who, a_cost, a_origin, a_closed, a_onward, a_queue, a_cellNow, a_cellNext, a_walkNow, a_walkNext, a_used, a_flowFrom, a_flowTo, a_cameBy, a_line) := by
    intro m q n cl a_queue a_closed a_cellNow a_cellNext hm I h0 hx
    have : n = ct_n (fun s => ∃ c, gr_R (mo_E tg false k) c st s) 1728 := by
      rw [I.2.2]
      refine ct_eq fun s _ => ⟨fun h => ?_, fun ⟨c, r⟩ => ?_⟩
      · obtain ⟨i, hi, rfl⟩ := (I.1 s).mp h
        exact (I.2.1 i hi).2
      · refine gr_ind (P := fun _ s => cl s) h0 (fun _ u t w _ hu e => ?_) r
        obtain ⟨i, hi, rfl⟩ := (I.1 u).mp hu
        exact hx i (by omega) t w e
    rw [this]
    exact hp _ _ _ _
  intro e
  induction e with
  | zero =>
    intro m f q n cl a_queue a_closed a_cellNow a_cellNext he hf hm I R h0 hx
    obtain ⟨f, rfl⟩ : ∃ m, f = m + 1 := ⟨f - 1, by omega⟩
    have ln := aq_le I
    exact pk_le n m (fun z => fin m q n cl _ _ _ _ z I h0 hx) (fun z => by omega)
  | succ e ih =>
    intro m f q n cl a_queue a_closed a_cellNow a_cellNext he hf hm I R h0 hx
    obtain ⟨f, rfl⟩ : ∃ m, f = m + 1 := ⟨f - 1, by omega⟩
    have ln := aq_le I
    refine pk_le n m (fun z => fin m q n cl _ _ _ _ z I h0 hx) (fun hlt => pk_le 1728 m (fun z => by omega) (fun z => ⟨vp_in_nI z (by omega), ?_⟩))
    rw [nI_clamp (by omega), R.1 m hlt]
    obtain ⟨hqN, hqr⟩ := I.2.1 m hlt
    refine xw_layCells hk (Nat.lt_of_lt_of_le hqN (mo_Nle k)) fun a_cellNow hC => ?_
    refine xw_enqueue hk ok hst hqN hqr hC ((I.1 _).mpr ⟨m, hlt, rfl⟩) I R fun q' n' cl' a_queue a_closed a_cellNext I' R' hq' hn' hcl' hE' => ?_
    refine nm_r (nI_1 m) (ih (m + 1) f q' n' cl' a_queue a_closed a_cellNow a_cellNext (by omega) (by omega) (by omega) I' R' (hcl' _ h0) fun i hi t w e => ?_)
    rcases Nat.decEq i m with y | rfl
    · rw [hq' i (by omega)] at e
      exact hcl' _ (hx i (by omega) t w e)
    · rw [hq' i hlt] at e
      exact hE' t w e
theorem xw_arr21 {post : Int32 → SX → Prop} {wh pl : Nat → Nat} (hk : mo_K k) (ok : cg_OK tg op) (hst : cg_ST tg a_stepTo) (hw : tm_W k wh a_who) (hpl : ∀ w, w < 3 → a_placeOf w = nI (pl w) ∧ pl w < 12)
    (hp : ∀ a_queue a_closed a_cellNow a_cellNext, post (nI (ct_n (fun s => ∃ c, gr_R (mo_E tg false k) c (tm_s k fun i => pl (wh i)) s) 1728)) (f_walls, f_placed, nI k, f_byEffort, f_best, f_turns, a_waysOut, a_placeOf, a_goalOf, a_stepTo, a_toGoal, a_distance, a_who, a_cost, a_origin, a_closed, a_onward, a_queue, a_cellNow, a_cellNext, a_walkNow, a_walkNext, a_used, a_flowFrom, a_flowTo, a_cameBy, a_line)) :
    ∀ e i f a_closed, i + e = 1728 → e < f → (∀ s, s < i → a_closed s = 0) → wX_arrangements_21 post f_walls f_placed (nI k) f_byEffort f_best f_turns f (nI i) a_waysOut a_placeOf a_goalOf a_stepTo a_toGoal a_distance a_who a_cost a_origin a_closed a_onward a_queue a_cellNow a_cellNext a_walkNow a_walkNext a_used a_flowFrom a_flowTo a_cameBy a_line := by
  intro e
  induction e with
  | zero =>
    intro i f a_closed he hf hi
    obtain ⟨f, rfl⟩ : ∃ m, f = m + 1 := ⟨f - 1, by omega⟩
    refine pk_le 1728 i (fun _ => ?_) (fun h => by omega)
    have ls : (tm_s k fun i => pl (wh i)) < mo_N k := tm_s_lt hk fun i hi => (hpl _ (hw i hi).2).2
    refine xw_stateP hk hw hpl ?_
    generalize (tm_s k fun i => pl (wh i)) = st at *
    have ls' := Nat.lt_of_lt_of_le ls (mo_Nle k)
    refine nm_e ?_
    rw [show upd a_queue 0 (nI st) 0 = nI st from pk_us]
    refine ⟨vp_in_nI ls' (by omega), nm_r (by rw [nI_clamp (by omega), xb_b1]) ⟨1729, ?_⟩⟩
    refine xw_arr68 hk ok hst hp 1728 0 1729 (fun _ => st) 1 (fun x => x = st) _ _ _ _ (by omega) (by omega) (by omega) ⟨fun s => ⟨fun h => ⟨0, by omega, h.symm⟩, fun ⟨_, _, h⟩ => h.symm⟩, fun _ _ => ⟨ls, 0, gr_r0 st⟩, ?_⟩ ⟨fun i hi => ?_, fun s hs => ?_⟩ rfl (fun i hi => by omega)
    · have := ct_add (P := fun _ => False) (a := st) (fun z => z) (N := 1728) ls'
      rw [ct_zero (P := fun _ => False) (fun _ _ z => z)] at this
      have e2 : ct_n (fun x => x = st) 1728 = ct_n (fun k => False ∨ k = st) 1728 := ct_eq fun s _ => ⟨Or.inr, fun h => h.elim False.elim id⟩
      omega
    · obtain rfl : i = 0 := by omega
      exact pk_us
    · rcases Nat.decEq s st with z | rfl
      · rw [pk_un z]
        exact ⟨fun h => absurd h z, fun _ => hi s (by omega)⟩
      · rw [pk_us]
        exact ⟨fun _ => rfl, fun h => absurd rfl h⟩
  | succ e ih =>
    intro i f a_closed he hf hi
    obtain ⟨f, rfl⟩ : ∃ m, f = m + 1 := ⟨f - 1, by omega⟩
    refine pk_le 1728 i (fun _ => by omega) (fun hlt => ⟨vp_in_nI hlt (by omega), nm_r (by rw [nI_clamp (by omega), xb_b0]) (nm_r (nI_1 i) (ih (i + 1) f _ (by omega) (by omega) fun s hs => ?_))⟩)
    rcases Nat.decEq s i with z | rfl
    · rw [pk_un z]; exact hi s (by omega)
    · exact pk_us
end
theorem rv_ct (P : Nat → Prop) : ct_n (fun y => P (rv_c y)) 1728 = ct_n P 1728 :=
  Nat.le_antisymm (ct_inj rv_c (fun x _ h => ⟨rv_lt x, h⟩) fun x y hx hy _ _ e => rv_inj hx hy e)
    (ct_inj rv_c (fun x hx h => ⟨rv_lt x, by show P (rv_c (rv_c x)); rw [rv_rv hx]; exact h⟩) fun x y hx hy _ _ e => rv_inj hx hy e)
section
variable {tg : Nat → Nat → Option Nat} {k : Nat} {st : Nat} {b : Bool}
variable {b_size : Int32} {b_isWall b_waysOut b_isSet b_place b_goal b_walkers b_steps b_cost b_good : Nat → Int32}
theorem yw_arr24 {post : Int32 → SY → Prop} {C : Nat → Nat} (R : yc_R C b_cost) (hF : dj_F (mo_E tg b k) st C) (h : post (nI (ct_n (fun s => ∃ c, gr_R (mo_E tg b k) c st s) 1728)) (b_size, b_isWall, b_waysOut, b_isSet, b_place, b_goal, b_walkers, b_steps, b_cost, b_good)) :
    ∀ e i f, i + e = 1728 → e < f → wY_arrangements_24 post b_size b_isWall b_waysOut b_isSet b_place b_goal b_walkers b_steps b_cost b_good f (nI (ct_n (fun y => ∃ c, gr_R (mo_E tg b k) c st (rv_c y)) i)) (nI i) := by
  intro e
  induction e with
  | zero =>
    intro i f he hf
    obtain ⟨f, rfl⟩ : ∃ m, f = m + 1 := ⟨f - 1, by omega⟩
    refine pk_le 1728 i (fun _ => ?_) (fun h => by omega)
    obtain rfl : i = 1728 := by omega
    rw [rv_ct (fun s => ∃ c, gr_R (mo_E tg b k) c st s)]
    exact h
  | succ e ih =>
    intro i f he hf
    obtain ⟨f, rfl⟩ : ∃ m, f = m + 1 := ⟨f - 1, by omega⟩
    refine pk_le 1728 i (fun _ => by omega) (fun hlt => ⟨vp_in_nI hlt (by omega), ?_⟩)
    have R' := R (rv_c i) (rv_lt i)
    rw [rv_rv hlt] at R'
    rw [nI_clamp (by omega)]
    rcases R' with ⟨q1, q2⟩ | ⟨q1, q2⟩
    · rw [q2]
      refine br_t xb_neg (nm_r (nI_1 i) ?_)
      rw [← ct_S0 (P := fun y => ∃ c, gr_R (mo_E tg b k) c st (rv_c y)) (i := i)]
      · exact ih (i + 1) f (by omega) (by omega)
      · rcases hF (rv_c i) with ⟨z, _⟩ | ⟨_, z⟩
        · omega
        · exact fun ⟨c, r⟩ => z c r
    · rw [q2]
      refine br_f (nI_pos (by omega)) (nm_r (nI_1 _) (nm_r (nI_1 i) ?_))
      rw [← ct_S1 (P := fun y => ∃ c, gr_R (mo_E tg b k) c st (rv_c y)) (i := i)]
      · exact ih (i + 1) f (by omega) (by omega)
      · rcases hF (rv_c i) with ⟨_, z⟩ | ⟨z, _⟩
        · exact ⟨_, z.1⟩
        · omega
end
theorem i_vc_arrangements {k : Nat} {u : SX} {v : SY} (I : i_Rel k u v) (hk : k + 4 ≤ 2048) (v1 : Int32) : wpX_arrangements (fun r u' => wpY_arrangements (fun r' v' => r' = r ∧ i_Rel (k + 4) u' v') v v1) u v1 := by
  obtain ⟨W, wy, P, pl, gl, hE, hX, hY⟩ := I
  refine rl_elX (Q := fun u => wpX_arrangements (fun r u' => wpY_arrangements (fun r' v' => r' = r ∧ i_Rel (k + 4) u' v') v v1) u v1) hX ?_
  intro f_count f_byEffort f_best f_turns a_waysOut a_placeOf a_goalOf a_stepTo a_toGoal a_distance a_who a_cost a_origin a_closed a_onward a_queue a_cellNow a_cellNext a_walkNow a_walkNext a_used a_flowFrom a_flowTo a_cameBy a_line x1 x2 x3
  refine rl_elY (Q := fun v => wpX_arrangements (fun r u' => wpY_arrangements (fun r' v' => r' = r ∧ i_Rel (k + 4) u' v') v v1) (nI W, nI P, f_count, f_byEffort, f_best, f_turns, a_waysOut, a_placeOf, a_goalOf, a_stepTo, a_toGoal, a_distance, a_who, a_cost, a_origin, a_closed, a_onward, a_queue, a_cellNow, a_cellNext, a_walkNow, a_walkNext, a_used, a_flowFrom, a_flowTo, a_cameBy, a_line) v1) hY ?_
  intro b_size b_isWall b_waysOut b_isSet b_place b_goal b_walkers b_steps b_cost b_good y0 y1 ys y2 y3
  unfold wpX_arrangements wpY_arrangements
  refine xw_isReady hE x2 x3 ?_ (fun hn => br_t rfl (yw_isReady hE y0 ys y2 y3 (fun T t1 t8 e hr => absurd hr (hn T t1 t8 e)) (fun _ => br_t rfl ⟨rfl, rl_in hE (rl_mkX x1 x2 x3) (rl_mkY y0 y1 ys y2 y3)⟩)))
  intro T t1 t8 e hr
  subst e
  have ok := cg_tg_ok W wy
  have hkT := (tm_f2 T t8 t1).1
  obtain ⟨hV, hO⟩ := rl_st hE t1 t8 hr.2 (fun w hw hb => (hr.1 w hw hb).2.1)
  refine br_f (by decide) (xw_laySteps hE.1 (fun c hc => ⟨x1 c hc, hE.2.1 c hc⟩) fun a_stepTo hst => ?_)
  refine xw_gather (f_count := f_count) t1 t8 fun a_who hw => ⟨1729, ?_⟩
  refine xw_arr21 hkT ok hst hw (fun w hw => ⟨x2 w hw, hE.2.2.2.1 w hw⟩) (fun a_queue a_closed a_cellNow a_cellNext => ?_) 1728 0 1729 a_closed (by omega) (by omega) (fun s hs => by omega)
  refine yw_isReady hE y0 ys y2 y3 (fun _ _ _ _ _ => br_f (by decide) ?_) (fun hn => absurd hr (hn T t1 t8 rfl))
  refine yw_choose t1 t8 y0 (fun c hc => ⟨y1 c hc, hE.2.1 c hc⟩) fun b_walkers b_steps hst' hwk => ?_
  refine yw_spread (b := false) hkT ok hst' hwk (fun w hw => ⟨y2 w hw, hE.2.2.2.1 w hw⟩) hO hV fun C b_cost R hF => ⟨1729, ?_⟩
  exact yw_arr24 R hF ⟨rfl, rl_in hE (rl_mkX x1 x2 x3) (rl_mkY y0 y1 ys y2 y3)⟩ 1728 0 1729 (by omega) (by omega)
end
section
/-- turns left, as far as they are known at turn c, for the arrangements ahead of i already for c + 1 -/
def fb_I (E : Nat → Nat → Nat → Prop) (V : Nat → Prop) (g c i : Nat) (B : Nat → Nat) : Prop :=
  ∀ s, B s ≤ 1000000 ∧ (B s < 1000000 → B s < (if s < i then c + 1 else c) ∧ V s ∧ gr_L E (B s) s g) ∧ (∀ d, V s → gr_L E d s g → d < (if s < i then c + 1 else c) → B s = d)
/-- what E must give: one turn an edge, and it leads to what is allowed -/
def fb_E (E : Nat → Nat → Nat → Prop) (V : Nat → Prop) (N : Nat) : Prop := (∀ s t w, E s t w → w = 1 ∧ V t) ∧ ∀ s, V s → s < N
section
variable {E : Nat → Nat → Nat → Prop} {V : Nat → Prop} {N g c i : Nat} {B : Nat → Nat}
theorem fb_first (hE : fb_E E V N) {d s : Nat} (h : gr_L E (d + 1) s g) : ∃ t, E s t 1 ∧ gr_L E d t g ∧ s ≠ t ∧ V t := by
  rcases gr_cases h.1 with ⟨z, _⟩ | ⟨u, w, c', e, r, hc⟩
  · omega
  · have hw := (hE.1 _ _ _ e).1
    subst hw
    have : c' = d := by omega
    subst this
    have l : gr_L E c' u g := ⟨r, fun c2 r2 => by
      have := h.2 _ (gr_rc e r2)
      omega⟩
    refine ⟨u, e, l, fun z => ?_, (hE.1 _ _ _ e).2⟩
    rw [z] at h
    have := gr_lu h l
    omega
/-- no arrangement at level c: none beyond -/
theorem fb_none (hE : fb_E E V N) (h : ∀ s, V s → ¬ gr_L E c s g) : ∀ m d, d = c + m → ∀ s, V s → ¬ gr_L E d s g := by
  intro m
  induction m with
  | zero => intro d hd s hs; rw [hd]; exact h s hs
  | succ m ih =>
    intro d hd s hs l
    rw [hd, show c + (m + 1) = c + m + 1 from rfl] at l
    obtain ⟨t, _, lt, _, vt⟩ := fb_first hE l
    exact ih (c + m) rfl t vt lt
theorem fb_set (I : fb_I E V g c i B) (hv : V i) (hl : gr_L E c i g) (hc : c < 1000000) : fb_I E V g c (i + 1) (ag_up B i c) := by
  intro s
  rcases Nat.decEq s i with z | rfl
  · rw [ag_un _ _ z]
    have h := I s
    by_cases q : s < i
    · rw [if_pos q] at h
      rw [if_pos (by omega)]
      exact h
    · rw [if_neg q] at h
      rw [if_neg (by omega)]
      exact h
  · rw [ag_us, if_pos (by omega)]
    exact ⟨by omega, fun _ => ⟨by omega, hv, hl⟩, fun d _ l _ => gr_lu hl l⟩
theorem fb_skip (I : fb_I E V g c i B) (h : V i → gr_L E c i g → False) : fb_I E V g c (i + 1) B := by
  intro s
  have hs := I s
  rcases Nat.decEq s i with z | rfl
  · by_cases q : s < i
    · rw [if_pos q] at hs
      rw [if_pos (by omega)]
      exact hs
    · rw [if_neg q] at hs
      rw [if_neg (by omega)]
      exact hs
  · rw [if_neg (by omega)] at hs
    rw [if_pos (by omega)]
    refine ⟨hs.1, fun q => ⟨by have := (hs.2.1 q).1; omega, (hs.2.1 q).2⟩, fun d v l hd => ?_⟩
    rcases Nat.lt_or_ge d c with z | z
    · exact hs.2.2 d v l z
    · have : d = c := by omega
      subst this
      exact absurd l (fun l => h v l)
/-- an arrangement's level by its neighbours -/
theorem fb_step (hE : fb_E E V N) {c : Nat} (hc : c < 1000000) (I : fb_I E V g (c + 1) i B) (hB : B i = 1000000) (hv : V i) : gr_L E (c + 1) i g ↔ ∃ t, E i t 1 ∧ B t = c ∧ i ≠ t := by
  constructor
  · intro l
    obtain ⟨t, e, lt, ne, vt⟩ := fb_first hE l
    refine ⟨t, e, (I t).2.2 c vt lt (by split <;> omega), ne⟩
  · rintro ⟨t, e, hb, ne⟩
    have l := ((I t).2.1 (by omega)).2.2
    rw [hb] at l
    refine ⟨by have := gr_rc e l.1; rwa [Nat.add_comm] at this, fun d r => ?_⟩
    obtain ⟨d', l', hd'⟩ := gr_ll r
    rcases Nat.lt_or_ge d' (c + 1) with z | z
    · have := (I i).2.2 d' hv l' (by split <;> omega)
      omega
    · omega
theorem fb_next (I : fb_I E V g c 1728 B) (hN : ∀ s, V s → s < 1728) (hB : ∀ s, 1728 ≤ s → B s = 1000000) : fb_I E V g (c + 1) 0 B := by
  intro s
  have h := I s
  rw [if_neg (by omega)]
  rcases Nat.lt_or_ge s 1728 with z | z
  · rw [if_pos z] at h
    exact h
  · rw [if_neg (by omega)] at h
    refine ⟨h.1, fun q => ?_, fun d v => ?_⟩
    · have := hB s z; omega
    · have := hN s v; omega
/-- all levels are known -/
def fb_F (E : Nat → Nat → Nat → Prop) (V : Nat → Prop) (g : Nat) (B : Nat → Nat) : Prop := ∀ s, B s ≤ 1000000 ∧ (B s < 1000000 → V s ∧ gr_L E (B s) s g) ∧ (∀ d, V s → gr_L E d s g → d < 1728 → B s = d)
end
/-- t is the first of those next to s on a shortest plan, the first walker's cell counting most -/
def fn_C (E : Nat → Nat → Nat → Prop) (g s t : Nat) : Prop := E s t 1 ∧ ∃ d, gr_L E (d + 1) s g ∧ gr_L E d t g
def fn_P (E : Nat → Nat → Nat → Prop) (g s t : Nat) : Prop := fn_C E g s t ∧ ∀ t', fn_C E g s t' → rv_c t ≤ rv_c t'
def fn_W (E : Nat → Nat → Nat → Prop) (g st : Nat) : Nat → Nat → Prop
  | 0, t => t = st
  | n + 1, t => ∃ u, fn_W E g st n u ∧ fn_P E g u t
theorem fn_u {tg : Nat → Nat → Option Nat} {k g s t t' : Nat} (h : fn_P (mo_E tg false k) g s t) (h' : fn_P (mo_E tg false k) g s t') : t = t' := by
  have l1 := Nat.lt_of_lt_of_le (mo_E_lt h.1.1).2 (mo_Nle k)
  have l2 := Nat.lt_of_lt_of_le (mo_E_lt h'.1.1).2 (mo_Nle k)
  exact rv_inj l1 l2 (Nat.le_antisymm (h.2 _ h'.1) (h'.2 _ h.1))
theorem fn_Wu {tg : Nat → Nat → Option Nat} {k g st : Nat} : ∀ n t t', fn_W (mo_E tg false k) g st n t → fn_W (mo_E tg false k) g st n t' → t = t'
  | 0, _, _, h, h' => h.trans h'.symm
  | n + 1, t, t', ⟨u, h1, h2⟩, ⟨u', h1', h2'⟩ => by
    have := fn_Wu n u u' h1 h1'
    subst this
    exact fn_u h2 h2'
theorem fb_EM {tg : Nat → Nat → Option Nat} {k : Nat} : fb_E (mo_E tg false k) (mo_V k) (mo_N k) := ⟨fun s t w e => ⟨e.2.2, mo_E_V e⟩, fun s h => h.1⟩
end
section
section
variable {tg : Nat → Nat → Option Nat} {op : Nat → Prop} {k : Nat} {wh pl gl : Nat → Nat}
variable {f_walls f_placed f_count f_byEffort f_best f_turns : Int32} {a_waysOut a_placeOf a_goalOf a_stepTo a_toGoal a_distance a_who a_cost a_origin a_closed a_onward a_queue a_cellNow a_cellNext a_walkNow a_walkNext a_used a_flowFrom a_flowTo a_cameBy a_line : Nat → Int32}
theorem xw_bound {post : Int32 → Prop} (hk : mo_K k) (h : post (nI (mo_N k))) : wpX_bound post (f_walls, f_placed, nI k, f_byEffort, f_best, f_turns, a_waysOut, a_placeOf, a_goalOf, a_stepTo, a_toGoal, a_distance, a_who, a_cost, a_origin, a_closed, a_onward, a_queue, a_cellNow, a_cellNext, a_walkNow, a_walkNext, a_used, a_flowFrom, a_flowTo, a_cameBy, a_line) := by
  rcases hk with rfl | rfl | rfl
  · exact br_t rfl h
  · exact br_f (by decide) (br_t rfl h)
  · exact br_f (by decide) (br_f (by decide) h)
/-- one comparison of mayStand -/
theorem xw_ms30 {post : Int32 → SX → Prop} {J19 : Int32 → Int32 → Prop} {n i j a b : Nat} {x2 : Int32} (hi : i < 3) (hj : j < i) (ha : a_cellNow i = nI a ∧ a < 12) (hb : a_cellNow j = nI b ∧ b < 12) (hx : x2 = 0 ∨ x2 = 1)
    (h : ∀ x, (x = 0 ∨ x = 1) → (x = 1 ↔ x2 = 1 ∧ a ≠ b) → wX_mayStand_30 post J19 (nI i) f_walls f_placed f_count f_byEffort f_best f_turns a_waysOut a_placeOf a_goalOf a_stepTo a_toGoal a_distance a_who a_cost a_origin a_closed a_onward a_queue a_cellNow a_cellNext a_walkNow a_walkNext a_used a_flowFrom a_flowTo a_cameBy a_line n x (nI (j + 1))) : wX_mayStand_30 post J19 (nI i) f_walls f_placed f_count f_byEffort f_best f_turns a_waysOut a_placeOf a_goalOf a_stepTo a_toGoal a_distance a_who a_cost a_origin a_closed a_onward a_queue a_cellNow a_cellNext a_walkNow a_walkNext a_used a_flowFrom a_flowTo a_cameBy a_line (n + 1) x2 (nI j) := by
  have la := ha.2
  have lb := hb.2
  refine pk_le i j (fun _ => by omega) (fun _ => ?_)
  rcases hx with rfl | rfl
  · exact br_t rfl (nm_r (nI_1 j) (h 0 (Or.inl rfl) ⟨fun z => absurd z (by decide), fun z => absurd z.1 (by decide)⟩))
  · refine br_f (by decide) ⟨vp_in_nI hi (by omega), vp_in_nI (by omega) (by omega), ?_⟩
    rw [nI_clamp (show i < 2 ^ 31 by omega), nI_clamp (show j < 2 ^ 31 by omega), ha.1, hb.1]
    exact pk_eq a b (fun z => nm_r (nI_1 j) (h 0 (Or.inl rfl) ⟨fun q => absurd q (by decide), fun q => absurd z q.2⟩)) (fun z => nm_r (nI_1 j) (h 1 (Or.inr rfl) ⟨fun _ => ⟨rfl, z⟩, fun _ => rfl⟩))
theorem xw_ms30E {post : Int32 → SX → Prop} {J19 : Int32 → Int32 → Prop} {n i : Nat} {x2 : Int32} (hi : i < 3) (h : J19 x2 (nI (i + 1))) : wX_mayStand_30 post J19 (nI i) f_walls f_placed f_count f_byEffort f_best f_turns a_waysOut a_placeOf a_goalOf a_stepTo a_toGoal a_distance a_who a_cost a_origin a_closed a_onward a_queue a_cellNow a_cellNext a_walkNow a_walkNext a_used a_flowFrom a_flowTo a_cameBy a_line (n + 1) x2 (nI i) :=
  pk_le i i (fun _ => nm_r (nI_1 i) h) (fun _ => by omega)
theorem xw_mayStand {post : Int32 → SX → Prop} {s : Nat} (hk : mo_K k) (hs : s < 1728) (h1 : ∀ a_cellNow, mo_V k s → post 1 (f_walls, f_placed, nI k, f_byEffort, f_best, f_turns, a_waysOut, a_placeOf, a_goalOf, a_stepTo, a_toGoal, a_distance, a_who, a_cost, a_origin, a_closed, a_onward, a_queue, a_cellNow, a_cellNext, a_walkNow, a_walkNext, a_used, a_flowFrom, a_flowTo, a_cameBy, a_line)) (h0 : ∀ a_cellNow, ¬ mo_V k s → post 0 (f_walls, f_placed, nI k, f_byEffort, f_best, f_turns, a_waysOut, a_placeOf, a_goalOf, a_stepTo, a_toGoal, a_distance, a_who, a_cost, a_origin, a_closed, a_onward, a_queue, a_cellNow, a_cellNext, a_walkNow, a_walkNext, a_used, a_flowFrom, a_flowTo, a_cameBy, a_line)) : wpX_mayStand post (f_walls, f_placed, nI k, f_byEffort, f_best, f_turns, a_waysOut, a_placeOf, a_goalOf, a_stepTo, a_toGoal, a_distance, a_who, a_cost, a_origin, a_closed, a_onward, a_queue, a_cellNow, a_cellNext, a_walkNow, a_walkNext, a_used, a_flowFrom, a_flowTo, a_cameBy, a_line) (nI s) := by
  unfold wpX_mayStand
  refine xw_bound hk ?_
  have hN := mo_Nle k
  refine pk_lt s (mo_N k) (fun hlt => ?_) (fun hge => h0 a_cellNow fun v => by have := v.1; omega)
  refine xw_layCells hk hs fun a_cellNow hC => ⟨4, ?_⟩
  have fin : ∀ x n, (x = 0 ∨ x = 1) → (x = 1 ↔ mo_V k s) → wX_mayStand_19 post f_walls f_placed (nI k) f_byEffort f_best f_turns a_waysOut a_placeOf a_goalOf a_stepTo a_toGoal a_distance a_who a_cost a_origin a_closed a_onward a_queue a_cellNow a_cellNext a_walkNow a_walkNext a_used a_flowFrom a_flowTo a_cameBy a_line (n + 1) x (nI k) := fun x n hx hv => by
    have hk3 : k ≤ 3 := by rcases hk with e | e | e <;> omega
    refine pk_le k k (fun _ => ?_) (fun _ => by omega)
    rcases hx with rfl | rfl
    · exact ⟨rfl, h0 a_cellNow fun v => absurd (hv.mpr v) (by decide)⟩
    · exact ⟨rfl, h1 a_cellNow (hv.mp rfl)⟩
  have c0 : a_cellNow 0 = nI (s % 12) ∧ s % 12 < 12 := ⟨hC.1, by omega⟩
  rcases hk with rfl | rfl | rfl
  · refine br_f (by decide) ⟨1, xw_ms30E (i := 0) (by omega) (fin 1 2 (Or.inr rfl) ⟨fun _ => ⟨hlt, fun z => by omega, fun z => by omega⟩, fun _ => rfl⟩)⟩
  · have c1 : a_cellNow 1 = nI (s / 12 % 12) ∧ s / 12 % 12 < 12 := ⟨hC.2.1 (by omega), by omega⟩
    refine br_f (by decide) ⟨1, xw_ms30E (i := 0) (by omega) ?_⟩
    refine br_f (by decide) ⟨2, xw_ms30 (i := 1) (j := 0) (by omega) (by omega) c1 c0 (Or.inr rfl) fun x hx hxe => xw_ms30E (i := 1) (by omega) (fin x 1 hx ?_)⟩
    rw [hxe]
    exact ⟨fun q => ⟨hlt, fun _ e => q.2 e.symm, fun z => by omega⟩, fun q => ⟨rfl, fun e => q.2.1 (by omega) e.symm⟩⟩
  · have c1 : a_cellNow 1 = nI (s / 12 % 12) ∧ s / 12 % 12 < 12 := ⟨hC.2.1 (by omega), by omega⟩
    have c2 : a_cellNow 2 = nI (s / 144 % 12) ∧ s / 144 % 12 < 12 := ⟨hC.2.2 (by omega), by omega⟩
    refine br_f (by decide) ⟨1, xw_ms30E (i := 0) (by omega) ?_⟩
    refine br_f (by decide) ⟨2, xw_ms30 (i := 1) (j := 0) (by omega) (by omega) c1 c0 (Or.inr rfl) fun x hx hxe => xw_ms30E (i := 1) (by omega) ?_⟩
    refine br_f (by decide) ⟨3, xw_ms30 (i := 2) (j := 0) (by omega) (by omega) c2 c0 hx fun y hy hye => xw_ms30 (i := 2) (j := 1) (by omega) (by omega) c2 c1 hy fun z hz hze => xw_ms30E (i := 2) (by omega) (fin z 0 hz ?_)⟩
    rw [hze, hye, hxe]
    exact ⟨fun q => ⟨hlt, fun _ e => q.1.1.2 e.symm, fun _ => ⟨fun e => q.1.2 e.symm, fun e => q.2 e.symm⟩⟩, fun q => ⟨⟨⟨rfl, fun e => q.2.1 (by omega) e.symm⟩, fun e => (q.2.2 (by omega)).1 e.symm⟩, fun e => (q.2.2 (by omega)).2 e.symm⟩⟩
/-- X's costs by turns left -/
def fb_R (B : Nat → Nat) (a : Nat → Int32) : Prop := (∀ s, s < 1728 → a s = nI (B s)) ∧ ∀ s, 1728 ≤ s → B s = 1000000
theorem xw_ri13 {post : Int32 → SX → Prop} {s c : Nat} {B : Nat → Nat} (hk : mo_K k) (ok : cg_OK tg op) (hst : cg_ST tg a_stepTo) (hs : s < mo_N k) (hC : tm_C k s a_cellNow) (R : fb_R B a_cost) (hB : ∀ s, B s ≤ 1000000) (hc : c < 1000000)
    (h1 : ∀ a_cellNext, (∃ t, mo_E tg false k s t 1 ∧ B t = c ∧ s ≠ t) → post 1 (f_walls, f_placed, nI k, f_byEffort, f_best, f_turns, a_waysOut, a_placeOf, a_goalOf, a_stepTo, a_toGoal, a_distance, a_who, a_cost, a_origin, a_closed, a_onward, a_queue, a_cellNow, a_cellNext, a_walkNow, a_walkNext, a_used, a_flowFrom, a_flowTo, a_cameBy, a_line)) (h0 : ∀ a_cellNext, (¬ ∃ t, mo_E tg false k s t 1 ∧ B t = c ∧ s ≠ t) → post 0 (f_walls, f_placed, nI k, f_byEffort, f_best, f_turns, a_waysOut, a_placeOf, a_goalOf, a_stepTo, a_toGoal, a_distance, a_who, a_cost, a_origin, a_closed, a_onward, a_queue, a_cellNow, a_cellNext, a_walkNow, a_walkNext, a_used, a_flowFrom, a_flowTo, a_cameBy, a_line)) (hself : B s ≠ c) :
    ∀ e ch f a_cellNext, ch + e = mo_ch k → e < f → 1 ≤ ch → (∀ c' t, 1 ≤ c' → c' < ch → mo_by tg k s c' t → B t ≠ c) → wX_reachesIn_13 post (nI c) (nI (mo_ch k)) f (nI ch) f_walls f_placed (nI k) f_byEffort f_best f_turns a_waysOut a_placeOf a_goalOf a_stepTo a_toGoal a_distance a_who a_cost a_origin a_closed a_onward a_queue a_cellNow a_cellNext a_walkNow a_walkNext a_used a_flowFrom a_flowTo a_cameBy a_line := by
  have hm := mo_ch_le k
  intro e
  induction e with
  | zero =>
    intro ch f a_cellNext he hf h1' hno
    obtain ⟨f, rfl⟩ : ∃ m, f = m + 1 := ⟨f - 1, by omega⟩
    refine pk_le (mo_ch k) ch (fun _ => h0 a_cellNext ?_) (fun h => by omega)
    rintro ⟨t, e, hb, ne⟩
    obtain ⟨c', hc', hby, hc1⟩ := mo_M_by hk e.1 e.2.1
    exact hno c' t (hc1 ne) (by omega) hby hb
  | succ e ih =>
    intro ch f a_cellNext he hf h1' hno
    obtain ⟨f, rfl⟩ : ∃ m, f = m + 1 := ⟨f - 1, by omega⟩
    refine pk_le (mo_ch k) ch (fun _ => by omega) (fun hlt => ?_)
    refine xw_chosen hk ok hst hC (by omega) (fun a_cellNext hn => ?_) (fun a_cellNext t hb hD => ?_)
    · refine br_t xb_neg (nm_r (nI_1 ch) (ih (ch + 1) f a_cellNext (by omega) (by omega) (by omega) fun c' t c1 c2 hb => ?_))
      rcases Nat.decEq c' ch with z | rfl
      · exact hno c' t c1 (by omega) hb
      · exact absurd hb (hn t)
    · have hM := mo_by_M hb
      have lt := Nat.lt_of_lt_of_le hM.1 (mo_Nle k)
      have hBt := hB t
      refine br_f (nI_pos (by omega)) ⟨vp_in_nI lt (by omega), ?_⟩
      rw [nI_clamp (by omega), R.1 t lt]
      refine pk_eq (B t) c (fun z => h1 a_cellNext ⟨t, ⟨hs, hM, rfl⟩, z, fun e => hself (by rw [e]; exact z)⟩) (fun z => nm_r (nI_1 ch) (ih (ch + 1) f a_cellNext (by omega) (by omega) (by omega) fun c' t' c1 c2 hb' => ?_))
      rcases Nat.decEq c' ch with y | rfl
      · exact hno c' t' c1 (by omega) hb'
      · rw [mo_by_u hk hb' hb]; exact z
theorem xw_reachesIn {post : Int32 → SX → Prop} {s c : Nat} {B : Nat → Nat} (hk : mo_K k) (ok : cg_OK tg op) (hst : cg_ST tg a_stepTo) (hs : s < mo_N k) (R : fb_R B a_cost) (hB : ∀ s, B s ≤ 1000000) (hc : c < 1000000) (hself : B s ≠ c)
    (h1 : ∀ a_cellNow a_cellNext, (∃ t, mo_E tg false k s t 1 ∧ B t = c ∧ s ≠ t) → post 1 (f_walls, f_placed, nI k, f_byEffort, f_best, f_turns, a_waysOut, a_placeOf, a_goalOf, a_stepTo, a_toGoal, a_distance, a_who, a_cost, a_origin, a_closed, a_onward, a_queue, a_cellNow, a_cellNext, a_walkNow, a_walkNext, a_used, a_flowFrom, a_flowTo, a_cameBy, a_line)) (h0 : ∀ a_cellNow a_cellNext, (¬ ∃ t, mo_E tg false k s t 1 ∧ B t = c ∧ s ≠ t) → post 0 (f_walls, f_placed, nI k, f_byEffort, f_best, f_turns, a_waysOut, a_placeOf, a_goalOf, a_stepTo, a_toGoal, a_distance, a_who, a_cost, a_origin, a_closed, a_onward, a_queue, a_cellNow, a_cellNext, a_walkNow, a_walkNext, a_used, a_flowFrom, a_flowTo, a_cameBy, a_line)) : wpX_reachesIn post (f_walls, f_placed, nI k, f_byEffort, f_best, f_turns, a_waysOut, a_placeOf, a_goalOf, a_stepTo, a_toGoal, a_distance, a_who, a_cost, a_origin, a_closed, a_onward, a_queue, a_cellNow, a_cellNext, a_walkNow, a_walkNext, a_used, a_flowFrom, a_flowTo, a_cameBy, a_line) (nI s) (nI c) := by
  unfold wpX_reachesIn
  refine xw_layCells hk (Nat.lt_of_lt_of_le hs (mo_Nle k)) fun a_cellNow hC => xw_choices hk ⟨126, ?_⟩
  have hm : 1 ≤ mo_ch k := by rcases hk with rfl | rfl | rfl <;> decide
  exact xw_ri13 hk ok hst hs hC R hB hc (h1 a_cellNow) (h0 a_cellNow) hself (mo_ch k - 1) 1 126 a_cellNext (by omega) (by have := mo_ch_le k; omega) (by omega) fun c' t c1 c2 => by omega
theorem fb_Ru {B : Nat → Nat} {a : Nat → Int32} (R : fb_R B a) {s v : Nat} (hs : s < 1728) : fb_R (ag_up B s v) (upd a s (nI v)) := by
  refine ⟨fun x hx => ?_, fun x hx => ?_⟩
  · rcases Nat.decEq x s with z | rfl
    · rw [ag_un _ _ z, pk_un z]; exact R.1 x hx
    · rw [ag_us, pk_us]
  · rw [ag_un _ _ (by omega)]; exact R.2 x hx
theorem xw_ftl53 {post : SX → Prop} {J38 : Int32 → Int32 → Int32 → Int32 → Int32 → Int32 → Int32 → Int32 → (Nat → Int32) → (Nat → Int32) → (Nat → Int32) → (Nat → Int32) → (Nat → Int32) → (Nat → Int32) → (Nat → Int32) → (Nat → Int32) → (Nat → Int32) → (Nat → Int32) → (Nat → Int32) → (Nat → Int32) → (Nat → Int32) → (Nat → Int32) → (Nat → Int32) → (Nat → Int32) → (Nat → Int32) → (Nat → Int32) → (Nat → Int32) → (Nat → Int32) → (Nat → Int32) → Prop} {g c : Nat} (hk : mo_K k) (ok : cg_OK tg op) (hst : cg_ST tg a_stepTo) (hc : c + 1 < 1728)
    (hJ : ∀ x1 B a_cost a_cellNow a_cellNext, fb_I (mo_E tg false k) (mo_V k) g (c + 1) 1728 B → fb_R B a_cost → ((x1 = 0 ∧ ∀ s, mo_V k s → ¬ gr_L (mo_E tg false k) (c + 1) s g) ∨ x1 = 1) → J38 x1 (nI (c + 2)) f_walls f_placed (nI k) f_byEffort f_best f_turns a_waysOut a_placeOf a_goalOf a_stepTo a_toGoal a_distance a_who a_cost a_origin a_closed a_onward a_queue a_cellNow a_cellNext a_walkNow a_walkNext a_used a_flowFrom a_flowTo a_cameBy a_line) :
    ∀ e i f x1 B a_cost a_cellNow a_cellNext, i + e = 1728 → e < f → fb_I (mo_E tg false k) (mo_V k) g (c + 1) i B → fb_R B a_cost → ((x1 = 0 ∧ ∀ s, s < i → mo_V k s → ¬ gr_L (mo_E tg false k) (c + 1) s g) ∨ x1 = 1) →
      wX_findTurnsLeft_53 post J38 (nI (c + 1)) f x1 (nI i) f_walls f_placed (nI k) f_byEffort f_best f_turns a_waysOut a_placeOf a_goalOf a_stepTo a_toGoal a_distance a_who a_cost a_origin a_closed a_onward a_queue a_cellNow a_cellNext a_walkNow a_walkNext a_used a_flowFrom a_flowTo a_cameBy a_line := by
  intro e
  induction e with
  | zero =>
    intro i f x1 B a_cost a_cellNow a_cellNext he hf I R hx
    obtain ⟨f, rfl⟩ : ∃ m, f = m + 1 := ⟨f - 1, by omega⟩
    obtain rfl : i = 1728 := by omega
    refine br_t (by decide) (nm_r (nI_1 (c + 1)) (hJ x1 B a_cost a_cellNow a_cellNext I R ?_))
    rcases hx with ⟨h1, h2⟩ | h1
    · exact Or.inl ⟨h1, fun s hv => h2 s (Nat.lt_of_lt_of_le hv.1 (mo_Nle k)) hv⟩
    · exact Or.inr h1
  | succ e ih =>
    intro i f x1 B a_cost a_cellNow a_cellNext he hf I R hx
    obtain ⟨f, rfl⟩ : ∃ m, f = m + 1 := ⟨f - 1, by omega⟩
    refine pk_le 1728 i (fun _ => by omega) (fun hlt => ⟨vp_in_nI hlt (by omega), ?_⟩)
    rw [nI_clamp (by omega), R.1 i hlt]
    have hBi := (I i).1
    have skip : ∀ a_cellNow a_cellNext, (mo_V k i → gr_L (mo_E tg false k) (c + 1) i g → False) → wX_findTurnsLeft_53 post J38 (nI (c + 1)) f x1 (nI (i + 1)) f_walls f_placed (nI k) f_byEffort f_best f_turns a_waysOut a_placeOf a_goalOf a_stepTo a_toGoal a_distance a_who a_cost a_origin a_closed a_onward a_queue a_cellNow a_cellNext a_walkNow a_walkNext a_used a_flowFrom a_flowTo a_cameBy a_line := fun a_cellNow a_cellNext q => by
      refine ih (i + 1) f x1 B a_cost a_cellNow a_cellNext (by omega) (by omega) (fb_skip I q) R ?_
      rcases hx with ⟨h1, h2⟩ | h1
      · refine Or.inl ⟨h1, fun s hs hv l => ?_⟩
        rcases Nat.decEq s i with z | rfl
        · exact h2 s (by omega) hv l
        · exact q hv l
      · exact Or.inr h1
    refine pk_eq (B i) 1000000 (fun z => ?_) (fun z => nm_r (nI_1 i) (skip _ _ fun v l => ?_))
    · refine xw_mayStand hk hlt (fun a_cellNow hv => br_f (by decide) ?_) (fun a_cellNow hv => br_t rfl (nm_r (nI_1 i) (skip _ _ fun v _ => hv v)))
      rw [nI_pred]
      have hstep := fb_step fb_EM (by omega) I z hv
      refine xw_reachesIn hk ok hst hv.1 R (fun s => (I s).1) (by omega) (by omega) (fun a_cellNow a_cellNext hex => ?_) (fun a_cellNow a_cellNext hex => br_t rfl (nm_r (nI_1 i) (skip _ _ fun _ l => hex (hstep.mp l))))
      refine br_f (by decide) ⟨vp_in_nI hlt (by omega), nm_e (nm_r (nI_1 i) (ih (i + 1) f 1 _ _ a_cellNow a_cellNext (by omega) (by omega) (fb_set I hv (hstep.mpr hex) (by omega)) (fb_Ru R hlt) (Or.inr rfl)))⟩
    · have h := ((I i).2.1 (by omega))
      have h1 := h.1
      rw [if_neg (by omega)] at h1
      have := gr_lu h.2.2 l
      omega
theorem xw_ftl38 {post : SX → Prop} {g : Nat} (hk : mo_K k) (ok : cg_OK tg op) (hst : cg_ST tg a_stepTo)
    (hp : ∀ B a_cost a_cellNow a_cellNext, fb_F (mo_E tg false k) (mo_V k) g B → fb_R B a_cost → post (f_walls, f_placed, nI k, f_byEffort, f_best, f_turns, a_waysOut, a_placeOf, a_goalOf, a_stepTo, a_toGoal, a_distance, a_who, a_cost, a_origin, a_closed, a_onward, a_queue, a_cellNow, a_cellNext, a_walkNow, a_walkNext, a_used, a_flowFrom, a_flowTo, a_cameBy, a_line)) :
    ∀ e c f x1 B a_cost a_cellNow a_cellNext, c + 1 + e = 1728 → e < f → fb_I (mo_E tg false k) (mo_V k) g (c + 1) 0 B → fb_R B a_cost → ((x1 = 0 ∧ ∀ s, mo_V k s → ¬ gr_L (mo_E tg false k) c s g) ∨ x1 = 1) →
      wX_findTurnsLeft_38 post f x1 (nI (c + 1)) f_walls f_placed (nI k) f_byEffort f_best f_turns a_waysOut a_placeOf a_goalOf a_stepTo a_toGoal a_distance a_who a_cost a_origin a_closed a_onward a_queue a_cellNow a_cellNext a_walkNow a_walkNext a_used a_flowFrom a_flowTo a_cameBy a_line := by
  have fin : ∀ c B a_cost a_cellNow a_cellNext, fb_I (mo_E tg false k) (mo_V k) g (c + 1) 0 B → fb_R B a_cost → (∀ d s, mo_V k s → gr_L (mo_E tg false k) d s g → d < 1728 → d < c + 1) → post (f_walls, f_placed, nI k, f_byEffort, f_best, f_turns, a_waysOut, a_placeOf, a_goalOf, a_stepTo, a_toGoal, a_distance, a_who, a_cost, a_origin, a_closed, a_onward, a_queue, a_cellNow, a_cellNext, a_walkNow, a_walkNext, a_used, a_flowFrom, a_flowTo, a_cameBy, a_line) := by
    intro c B a_cost a_cellNow a_cellNext I R h
    refine hp B a_cost a_cellNow a_cellNext (fun s => ⟨(I s).1, fun q => ((I s).2.1 q).2, fun d v l hd => (I s).2.2 d v l ?_⟩) R
    rw [if_neg (by omega)]
    exact h d s v l hd
  intro e
  induction e with
  | zero =>
    intro c f x1 B a_cost a_cellNow a_cellNext he hf I R hx
    obtain ⟨f, rfl⟩ : ∃ m, f = m + 1 := ⟨f - 1, by omega⟩
    exact pk_le 1728 (c + 1) (fun _ => fin c B _ _ _ I R fun d s _ _ hd => by omega) (fun h => by omega)
  | succ e ih =>
    intro c f x1 B a_cost a_cellNow a_cellNext he hf I R hx
    obtain ⟨f, rfl⟩ : ∃ m, f = m + 1 := ⟨f - 1, by omega⟩
    refine pk_le 1728 (c + 1) (fun _ => by omega) (fun hlt => ?_)
    rcases hx with ⟨rfl, hno⟩ | rfl
    · refine br_t rfl (fin c B _ _ _ I R fun d s v l hd => ?_)
      rcases Nat.lt_or_ge d c with z | z
      · omega
      · exact absurd l (fb_none fb_EM hno (d - c) d (by omega) s v)
    · refine br_f (by decide) ⟨1729, xw_ftl53 hk ok hst hlt (fun x1 B a_cost a_cellNow a_cellNext I R hx => ih (c + 1) f x1 B a_cost a_cellNow a_cellNext (by omega) (by omega) (fb_next I (fun s v => Nat.lt_of_lt_of_le v.1 (mo_Nle k)) R.2) R hx) 1728 0 1729 0 B a_cost a_cellNow a_cellNext (by omega) (by omega) I R (Or.inl ⟨rfl, fun s hs => by omega⟩)⟩
theorem xw_ftl2 {post : SX → Prop} (hk : mo_K k) (ok : cg_OK tg op) (hst : cg_ST tg a_stepTo) (hw : tm_W k wh a_who) (hgl : ∀ w, w < 3 → a_goalOf w = nI (gl w) ∧ gl w < 12) (hV : mo_V k (tm_s k fun i => gl (wh i)))
    (hp : ∀ B a_cost a_cellNow a_cellNext, fb_F (mo_E tg false k) (mo_V k) (tm_s k fun i => gl (wh i)) B → fb_R B a_cost → post (f_walls, f_placed, nI k, f_byEffort, f_best, f_turns, a_waysOut, a_placeOf, a_goalOf, a_stepTo, a_toGoal, a_distance, a_who, a_cost, a_origin, a_closed, a_onward, a_queue, a_cellNow, a_cellNext, a_walkNow, a_walkNext, a_used, a_flowFrom, a_flowTo, a_cameBy, a_line)) :
    ∀ e i f a_cost, i + e = 1728 → e < f → (∀ s, s < i → a_cost s = nI 1000000) → wX_findTurnsLeft_2 post f_walls f_placed (nI k) f_byEffort f_best f_turns f (nI i) a_waysOut a_placeOf a_goalOf a_stepTo a_toGoal a_distance a_who a_cost a_origin a_closed a_onward a_queue a_cellNow a_cellNext a_walkNow a_walkNext a_used a_flowFrom a_flowTo a_cameBy a_line := by
  intro e
  induction e with
  | zero =>
    intro i f a_cost he hf hi
    obtain ⟨f, rfl⟩ : ∃ m, f = m + 1 := ⟨f - 1, by omega⟩
    refine pk_le 1728 i (fun _ => ?_) (fun h => by omega)
    refine xw_stateG hk hw hgl ?_
    have lg := Nat.lt_of_lt_of_le hV.1 (mo_Nle k)
    generalize (tm_s k fun i => gl (wh i)) = g at *
    refine ⟨vp_in_nI lg (by omega), nm_r (by rw [nI_clamp (by omega)]) ⟨1728, ?_⟩⟩
    refine xw_ftl38 hk ok hst hp 1727 0 1728 1 (fun s => if s = g then 0 else 1000000) _ _ _ (by omega) (by omega) (fun s => ?_) ⟨fun s hs => ?_, fun s hs => if_neg (by omega)⟩ (Or.inr rfl)
    · dsimp only
      rw [if_neg (show ¬ s < 0 by omega)]
      rcases Nat.decEq s g with z | rfl
      · rw [if_neg z]
        refine ⟨by omega, fun q => by omega, fun d v l hd => ?_⟩
        have : d = 0 := by omega
        subst this
        rcases gr_cases l.1 with ⟨_, e⟩ | ⟨u, w, c', e, _, hc⟩
        · exact absurd e z
        · have : w = 1 := e.2.2
          omega
      · rw [if_pos rfl]
        exact ⟨by omega, fun _ => ⟨by omega, hV, gr_l0 s⟩, fun d v l hd => by omega⟩
    · dsimp only
      rcases Nat.decEq s g with z | rfl
      · rw [if_neg z, pk_un z]; exact hi s (by omega)
      · rw [if_pos rfl, pk_us]; rfl
  | succ e ih =>
    intro i f a_cost he hf hi
    obtain ⟨f, rfl⟩ : ∃ m, f = m + 1 := ⟨f - 1, by omega⟩
    refine pk_le 1728 i (fun _ => by omega) (fun hlt => ⟨vp_in_nI hlt (by omega), nm_r (by rw [nI_clamp (by omega)]) (nm_r (nI_1 i) (ih (i + 1) f _ (by omega) (by omega) fun s hs => ?_))⟩)
    rcases Nat.decEq s i with z | rfl
    · rw [pk_un z]; exact hi s (by omega)
    · rw [pk_us]; rfl
theorem xw_findTurnsLeft {post : SX → Prop} (hk : mo_K k) (ok : cg_OK tg op) (hst : cg_ST tg a_stepTo) (hw : tm_W k wh a_who) (hgl : ∀ w, w < 3 → a_goalOf w = nI (gl w) ∧ gl w < 12) (hV : mo_V k (tm_s k fun i => gl (wh i)))
    (hp : ∀ B a_cost a_cellNow a_cellNext, fb_F (mo_E tg false k) (mo_V k) (tm_s k fun i => gl (wh i)) B → fb_R B a_cost → post (f_walls, f_placed, nI k, f_byEffort, f_best, f_turns, a_waysOut, a_placeOf, a_goalOf, a_stepTo, a_toGoal, a_distance, a_who, a_cost, a_origin, a_closed, a_onward, a_queue, a_cellNow, a_cellNext, a_walkNow, a_walkNext, a_used, a_flowFrom, a_flowTo, a_cameBy, a_line)) : wpX_findTurnsLeft post (f_walls, f_placed, nI k, f_byEffort, f_best, f_turns, a_waysOut, a_placeOf, a_goalOf, a_stepTo, a_toGoal, a_distance, a_who, a_cost, a_origin, a_closed, a_onward, a_queue, a_cellNow, a_cellNext, a_walkNow, a_walkNext, a_used, a_flowFrom, a_flowTo, a_cameBy, a_line) :=
  ⟨1729, xw_ftl2 hk ok hst hw hgl hV hp 1728 0 1729 a_cost (by omega) (by omega) fun s hs => by omega⟩
end
end
section
/-- a state's cells in one number, the first walker's counting most -/
def ky_k (k t : Nat) : Nat := if k = 1 then t % 12 else if k = 2 then 12 * (t % 12) + t / 12 % 12 else 12 * (12 * (t % 12) + t / 12 % 12) + t / 144 % 12
theorem ky_lt {k t : Nat} (hk : mo_K k) : ky_k k t < 1728 := by
  rcases hk with rfl | rfl | rfl
  · show t % 12 < 1728; omega
  · show 12 * (t % 12) + t / 12 % 12 < 1728; omega
  · show 12 * (12 * (t % 12) + t / 12 % 12) + t / 144 % 12 < 1728; omega
theorem ky_rv {k t t' : Nat} (hk : mo_K k) (ht : t < mo_N k) (ht' : t' < mo_N k) : ky_k k t ≤ ky_k k t' ↔ rv_c t ≤ rv_c t' := by
  rcases hk with rfl | rfl | rfl
  · rw [mo_N1] at ht ht'
    show t % 12 ≤ t' % 12 ↔ 144 * (t % 12) + 12 * (t / 12 % 12) + t / 144 % 12 ≤ 144 * (t' % 12) + 12 * (t' / 12 % 12) + t' / 144 % 12
    omega
  · rw [mo_N2] at ht ht'
    show 12 * (t % 12) + t / 12 % 12 ≤ 12 * (t' % 12) + t' / 12 % 12 ↔ 144 * (t % 12) + 12 * (t / 12 % 12) + t / 144 % 12 ≤ 144 * (t' % 12) + 12 * (t' / 12 % 12) + t' / 144 % 12
    rw [show t / 144 % 12 = 0 by omega, show t' / 144 % 12 = 0 by omega]
    generalize t % 12 = x
    generalize t / 12 % 12 = y
    generalize t' % 12 = x'
    generalize t' / 12 % 12 = y'
    omega
  · show 12 * (12 * (t % 12) + t / 12 % 12) + t / 144 % 12 ≤ 12 * (12 * (t' % 12) + t' / 12 % 12) + t' / 144 % 12 ↔ 144 * (t % 12) + 12 * (t / 12 % 12) + t / 144 % 12 ≤ 144 * (t' % 12) + 12 * (t' / 12 % 12) + t' / 144 % 12
    generalize t % 12 = x
    generalize t / 12 % 12 = y
    generalize t / 144 % 12 = z
    generalize t' % 12 = x'
    generalize t' / 12 % 12 = y'
    generalize t' / 144 % 12 = z'
    omega
def dg_j (j s : Nat) : Nat := if j = 0 then s % 12 else if j = 1 then s / 12 % 12 else s / 144 % 12
section
variable {tg : Nat → Nat → Option Nat} {op : Nat → Prop} {k : Nat} {wh : Nat → Nat}
variable {f_walls f_placed f_count f_byEffort f_best f_turns : Int32} {a_waysOut a_placeOf a_goalOf a_stepTo a_toGoal a_distance a_who a_cost a_origin a_closed a_onward a_queue a_cellNow a_cellNext a_walkNow a_walkNext a_used a_flowFrom a_flowTo a_cameBy a_line : Nat → Int32}
theorem xw_keS {post : Int32 → Prop} {n r y i : Nat} (hk : mo_K k) (hi : i < k) (hr : r < 2 ^ 31) (h : wX_keyOf_7 post f_walls f_placed (nI k) f_byEffort f_best f_turns a_waysOut a_placeOf a_goalOf a_stepTo a_toGoal a_distance a_who a_cost a_origin a_closed a_onward a_queue a_cellNow a_cellNext a_walkNow a_walkNext a_used a_flowFrom a_flowTo a_cameBy a_line n (nI (r / 12)) (nI (12 * y + r % 12)) (nI (i + 1))) : wX_keyOf_7 post f_walls f_placed (nI k) f_byEffort f_best f_turns a_waysOut a_placeOf a_goalOf a_stepTo a_toGoal a_distance a_who a_cost a_origin a_closed a_onward a_queue a_cellNow a_cellNext a_walkNow a_walkNext a_used a_flowFrom a_flowTo a_cameBy a_line (n + 1) (nI r) (nI y) (nI i) := by
  have hk3 : k ≤ 3 := by rcases hk with e | e | e <;> omega
  exact pk_le k i (fun _ => by omega) (fun _ => ⟨by decide, nm_r (by rw [xb_r 12 hr (by omega), xb_ix12]) ⟨by decide, nm_r (xb_d 12 hr (by omega)) (nm_r (nI_1 i) h)⟩⟩)
theorem xw_keE {post : Int32 → Prop} {n r y : Nat} (hk : mo_K k) (h : post (nI y)) : wX_keyOf_7 post f_walls f_placed (nI k) f_byEffort f_best f_turns a_waysOut a_placeOf a_goalOf a_stepTo a_toGoal a_distance a_who a_cost a_origin a_closed a_onward a_queue a_cellNow a_cellNext a_walkNow a_walkNext a_used a_flowFrom a_flowTo a_cameBy a_line (n + 1) (nI r) (nI y) (nI k) := by
  have hk3 : k ≤ 3 := by rcases hk with e | e | e <;> omega
  exact pk_le k k (fun _ => h) (fun _ => by omega)
theorem xw_keyOf {post : Int32 → Prop} {t : Nat} (hk : mo_K k) (ht : t < 1728) (h : post (nI (ky_k k t))) : wpX_keyOf post (f_walls, f_placed, nI k, f_byEffort, f_best, f_turns, a_waysOut, a_placeOf, a_goalOf, a_stepTo, a_toGoal, a_distance, a_who, a_cost, a_origin, a_closed, a_onward, a_queue, a_cellNow, a_cellNext, a_walkNow, a_walkNext, a_used, a_flowFrom, a_flowTo, a_cameBy, a_line) (nI t) := by
  refine ⟨4, ?_⟩
  rcases hk with rfl | rfl | rfl
  · refine xw_keS (n := 3) (y := 0) (i := 0) (Or.inl rfl) (by omega) (by omega) (xw_keE (k := 1) (n := 2) (Or.inl rfl) ?_)
    rw [show 12 * 0 + t % 12 = ky_k 1 t from Nat.zero_add _]; exact h
  · refine xw_keS (n := 3) (y := 0) (i := 0) (Or.inr (Or.inl rfl)) (by omega) (by omega) (xw_keS (n := 2) (i := 1) (Or.inr (Or.inl rfl)) (by omega) (by omega) (xw_keE (k := 2) (n := 1) (Or.inr (Or.inl rfl)) ?_))
    rw [show 12 * (12 * 0 + t % 12) + t / 12 % 12 = ky_k 2 t by show _ = 12 * (t % 12) + t / 12 % 12; omega]; exact h
  · refine xw_keS (n := 3) (y := 0) (i := 0) (Or.inr (Or.inr rfl)) (by omega) (by omega) (xw_keS (n := 2) (i := 1) (Or.inr (Or.inr rfl)) (by omega) (by omega) (xw_keS (n := 1) (i := 2) (Or.inr (Or.inr rfl)) (by omega) (by omega) (xw_keE (k := 3) (n := 0) (Or.inr (Or.inr rfl)) ?_)))
    rw [show t / 12 / 12 = t / 144 from Nat.div_div_eq_div_mul t 12 12, show 12 * (12 * (12 * 0 + t % 12) + t / 12 % 12) + t / 144 % 12 = ky_k 3 t by show _ = 12 * (12 * (t % 12) + t / 12 % 12) + t / 144 % 12; omega]; exact h
theorem xw_fn30 {post : Int32 → SX → Prop} {s d : Nat} {B : Nat → Nat} (hk : mo_K k) (ok : cg_OK tg op) (hst : cg_ST tg a_stepTo) (hs : s < mo_N k) (hC : tm_C k s a_cellNow) (R : fb_R B a_cost) (hB : ∀ s, B s ≤ 1000000) (hd : d < 1000000)
    (hex : ∃ t, mo_E tg false k s t 1 ∧ B t = d)
    (hp : ∀ a_cellNext t, mo_E tg false k s t 1 → B t = d → (∀ t', mo_E tg false k s t' 1 → B t' = d → rv_c t ≤ rv_c t') → post (nI t) (f_walls, f_placed, nI k, f_byEffort, f_best, f_turns, a_waysOut, a_placeOf, a_goalOf, a_stepTo, a_toGoal, a_distance, a_who, a_cost, a_origin, a_closed, a_onward, a_queue, a_cellNow, a_cellNext, a_walkNow, a_walkNext, a_used, a_flowFrom, a_flowTo, a_cameBy, a_line)) :
    ∀ e ch f x4 x5 a_cellNext, ch + e = mo_ch k → e < f →
      ((x4 = -1 ∧ x5 = nI 1728 ∧ ∀ c' t, c' < ch → mo_by tg k s c' t → B t ≠ d) ∨ (∃ t, x4 = nI t ∧ x5 = nI (ky_k k t) ∧ mo_E tg false k s t 1 ∧ B t = d ∧ ∀ c' t', c' < ch → mo_by tg k s c' t' → B t' = d → ky_k k t ≤ ky_k k t')) →
      wX_firstNext_30 post (nI s) (nI d) (nI (mo_ch k)) f x4 x5 (nI ch) f_walls f_placed (nI k) f_byEffort f_best f_turns a_waysOut a_placeOf a_goalOf a_stepTo a_toGoal a_distance a_who a_cost a_origin a_closed a_onward a_queue a_cellNow a_cellNext a_walkNow a_walkNext a_used a_flowFrom a_flowTo a_cameBy a_line := by
  have hm := mo_ch_le k
  intro e
  induction e with
  | zero =>
    intro ch f x4 x5 a_cellNext he hf hx
    obtain ⟨f, rfl⟩ : ∃ m, f = m + 1 := ⟨f - 1, by omega⟩
    refine pk_le (mo_ch k) ch (fun _ => ?_) (fun h => by omega)
    rcases hx with ⟨_, _, hno⟩ | ⟨t, rfl, _, e, hb, hle⟩
    · obtain ⟨t, e, hb⟩ := hex
      obtain ⟨c', hc', hby, _⟩ := mo_M_by hk e.1 e.2.1
      exact absurd hb (hno c' t (by omega) hby)
    · have lt := Nat.lt_of_lt_of_le (mo_E_lt e).2 (mo_Nle k)
      refine br_t (nI_pos' (by omega)) (hp a_cellNext t e hb fun t' e' hb' => ?_)
      obtain ⟨c', hc', hby, _⟩ := mo_M_by hk e'.1 e'.2.1
      exact (ky_rv hk (mo_E_lt e).2 (mo_E_lt e').2).mp (hle c' t' (by omega) hby hb')
  | succ e ih =>
    intro ch f x4 x5 a_cellNext he hf hx
    obtain ⟨f, rfl⟩ : ∃ m, f = m + 1 := ⟨f - 1, by omega⟩
    refine pk_le (mo_ch k) ch (fun _ => by omega) (fun hlt => ?_)
    have skip : ∀ a_cellNext, (∀ t, mo_by tg k s ch t → B t ≠ d) → wX_firstNext_30 post (nI s) (nI d) (nI (mo_ch k)) f x4 x5 (nI (ch + 1)) f_walls f_placed (nI k) f_byEffort f_best f_turns a_waysOut a_placeOf a_goalOf a_stepTo a_toGoal a_distance a_who a_cost a_origin a_closed a_onward a_queue a_cellNow a_cellNext a_walkNow a_walkNext a_used a_flowFrom a_flowTo a_cameBy a_line := fun a_cellNext q => by
      refine ih (ch + 1) f x4 x5 a_cellNext (by omega) (by omega) ?_
      rcases hx with ⟨h1, h2, hno⟩ | ⟨t, h1, h2, e, hb, hle⟩
      · refine Or.inl ⟨h1, h2, fun c' t c1 hb => ?_⟩
        rcases Nat.decEq c' ch with z | rfl
        · exact hno c' t (by omega) hb
        · exact q t hb
      · refine Or.inr ⟨t, h1, h2, e, hb, fun c' t' c1 hb' hbd => ?_⟩
        rcases Nat.decEq c' ch with z | rfl
        · exact hle c' t' (by omega) hb' hbd
        · exact absurd hbd (q t' hb')
    refine xw_chosen hk ok hst hC (by omega) (fun a_cellNext hno => br_t xb_neg (nm_r (nI_1 ch) (skip a_cellNext fun t hb => absurd hb (hno t)))) (fun a_cellNext t hb hD => ?_)
    have hM := mo_by_M hb
    have lt := Nat.lt_of_lt_of_le hM.1 (mo_Nle k)
    have hBt := hB t
    refine br_f (nI_pos (by omega)) ⟨vp_in_nI lt (by omega), ?_⟩
    rw [nI_clamp (by omega), R.1 t lt]
    refine pk_eq (B t) d (fun z => ?_) (fun z => nm_r (nI_1 ch) (skip a_cellNext fun t' hb' => by rw [mo_by_u hk hb' hb]; exact z))
    have lk := ky_lt (t := t) hk
    refine xw_keyOf hk lt ?_
    have better : (∀ c' t', c' < ch → mo_by tg k s c' t' → B t' = d → ky_k k t ≤ ky_k k t') → wX_firstNext_30 post (nI s) (nI d) (nI (mo_ch k)) f (nI t) (nI (ky_k k t)) (nI (ch + 1)) f_walls f_placed (nI k) f_byEffort f_best f_turns a_waysOut a_placeOf a_goalOf a_stepTo a_toGoal a_distance a_who a_cost a_origin a_closed a_onward a_queue a_cellNow a_cellNext a_walkNow a_walkNext a_used a_flowFrom a_flowTo a_cameBy a_line := fun q =>
      ih (ch + 1) f _ _ a_cellNext (by omega) (by omega) (Or.inr ⟨t, rfl, rfl, ⟨hs, hM, rfl⟩, z, fun c' t' c1 hb' hbd => by
        rcases Nat.decEq c' ch with y | rfl
        · exact q c' t' (by omega) hb' hbd
        · rw [mo_by_u hk hb' hb]; exact Nat.le_refl _⟩)
    rcases hx with ⟨_, rfl, hno⟩ | ⟨t0, rfl, rfl, e0, hb0, hle⟩
    · exact br_f (nI_ge lk (by omega)) (nm_r (nI_1 ch) (better fun c' t' c1 hb' hbd => absurd hbd (hno c' t' c1 hb')))
    · have lk0 := ky_lt (t := t0) hk
      refine pk_le (ky_k k t0) (ky_k k t) (fun y => nm_r (nI_1 ch) (ih (ch + 1) f _ _ a_cellNext (by omega) (by omega) (Or.inr ⟨t0, rfl, rfl, e0, hb0, fun c' t' c1 hb' hbd => ?_⟩))) (fun y => nm_r (nI_1 ch) (better fun c' t' c1 hb' hbd => ?_))
      · rcases Nat.decEq c' ch with q | rfl
        · exact hle c' t' (by omega) hb' hbd
        · rw [mo_by_u hk hb' hb]; exact y
      · have := hle c' t' c1 hb' hbd
        omega
theorem xw_firstNext {post : Int32 → SX → Prop} {s d g : Nat} {B : Nat → Nat} (hk : mo_K k) (ok : cg_OK tg op) (hst : cg_ST tg a_stepTo) (hV : mo_V k s) (hF : fb_F (mo_E tg false k) (mo_V k) g B) (R : fb_R B a_cost) (hl : gr_L (mo_E tg false k) (d + 1) s g) (hd : d + 1 < 1728)
    (hp : ∀ a_cellNow a_cellNext t, fn_P (mo_E tg false k) g s t → mo_V k t → gr_L (mo_E tg false k) d t g → post (nI t) (f_walls, f_placed, nI k, f_byEffort, f_best, f_turns, a_waysOut, a_placeOf, a_goalOf, a_stepTo, a_toGoal, a_distance, a_who, a_cost, a_origin, a_closed, a_onward, a_queue, a_cellNow, a_cellNext, a_walkNow, a_walkNext, a_used, a_flowFrom, a_flowTo, a_cameBy, a_line)) : wpX_firstNext post (f_walls, f_placed, nI k, f_byEffort, f_best, f_turns, a_waysOut, a_placeOf, a_goalOf, a_stepTo, a_toGoal, a_distance, a_who, a_cost, a_origin, a_closed, a_onward, a_queue, a_cellNow, a_cellNext, a_walkNow, a_walkNext, a_used, a_flowFrom, a_flowTo, a_cameBy, a_line) (nI s) := by
  have ls := Nat.lt_of_lt_of_le hV.1 (mo_Nle k)
  have hBs := (hF s).2.2 (d + 1) hV hl hd
  have cand : ∀ t, mo_E tg false k s t 1 → (B t = d ↔ gr_L (mo_E tg false k) d t g) := fun t e => ⟨fun hb => by
    have := ((hF t).2.1 (by omega)).2
    rwa [hb] at this, fun l => (hF t).2.2 d (mo_E_V e) l (by omega)⟩
  unfold wpX_firstNext
  refine xw_layCells hk ls fun a_cellNow hC => ⟨vp_in_nI ls (by omega), nm_r (e' := nI d) (by rw [nI_clamp (by omega), R.1 s ls, hBs, nI_pred]) (xw_choices hk ⟨126, ?_⟩)⟩
  refine xw_fn30 hk ok hst hV.1 hC R (fun s => (hF s).1) (by omega) ?_ (fun a_cellNext t e hb hle => hp a_cellNow a_cellNext t ⟨⟨e, d, hl, (cand t e).mp hb⟩, fun t' ⟨e', d', l1, l2⟩ => hle t' e' ?_⟩ (mo_E_V e) ((cand t e).mp hb)) (mo_ch k) 0 126 (-1) 1728 a_cellNext (by omega) (by have := mo_ch_le k; omega) (Or.inl ⟨rfl, rfl, fun c' t c1 => by omega⟩)
  · obtain ⟨t, e, l, _, _⟩ := fb_first fb_EM hl
    exact ⟨t, e, (cand t e).mpr l⟩
  · have : d' = d := by have := gr_lu l1 hl; omega
    subst this
    exact (cand t' e').mpr l2
theorem xw_cell111 {post : Int32 → SX → Prop} {s j : Nat} {x : Int32} (hk : mo_K k) (hw : tm_W k wh a_who) (hC : tm_C k s a_cellNow) (hj : j < k) (hx : x = nI (wh j)) (hu : ∀ i, i < k → wh i = wh j → i = j) (h : post (nI (dg_j j s)) (f_walls, f_placed, nI k, f_byEffort, f_best, f_turns, a_waysOut, a_placeOf, a_goalOf, a_stepTo, a_toGoal, a_distance, a_who, a_cost, a_origin, a_closed, a_onward, a_queue, a_cellNow, a_cellNext, a_walkNow, a_walkNext, a_used, a_flowFrom, a_flowTo, a_cameBy, a_line)) :
    ∀ e i f, i + e = k → e < f → i ≤ j → wX_cellAt_111 post x f_walls f_placed (nI k) f_byEffort f_best f_turns a_waysOut a_placeOf a_goalOf a_stepTo a_toGoal a_distance a_who a_cost a_origin a_closed a_onward a_queue a_cellNow a_cellNext a_walkNow a_walkNext a_used a_flowFrom a_flowTo a_cameBy a_line f (nI i) := by
  have hk3 : k ≤ 3 := by rcases hk with e | e | e <;> omega
  intro e
  induction e with
  | zero => intro i f he hf hi; omega
  | succ e ih =>
    intro i f he hf hi
    obtain ⟨f, rfl⟩ : ∃ m, f = m + 1 := ⟨f - 1, by omega⟩
    refine pk_le k i (fun _ => by omega) (fun hlt => ⟨vp_in_nI (by omega) (by omega), ?_⟩)
    have wi := (hw i hlt).2
    have wj := (hw j hj).2
    rw [nI_clamp (by omega), (hw i hlt).1, hx]
    refine pk_eq (wh i) (wh j) (fun z => ⟨vp_in_nI (by omega) (by omega), ?_⟩) (fun z => nm_r (nI_1 i) ?_)
    · obtain rfl := hu i hlt z
      have : i = 0 ∨ i = 1 ∨ i = 2 := by omega
      rcases this with rfl | rfl | rfl
      · rw [hC.1]; exact h
      · rw [hC.2.1 (by omega)]; exact h
      · rw [hC.2.2 (by omega)]; exact h
    · refine hx ▸ ih (i + 1) f (by omega) (by omega) ?_
      rcases Nat.decEq i j with y | rfl
      · omega
      · exact absurd rfl z
theorem xw_cell82 {post : Int32 → SX → Prop} {st g D t j : Nat} {x : Int32} {B : Nat → Nat} (hk : mo_K k) (ok : cg_OK tg op) (hst : cg_ST tg a_stepTo) (hw : tm_W k wh a_who) (hF : fb_F (mo_E tg false k) (mo_V k) g B) (R : fb_R B a_cost) (hD : D < 1728) (ht : t ≤ D)
    (hj : j < k) (hx : x = nI (wh j)) (hu : ∀ i, i < k → wh i = wh j → i = j) (h : ∀ a_cellNow a_cellNext s, fn_W (mo_E tg false k) g st t s → post (nI (dg_j j s)) (f_walls, f_placed, nI k, f_byEffort, f_best, f_turns, a_waysOut, a_placeOf, a_goalOf, a_stepTo, a_toGoal, a_distance, a_who, a_cost, a_origin, a_closed, a_onward, a_queue, a_cellNow, a_cellNext, a_walkNow, a_walkNext, a_used, a_flowFrom, a_flowTo, a_cameBy, a_line)) :
    ∀ e i f s a_cellNow a_cellNext, i + e = t → e < f → fn_W (mo_E tg false k) g st i s → mo_V k s → gr_L (mo_E tg false k) (D - i) s g → wX_cellAt_82 post x (nI t) f (nI s) (nI i) f_walls f_placed (nI k) f_byEffort f_best f_turns a_waysOut a_placeOf a_goalOf a_stepTo a_toGoal a_distance a_who a_cost a_origin a_closed a_onward a_queue a_cellNow a_cellNext a_walkNow a_walkNext a_used a_flowFrom a_flowTo a_cameBy a_line := by
  intro e
  induction e with
  | zero =>
    intro i f s a_cellNow a_cellNext he hf hW hV hl
    obtain ⟨f, rfl⟩ : ∃ m, f = m + 1 := ⟨f - 1, by omega⟩
    obtain rfl : i = t := by omega
    refine pk_le i i (fun _ => ?_) (fun h => by omega)
    refine xw_layCells hk (Nat.lt_of_lt_of_le hV.1 (mo_Nle k)) fun a_cellNow hC => ⟨4, ?_⟩
    have hk3 : k ≤ 3 := by rcases hk with e | e | e <;> omega
    exact xw_cell111 hk hw hC hj hx hu (h a_cellNow a_cellNext s hW) k 0 4 (by omega) (by omega) (by omega)
  | succ e ih =>
    intro i f s a_cellNow a_cellNext he hf hW hV hl
    obtain ⟨f, rfl⟩ : ∃ m, f = m + 1 := ⟨f - 1, by omega⟩
    refine pk_le t i (fun _ => by omega) (fun hlt => ?_)
    refine xw_firstNext (d := D - (i + 1)) hk ok hst hV hF R (by rw [show D - (i + 1) + 1 = D - i by omega]; exact hl) (by omega) fun a_cellNow a_cellNext s' hP hV' hl' => nm_r (nI_1 i) ?_
    exact ih (i + 1) f s' a_cellNow a_cellNext (by omega) (by omega) ⟨s, hW, hP⟩ hV' hl'
end
end
section
/-- s lies on a shortest plan of D turns -/
def mg_g (E : Nat → Nat → Nat → Prop) (g D : Nat) (C : Nat → Nat) (s : Nat) : Prop := C s < 1000000 ∧ ∃ d, gr_L E d s g ∧ C s + d = D
def yg_R (G : Nat → Prop) (a : Nat → Int32) : Prop := ∀ s, s < 1728 → (G s → a (rv_c s) = 1) ∧ (¬ G s → a (rv_c s) = 0)
/-- where Y may go from s -/
def mg_c (E : Nat → Nat → Nat → Prop) (C : Nat → Nat) (G : Nat → Prop) (s t : Nat) : Prop := E s t 1 ∧ G t ∧ C t = C s + 1
section
variable {tg : Nat → Nat → Option Nat} {op : Nat → Prop} {k : Nat} {wh gl pl : Nat → Nat} {st g D : Nat} {C : Nat → Nat}
theorem mg_up (hF : dj_F (mo_E tg false k) st C) {s t : Nat} (hs : C s < 1000000) (e : mo_E tg false k s t 1) : C t ≤ C s + 1 ∧ C t < 1000000 := by
  rcases hF s with ⟨_, ls⟩ | ⟨z, _⟩
  · have r := gr_rs ls.1 e
    rcases hF t with ⟨z, lt⟩ | ⟨_, n⟩
    · exact ⟨lt.2 _ r, by omega⟩
    · exact absurd r (n _)
  · omega
theorem mg_lo (hF : dj_F (mo_E tg false k) st C) (hl : gr_L (mo_E tg false k) D st g) {s d : Nat} (hs : C s < 1000000) (h : gr_R (mo_E tg false k) d s g) : D ≤ C s + d := by
  rcases hF s with ⟨_, ls⟩ | ⟨z, _⟩
  · exact hl.2 _ (gr_rt ls.1 h)
  · omega
/-- on a shortest plan: what is next to s for Y is what is next for X -/
theorem mg_eq (hF : dj_F (mo_E tg false k) st C) (hl : gr_L (mo_E tg false k) D st g) {G : Nat → Prop} {s : Nat} (hG : ∀ t, C s < C t → (G t ↔ mg_g (mo_E tg false k) g D C t)) (hs : mg_g (mo_E tg false k) g D C s) (t : Nat) :
    mg_c (mo_E tg false k) C G s t ↔ fn_C (mo_E tg false k) g s t := by
  obtain ⟨s1, d', ls, sd⟩ := hs
  constructor
  · rintro ⟨e, gt, ct⟩
    obtain ⟨_, d, lt, td⟩ := (hG t (by omega)).mp gt
    refine ⟨e, d, ?_, lt⟩
    rw [show d + 1 = d' by omega]; exact ls
  · rintro ⟨e, d, l1, l2⟩
    have : d + 1 = d' := gr_lu l1 ls
    obtain ⟨u1, u2⟩ := mg_up hF s1 e
    have lo := mg_lo hF hl u2 l2.1
    have ct : C t = C s + 1 := by omega
    exact ⟨e, (hG t (by omega)).mpr ⟨u2, d, l2, by omega⟩, ct⟩
theorem mg_ex (hF : dj_F (mo_E tg false k) st C) (hl : gr_L (mo_E tg false k) D st g) {G : Nat → Prop} {s : Nat} (hs : C s < D) (hD : D < 1728) (hG : ∀ t, C s < C t → (G t ↔ mg_g (mo_E tg false k) g D C t)) : (∃ t, mg_c (mo_E tg false k) C G s t) ↔ mg_g (mo_E tg false k) g D C s := by
  constructor
  · rintro ⟨t, e, gt, ct⟩
    obtain ⟨_, d, lt, td⟩ := (hG t (by omega)).mp gt
    refine ⟨by omega, d + 1, ⟨by have := gr_rc e lt.1; rwa [Nat.add_comm] at this, fun c' r => ?_⟩, by omega⟩
    have := mg_lo hF hl (s := s) (by omega) r
    omega
  · intro h
    have h' := h
    obtain ⟨s1, d, ls, sd⟩ := h
    obtain ⟨d, rfl⟩ : ∃ m, d = m + 1 := ⟨d - 1, by omega⟩
    obtain ⟨t, e, lt, _, _⟩ := fb_first fb_EM ls
    exact ⟨t, (mg_eq hF hl hG h' t).mpr ⟨e, d, ls, lt⟩⟩
variable {b_size : Int32} {b_isWall b_waysOut b_isSet b_place b_goal b_walkers b_steps b_cost b_good : Nat → Int32}
theorem yw_ng4 {post : Int32 → Prop} {s : Nat} {G : Nat → Prop} (hk : mo_K k) (ok : cg_OK tg op) (hst : yw_ST tg op b_steps) (hs : s < mo_N k) (hO : mo_O op k s) (R : yc_R C b_cost) (hCs : C s < 1728) (RG : yg_R G b_good)
    (h1 : ∀ t, mg_c (mo_E tg false k) C G s t → (∀ t', mg_c (mo_E tg false k) C G s t' → rv_c t ≤ rv_c t') → post (nI (rv_c t))) (h0 : (∀ t, ¬ mg_c (mo_E tg false k) C G s t) → post (-1)) :
    ∀ e tu f x2, tu + e = 125 → e < f →
      ((x2 = -1 ∧ ∀ u t, u < tu → mo_bY tg k s u t → ¬ mg_c (mo_E tg false k) C G s t) ∨ (∃ t, x2 = nI (rv_c t) ∧ mg_c (mo_E tg false k) C G s t ∧ ∀ u t', u < tu → mo_bY tg k s u t' → mg_c (mo_E tg false k) C G s t' → rv_c t ≤ rv_c t')) →
      wY_nextGood_4 post (nI (rv_c s)) (nI k) b_isWall b_waysOut b_isSet b_place b_goal b_walkers b_steps b_cost b_good f x2 (nI tu) := by
  intro e
  induction e with
  | zero =>
    intro tu f x2 he hf hx
    obtain ⟨f, rfl⟩ : ∃ m, f = m + 1 := ⟨f - 1, by omega⟩
    refine pk_le 125 tu (fun _ => ?_) (fun h => by omega)
    rcases hx with ⟨rfl, hno⟩ | ⟨t, rfl, hc, hle⟩
    · refine h0 fun t ht => ?_
      obtain ⟨u, hu, hb⟩ := mo_M_bY ht.1.2.1
      exact hno u t (by omega) hb ht
    · refine h1 t hc fun t' ht' => ?_
      obtain ⟨u, hu, hb⟩ := mo_M_bY ht'.1.2.1
      exact hle u t' (by omega) hb ht'
  | succ e ih =>
    intro tu f x2 he hf hx
    obtain ⟨f, rfl⟩ : ∃ m, f = m + 1 := ⟨f - 1, by omega⟩
    refine pk_le 125 tu (fun _ => by omega) (fun hlt => ?_)
    have skip : ∀ x4, (∀ t, mo_bY tg k s tu t → ¬ mg_c (mo_E tg false k) C G s t) → wY_nextGood_55 post (wY_nextGood_4 post (nI (rv_c s)) (nI k) b_isWall b_waysOut b_isSet b_place b_goal b_walkers b_steps b_cost b_good f) (nI (rv_c s)) x2 (nI tu) x4 (nI k) b_isWall b_waysOut b_isSet b_place b_goal b_walkers b_steps b_cost b_good := fun x4 q => by
      refine br_t rfl (nm_r (nI_1 tu) (ih (tu + 1) f x2 (by omega) (by omega) ?_))
      rcases hx with ⟨h, hno⟩ | ⟨t, h, hc, hle⟩
      · refine Or.inl ⟨h, fun u t hu hb => ?_⟩
        rcases Nat.decEq u tu with z | rfl
        · exact hno u t (by omega) hb
        · exact q t hb
      · refine Or.inr ⟨t, h, hc, fun u t' hu hb hc' => ?_⟩
        rcases Nat.decEq u tu with z | rfl
        · exact hle u t' (by omega) hb hc'
        · exact absurd hc' (q t' hb)
    refine yw_after hk ok hst hs hO hlt (fun hno => br_t xb_neg (skip _ fun t hb => absurd hb (hno t))) (fun t hb => ?_)
    have hM := mo_bY_M hlt hb
    have lt := Nat.lt_of_lt_of_le hM.1 (mo_Nle k)
    have ls := Nat.lt_of_lt_of_le hs (mo_Nle k)
    have lr := rv_lt t
    have lrs := rv_lt s
    have vt : vp_in (nI (rv_c t)) 1728 := vp_in_nI lr (by omega)
    have only : ∀ t', mo_bY tg k s tu t' → t' = t := fun t' hb' => mo_bY_u hk hb' hb
    refine br_f (nI_pos (by omega)) ⟨vt, ?_⟩
    rw [nI_clamp (show rv_c t < 2 ^ 31 by omega), nI_clamp (show rv_c s < 2 ^ 31 by omega)]
    rcases Classical.em (G t) with hg | hg
    · rw [(RG t lt).1 hg]
      refine br_f (by decide) ⟨vt, vp_in_nI lrs (by omega), ?_⟩
      have es : b_cost (rv_c s) = nI (C s) := by
        rcases R s ls with ⟨z, _⟩ | ⟨_, z⟩
        · omega
        · exact z
      rw [es, nI_1]
      have no : C t ≠ C s + 1 → wY_nextGood_55 post (wY_nextGood_4 post (nI (rv_c s)) (nI k) b_isWall b_waysOut b_isSet b_place b_goal b_walkers b_steps b_cost b_good f) (nI (rv_c s)) x2 (nI tu) (nI (rv_c t)) (nI k) b_isWall b_waysOut b_isSet b_place b_goal b_walkers b_steps b_cost b_good := fun z => skip _ fun t' hb' q => z (by rw [← only t' hb']; exact q.2.2)
      rcases R t lt with ⟨z, q⟩ | ⟨z, q⟩
      · rw [q]
        refine br_f (fun e => ?_) (no (by omega))
        have := congrArg Int32.toInt e
        rw [nI_toInt (by omega), show (-1 : Int32).toInt = -1 from by decide] at this
        omega
      · rw [q]
        refine pk_eq (C t) (C s + 1) (fun y => ?_) (fun y => no y)
        have hc : mg_c (mo_E tg false k) C G s t := ⟨⟨hs, hM, rfl⟩, hg, y⟩
        refine br_f (by decide) ?_
        have take : (∀ u t', u < tu → mo_bY tg k s u t' → mg_c (mo_E tg false k) C G s t' → rv_c t ≤ rv_c t') → wY_nextGood_4 post (nI (rv_c s)) (nI k) b_isWall b_waysOut b_isSet b_place b_goal b_walkers b_steps b_cost b_good f (nI (rv_c t)) (nI (tu + 1)) := fun q =>
          ih (tu + 1) f _ (by omega) (by omega) (Or.inr ⟨t, rfl, hc, fun u t' hu hb' hc' => by
            rcases Nat.decEq u tu with z | rfl
            · exact q u t' (by omega) hb' hc'
            · rw [only t' hb']; exact Nat.le_refl _⟩)
        rcases hx with ⟨rfl, hno⟩ | ⟨t0, rfl, hc0, hle⟩
        · exact br_t xb_neg (nm_r (nI_1 tu) (take fun u t' hu hb' hc' => absurd hc' (hno u t' hu hb')))
        · have lr0 := rv_lt t0
          refine br_f (nI_pos (by omega)) (pk_le (rv_c t0) (rv_c t) (fun y2 => nm_r (nI_1 tu) (ih (tu + 1) f _ (by omega) (by omega) (Or.inr ⟨t0, rfl, hc0, fun u t' hu hb' hc' => ?_⟩))) (fun y2 => nm_r (nI_1 tu) (take fun u t' hu hb' hc' => ?_)))
          · rcases Nat.decEq u tu with z | rfl
            · exact hle u t' (by omega) hb' hc'
            · rw [only t' hb']; exact y2
          · have := hle u t' hu hb' hc'
            omega
    · rw [(RG t lt).2 hg]
      exact br_t rfl (skip _ fun t' hb' q => hg (by rw [← only t' hb']; exact q.2.1))
theorem yw_nextGood {post : Int32 → Prop} {s : Nat} {G : Nat → Prop} (hk : mo_K k) (ok : cg_OK tg op) (hst : yw_ST tg op b_steps) (hs : s < mo_N k) (hO : mo_O op k s) (R : yc_R C b_cost) (hCs : C s < 1728) (RG : yg_R G b_good)
    (h1 : ∀ t, mg_c (mo_E tg false k) C G s t → (∀ t', mg_c (mo_E tg false k) C G s t' → rv_c t ≤ rv_c t') → post (nI (rv_c t))) (h0 : (∀ t, ¬ mg_c (mo_E tg false k) C G s t) → post (-1)) : wpY_nextGood post (nI k, b_isWall, b_waysOut, b_isSet, b_place, b_goal, b_walkers, b_steps, b_cost, b_good) (nI (rv_c s)) :=
  ⟨126, yw_ng4 hk ok hst hs hO R hCs RG h1 h0 125 0 126 (-1) (by omega) (by omega) (Or.inl ⟨rfl, fun u t hu => by omega⟩)⟩
theorem yg_Ru {G : Nat → Prop} {a : Nat → Int32} (R : yg_R G a) {s : Nat} (hs : s < 1728) (v : Prop) {x : Int32} (hx : (v → x = 1) ∧ (¬ v → x = 0)) : yg_R (fun y => (y = s ∧ v) ∨ (y ≠ s ∧ G y)) (upd a (rv_c s) x) := by
  intro y hy
  rcases Nat.decEq y s with e | rfl
  · rw [pk_un (fun z => e (rv_inj hy hs z))]
    exact ⟨fun h => (R y hy).1 (h.elim (fun q => absurd q.1 e) fun q => q.2), fun h => (R y hy).2 fun q => h (Or.inr ⟨e, q⟩)⟩
  · rw [pk_us]
    exact ⟨fun h => hx.1 (h.elim (fun q => q.2) fun q => absurd rfl q.1), fun h => hx.2 fun q => h (Or.inl ⟨rfl, q⟩)⟩
theorem yw_mg45 {post : SY → Prop} {J38 : Int32 → (Nat → Int32) → (Nat → Int32) → (Nat → Int32) → (Nat → Int32) → (Nat → Int32) → (Nat → Int32) → (Nat → Int32) → (Nat → Int32) → (Nat → Int32) → Prop} {m : Nat} (hk : mo_K k) (ok : cg_OK tg op) (hst : yw_ST tg op b_steps) (hO : mo_O op k st) (hV : mo_V k st) (R : yc_R C b_cost) (hF : dj_F (mo_E tg false k) st C) (hl : gr_L (mo_E tg false k) D st g) (hD : D < 1728) (hm : m < D)
    (hJ : ∀ G b_good, yg_R G b_good → (∀ s, m ≤ C s → (G s ↔ mg_g (mo_E tg false k) g D C s)) → J38 (nI m + (-1)) b_isWall b_waysOut b_isSet b_place b_goal b_walkers b_steps b_cost b_good) :
    ∀ e i f G b_good, i + e = 1728 → e < f → yg_R G b_good → (∀ s, m < C s → (G s ↔ mg_g (mo_E tg false k) g D C s)) → (∀ y, y < i → C (rv_c y) = m → (G (rv_c y) ↔ mg_g (mo_E tg false k) g D C (rv_c y))) →
      wY_markGood_45 post J38 (nI m) (nI k) f (nI i) b_isWall b_waysOut b_isSet b_place b_goal b_walkers b_steps b_cost b_good := by
  intro e
  induction e with
  | zero =>
    intro i f G b_good he hf RG hG hi
    obtain ⟨f, rfl⟩ : ∃ m, f = m + 1 := ⟨f - 1, by omega⟩
    refine pk_le 1728 i (fun _ => nm_e (hJ G b_good RG fun s hs => ?_)) (fun h => by omega)
    rcases Nat.lt_or_ge m (C s) with z | z
    · exact hG s z
    · have hfin : C s < 1728 := by omega
      rcases hF s with ⟨_, l⟩ | ⟨q, _⟩
      · have ls := Nat.lt_of_lt_of_le (mo_R_V hV l.1).1 (mo_Nle k)
        have := hi (rv_c s) (by have := rv_lt s; omega)
        rw [rv_rv ls] at this
        exact this (by omega)
      · omega
  | succ e ih =>
    intro i f G b_good he hf RG hG hi
    obtain ⟨f, rfl⟩ : ∃ m, f = m + 1 := ⟨f - 1, by omega⟩
    refine pk_le 1728 i (fun _ => by omega) (fun hlt => ⟨vp_in_nI hlt (by omega), ?_⟩)
    have ci : (nI i).toNatClampNeg = i := nI_clamp (by omega)
    have R' := R (rv_c i) (rv_lt i)
    rw [rv_rv hlt] at R'
    rw [ci]
    have skip : C (rv_c i) ≠ m → wY_markGood_45 post J38 (nI m) (nI k) f (nI (i + 1)) b_isWall b_waysOut b_isSet b_place b_goal b_walkers b_steps b_cost b_good := fun q => ih (i + 1) f G b_good (by omega) (by omega) RG hG fun y hy hym => by
      rcases Nat.decEq y i with z | rfl
      · exact hi y (by omega) hym
      · exact absurd hym q
    rcases R' with ⟨z, q⟩ | ⟨z, q⟩
    · rw [q]
      refine br_f (fun e => ?_) (nm_r (nI_1 i) (skip (by omega)))
      have := congrArg Int32.toInt e
      rw [nI_toInt (by omega), show (-1 : Int32).toInt = -1 from by decide] at this
      omega
    · rw [q]
      refine pk_eq (C (rv_c i)) m (fun y => ?_) (fun y => nm_r (nI_1 i) (skip y))
      have hr : gr_L (mo_E tg false k) (C (rv_c i)) st (rv_c i) := by
        rcases hF (rv_c i) with ⟨_, l⟩ | ⟨q, _⟩
        · exact l
        · omega
      have hs := (mo_R_V hV hr.1).1
      have hex := mg_ex hF hl (G := G) (s := rv_c i) (by omega) hD (fun t ht => hG t (by omega))
      have li := rv_lt i
      -- write v at i
      have go : ∀ x : Int32, ∀ v : Prop, (v ↔ mg_g (mo_E tg false k) g D C (rv_c i)) → ((v → x = 1) ∧ (¬ v → x = 0)) → wY_markGood_45 post J38 (nI m) (nI k) f (nI (i + 1)) b_isWall b_waysOut b_isSet b_place b_goal b_walkers b_steps b_cost (upd b_good i x) := fun x v hv hx => by
        have RG' := yg_Ru RG li v hx
        rw [rv_rv hlt] at RG'
        refine ih (i + 1) f _ _ (by omega) (by omega) RG' (fun s hs => ?_) (fun y hy hym => ?_)
        · have ne : s ≠ rv_c i := fun e => by rw [e] at hs; omega
          rw [← hG s hs]
          exact ⟨fun h => h.elim (fun q => absurd q.1 ne) fun q => q.2, fun h => Or.inr ⟨ne, h⟩⟩
        · rcases Nat.decEq y i with z | rfl
          · have ne : rv_c y ≠ rv_c i := fun e => z (rv_inj (by omega) hlt e)
            rw [← hi y (by omega) hym]
            exact ⟨fun h => h.elim (fun q => absurd q.1 ne) fun q => q.2, fun h => Or.inr ⟨ne, h⟩⟩
          · rw [← hv]
            exact ⟨fun h => h.elim (fun q => q.2) fun q => absurd rfl q.1, fun h => Or.inl ⟨rfl, h⟩⟩
      have hng := yw_nextGood (b_isWall := b_isWall) (b_waysOut := b_waysOut) (b_isSet := b_isSet) (b_place := b_place) (b_goal := b_goal) (b_walkers := b_walkers) (b_steps := b_steps) (b_cost := b_cost) (b_good := b_good)
        (post := fun r_22 => ((r_22 < 0 → (vp_in (nI i) 1728 ∧ ∀ b_good_35 : Nat → Int32, b_good_35 = upd b_good (nI i).toNatClampNeg (vp_nar .boolean 0) → (∀ x4_36 : Int32, x4_36 = nI i + 1 → (wY_markGood_45 post J38 (nI m) (nI k) f x4_36 b_isWall b_waysOut b_isSet b_place b_goal b_walkers b_steps b_cost b_good_35)))) ∧ (¬ r_22 < 0 → (vp_in (nI i) 1728 ∧ ∀ b_good_38 : Nat → Int32, b_good_38 = upd b_good (nI i).toNatClampNeg (vp_nar .boolean 1) → (∀ x4_39 : Int32, x4_39 = nI i + 1 → (wY_markGood_45 post J38 (nI m) (nI k) f x4_39 b_isWall b_waysOut b_isSet b_place b_goal b_walkers b_steps b_cost b_good_38))))))
        hk ok hst hs (mo_R_O ok hO hr.1) R (by omega) RG (fun t hc hle => br_f (nI_pos (by have := rv_lt t; omega)) ⟨vp_in_nI hlt (by omega), nm_r (by rw [ci, xb_b1]) (nm_r (nI_1 i) (go 1 True ⟨fun _ => hex.mp ⟨t, hc⟩, fun _ => trivial⟩ ⟨fun _ => rfl, fun q => absurd trivial q⟩))⟩)
        (fun hno => br_t xb_neg ⟨vp_in_nI hlt (by omega), nm_r (by rw [ci, xb_b0]) (nm_r (nI_1 i) (go 0 False ⟨fun q => q.elim, fun q => by obtain ⟨t, ht⟩ := hex.mpr q; exact hno t ht⟩ ⟨fun q => q.elim, fun _ => rfl⟩))⟩)
      rw [rv_rv hlt] at hng
      rw [ci] at hng
      exact hng
theorem yw_mg38 {post : SY → Prop} (hk : mo_K k) (ok : cg_OK tg op) (hst : yw_ST tg op b_steps) (hO : mo_O op k st) (hV : mo_V k st) (R : yc_R C b_cost) (hF : dj_F (mo_E tg false k) st C) (hl : gr_L (mo_E tg false k) D st g) (hD : D < 1728)
    (hp : ∀ G b_good, yg_R G b_good → (∀ s, G s ↔ mg_g (mo_E tg false k) g D C s) → post (nI k, b_isWall, b_waysOut, b_isSet, b_place, b_goal, b_walkers, b_steps, b_cost, b_good)) :
    ∀ m f x3 G b_good, m < f → m ≤ D → x3 = nI m + (-1) → yg_R G b_good → (∀ s, m ≤ C s → (G s ↔ mg_g (mo_E tg false k) g D C s)) → wY_markGood_38 post (nI k) f x3 b_isWall b_waysOut b_isSet b_place b_goal b_walkers b_steps b_cost b_good := by
  intro m
  induction m with
  | zero =>
    intro f x3 G b_good hf hm hx RG hG
    obtain ⟨f, rfl⟩ : ∃ m, f = m + 1 := ⟨f - 1, by omega⟩
    rw [hx]
    exact br_t (by decide) (hp G b_good RG fun s => hG s (Nat.zero_le _))
  | succ m ih =>
    intro f x3 G b_good hf hm hx RG hG
    obtain ⟨f, rfl⟩ : ∃ m, f = m + 1 := ⟨f - 1, by omega⟩
    rw [hx, pk_m1]
    refine br_f (nI_pos (by omega)) ⟨1729, ?_⟩
    exact yw_mg45 hk ok hst hO hV R hF hl hD (by omega) (fun G b_good RG hG => ih f _ G b_good (by omega) (by omega) rfl RG hG) 1728 0 1729 G b_good (by omega) (by omega) RG (fun s hs => hG s (by omega)) (fun y hy => by omega)
theorem yw_mg2 {post : SY → Prop} (hk : mo_K k) (ok : cg_OK tg op) (hst : yw_ST tg op b_steps) (hw : tm_W k wh b_walkers) (hgl : ∀ w, w < 3 → b_goal w = nI (gl w) ∧ gl w < 12) (hO : mo_O op k st) (hV : mo_V k st) (R : yc_R C b_cost) (hF : dj_F (mo_E tg false k) st C) (hg : (tm_s k fun i => gl (wh i)) = g) (hl : gr_L (mo_E tg false k) D st g) (hD : D < 1728)
    (hp : ∀ G b_good, yg_R G b_good → (∀ s, G s ↔ mg_g (mo_E tg false k) g D C s) → post (nI k, b_isWall, b_waysOut, b_isSet, b_place, b_goal, b_walkers, b_steps, b_cost, b_good)) :
    ∀ e i f b_good, i + e = 1728 → e < f → (∀ y, y < i → b_good y = 0) → wY_markGood_2 post (nI D) (nI k) f (nI i) b_isWall b_waysOut b_isSet b_place b_goal b_walkers b_steps b_cost b_good := by
  intro e
  induction e with
  | zero =>
    intro i f b_good he hf hi
    obtain ⟨f, rfl⟩ : ∃ m, f = m + 1 := ⟨f - 1, by omega⟩
    refine pk_le 1728 i (fun _ => yw_finish hk hw hgl ?_) (fun h => by omega)
    have lg : g < 1728 := Nat.lt_of_lt_of_le (mo_R_V hV hl.1).1 (mo_Nle k)
    rw [hg]
    have lr := rv_lt g
    refine ⟨vp_in_nI lr (by omega), nm_r (by rw [nI_clamp (by omega), xb_b1]) (nm_e ⟨D + 1, ?_⟩)⟩
    refine yw_mg38 hk ok hst hO hV R hF hl hD hp D (D + 1) _ (fun s => s = g) _ (by omega) (Nat.le_refl _) ?_ (fun s hs => ?_) (fun s hs => ?_)
    · rw [Int32.sub_eq_add_neg]
    · rcases Nat.decEq s g with z | rfl
      · rw [pk_un (fun q => z (rv_inj hs lg q))]
        exact ⟨fun h => absurd h z, fun _ => hi _ (by have := rv_lt s; omega)⟩
      · rw [pk_us]
        exact ⟨fun _ => rfl, fun h => absurd rfl h⟩
    · constructor
      · rintro rfl
        rcases hF s with ⟨q, l⟩ | ⟨_, q⟩
        · exact ⟨by omega, 0, gr_l0 s, by have := gr_lu l hl; omega⟩
        · exact absurd hl.1 (q _)
      · rintro ⟨_, d, l, hd⟩
        have : d = 0 := by omega
        subst this
        rcases gr_cases l.1 with ⟨_, e⟩ | ⟨u, w, c', e, _, hc⟩
        · exact e
        · have : w = 1 := e.2.2
          omega
  | succ e ih =>
    intro i f b_good he hf hi
    obtain ⟨f, rfl⟩ : ∃ m, f = m + 1 := ⟨f - 1, by omega⟩
    refine pk_le 1728 i (fun _ => by omega) (fun hlt => ⟨vp_in_nI hlt (by omega), nm_r (by rw [nI_clamp (by omega), xb_b0]) (nm_r (nI_1 i) (ih (i + 1) f _ (by omega) (by omega) fun s hs => ?_))⟩)
    rcases Nat.decEq s i with z | rfl
    · rw [pk_un z]; exact hi s (by omega)
    · exact pk_us
theorem yw_cell114 {post : Int32 → SY → Prop} {s j : Nat} {x : Int32} (hk : mo_K k) (hw : tm_W k wh b_walkers) (hj : j < k) (hx : x = nI (wh j)) (hu : ∀ i, i < k → wh i = wh j → i = j) (h : post (nI (dg_j j s)) (nI k, b_isWall, b_waysOut, b_isSet, b_place, b_goal, b_walkers, b_steps, b_cost, b_good)) :
    ∀ e i f y, i + e = k → e < f → (j < i → y = nI (dg_j j s)) → wY_cellAt_114 post x (nI (rv_c s)) (nI k) b_isWall b_waysOut b_isSet b_place b_goal b_walkers b_steps b_cost b_good f y (nI i) := by
  have hk3 : k ≤ 3 := by rcases hk with e | e | e <;> omega
  have lr := rv_lt s
  obtain ⟨r0, r1, r2, _⟩ := rv_d s
  intro e
  induction e with
  | zero =>
    intro i f y he hf hy
    obtain ⟨f, rfl⟩ : ∃ m, f = m + 1 := ⟨f - 1, by omega⟩
    refine pk_le k i (fun _ => ?_) (fun h => by omega)
    rw [hy (by omega)]; exact h
  | succ e ih =>
    intro i f y he hf hy
    obtain ⟨f, rfl⟩ : ∃ m, f = m + 1 := ⟨f - 1, by omega⟩
    refine pk_le k i (fun _ => by omega) (fun hlt => ⟨vp_in_nI (by omega) (by omega), ?_⟩)
    have wi := (hw i hlt).2
    have wj := (hw j hj).2
    rw [nI_clamp (by omega), (hw i hlt).1, hx]
    refine pk_eq (wh i) (wh j) (fun z => ?_) (fun z => nm_r (nI_1 i) (hx ▸ ih (i + 1) f y (by omega) (by omega) fun q => hy ?_))
    · obtain rfl := hu i hlt z
      have next := ih (i + 1) f (nI (dg_j i s)) (by omega) (by omega) fun _ => rfl
      rw [hx] at next
      have : i = 0 ∨ i = 1 ∨ i = 2 := by omega
      rcases this with rfl | rfl | rfl
      · refine br_t rfl ⟨by decide, ?_⟩
        rw [xb_d 144 (by omega) (by omega), r0]
        exact nm_e next
      · refine br_f (by decide) (br_t rfl ⟨by decide, by decide, ?_⟩)
        rw [xb_d 12 (by omega) (by omega), xb_r 12 (by omega) (by omega), r1]
        exact nm_e next
      · refine br_f (by decide) (br_f (by decide) ⟨by decide, ?_⟩)
        rw [xb_r 12 (by omega) (by omega), r2]
        exact nm_e next
    · rcases Nat.decEq i j with q2 | rfl
      · omega
      · exact absurd rfl z
theorem yw_cell74 {post : Int32 → SY → Prop} {G : Nat → Prop} {t j : Nat} {x : Int32} (hk : mo_K k) (ok : cg_OK tg op) (hst : yw_ST tg op b_steps) (hw : tm_W k wh b_walkers) (hO : mo_O op k st) (hV : mo_V k st) (R : yc_R C b_cost) (hF : dj_F (mo_E tg false k) st C) (hl : gr_L (mo_E tg false k) D st g) (hD : D < 1728) (ht : t ≤ D)
    (RG : yg_R G b_good) (hG : ∀ s, G s ↔ mg_g (mo_E tg false k) g D C s) (hj : j < k) (hx : x = nI (wh j)) (hu : ∀ i, i < k → wh i = wh j → i = j) (h : ∀ s, fn_W (mo_E tg false k) g st t s → post (nI (dg_j j s)) (nI k, b_isWall, b_waysOut, b_isSet, b_place, b_goal, b_walkers, b_steps, b_cost, b_good)) :
    ∀ e i f s, i + e = t → e < f → fn_W (mo_E tg false k) g st i s → mg_g (mo_E tg false k) g D C s → C s = i → wY_cellAt_74 post x (nI t) (nI k) b_isWall b_waysOut b_isSet b_place b_goal b_walkers b_steps b_cost b_good f (nI (rv_c s)) (nI i) := by
  have hk3 : k ≤ 3 := by rcases hk with e | e | e <;> omega
  intro e
  induction e with
  | zero =>
    intro i f s he hf hW hm hC
    obtain ⟨f, rfl⟩ : ∃ m, f = m + 1 := ⟨f - 1, by omega⟩
    obtain rfl : i = t := by omega
    exact pk_le i i (fun _ => ⟨4, yw_cell114 hk hw hj hx hu (h s hW) k 0 4 0 (by omega) (by omega) fun z => by omega⟩) (fun h => by omega)
  | succ e ih =>
    intro i f s he hf hW hm hC
    obtain ⟨f, rfl⟩ : ∃ m, f = m + 1 := ⟨f - 1, by omega⟩
    refine pk_le t i (fun _ => by omega) (fun hlt => ?_)
    have hr : gr_L (mo_E tg false k) (C s) st s := by
      rcases hF s with ⟨_, l⟩ | ⟨q, _⟩
      · exact l
      · have := hm.1; omega
    have eq := mg_eq hF hl (G := G) (fun t _ => hG t) hm
    refine yw_nextGood hk ok hst (mo_R_V hV hr.1).1 (mo_R_O ok hO hr.1) R (by omega) RG (fun t' hc hle => ?_) (fun hno => ?_)
    · have lr := rv_lt t'
      refine br_t (nI_pos' (by omega)) (nm_r (nI_1 i) (ih (i + 1) f t' (by omega) (by omega) ⟨s, hW, (eq t').mp hc, fun t2 h2 => hle t2 ((eq t2).mpr h2)⟩ ((hG t').mp hc.2.1) (by rw [hc.2.2, hC])))
    · obtain ⟨t', ht'⟩ := (mg_ex hF hl (G := G) (s := s) (by omega) hD (fun t _ => hG t)).mpr hm
      exact absurd ht' (hno t')
end
end
section
/-- which walker is asked about: none of the team, or the j-th -/
theorem ca_w {T : Nat} (t1 : 1 ≤ T) (t8 : T < 8) (x : Int32) : (x < 0 ∧ ∀ j, j < tm_k T → x ≠ nI (tm_w T j)) ∨ (¬ x < 0 ∧ nI 3 ≤ x ∧ ∀ j, j < tm_k T → x ≠ nI (tm_w T j)) ∨ ∃ w, w < 3 ∧ x = nI w ∧ ((T.testBit w = false ∧ ∀ j, j < tm_k T → x ≠ nI (tm_w T j)) ∨ (T.testBit w = true ∧ ∃ j, j < tm_k T ∧ tm_w T j = w)) := by
  obtain ⟨hk, hf⟩ := tm_f2 T t8 t1
  have h3 : ∀ i, i < tm_k T → i < 3 := fun i hi => by rcases hk with e | e | e <;> omega
  rcases pk_ix x (n := 3) (by omega) with z | z | ⟨w, hw, rfl⟩
  · refine Or.inl ⟨z, fun j hj e => ?_⟩
    have := (hf j (h3 j hj) hj).1
    rw [e] at z
    exact nI_pos (by omega) z
  · refine Or.inr (Or.inl ⟨fun q => ?_, z, fun j hj e => ?_⟩)
    · exact absurd (Int32.lt_of_le_of_lt z q) (by decide)
    · have := (hf j (h3 j hj) hj).1
      rw [e] at z
      exact nI_ge this (by omega) z
  · refine Or.inr (Or.inr ⟨w, hw, rfl, ?_⟩)
    cases hb : T.testBit w with
    | false =>
      refine Or.inl ⟨rfl, fun j hj e => ?_⟩
      obtain ⟨a1, a2, _⟩ := hf j (h3 j hj) hj
      have : w = tm_w T j := (nI_eq (by omega) (by omega)).mp e
      rw [this, a2] at hb
      cases hb
    | true => exact Or.inr ⟨rfl, tm_f3 T t8 w hw hb⟩
section
variable {W P T : Nat} {wy pl gl : Nat → Nat}
variable {f_walls f_placed f_count f_byEffort f_best f_turns : Int32} {a_waysOut a_placeOf a_goalOf a_stepTo a_toGoal a_distance a_who a_cost a_origin a_closed a_onward a_queue a_cellNow a_cellNext a_walkNow a_walkNext a_used a_flowFrom a_flowTo a_cameBy a_line : Nat → Int32}
variable {b_size : Int32} {b_isWall b_waysOut b_isSet b_place b_goal b_walkers b_steps b_cost b_good : Nat → Int32}
theorem yw_cellAt {post : Int32 → SY → Prop} {x y : Int32} (hE : rl_E W wy P pl gl) (t1 : 1 ≤ T) (t8 : T < 8) (hr : rl_rdy W P pl gl T) (hW : yw_W W b_isWall) (hs : ∀ w, w < 3 → b_isSet w = if P.testBit w = true then 1 else 0) (hw : ∀ c, c < 12 → b_waysOut c = nI (wy c)) (hp : ∀ w, w < 3 → b_place w = nI (pl w)) (hg : ∀ w, w < 3 → b_goal w = nI (gl w))
    (h2 : ∀ b_size b_walkers b_steps b_cost, (∀ c, ¬ gr_R (mo_E (cg_tg W wy) false (tm_k T)) c (tm_s (tm_k T) fun i => pl (tm_w T i)) (tm_s (tm_k T) fun i => gl (tm_w T i))) → post (-2) (b_size, b_isWall, b_waysOut, b_isSet, b_place, b_goal, b_walkers, b_steps, b_cost, b_good))
    (h3 : ∀ b_size b_walkers b_steps b_cost D, gr_L (mo_E (cg_tg W wy) false (tm_k T)) D (tm_s (tm_k T) fun i => pl (tm_w T i)) (tm_s (tm_k T) fun i => gl (tm_w T i)) → (∀ j, j < tm_k T → x ≠ nI (tm_w T j)) → post (-3) (b_size, b_isWall, b_waysOut, b_isSet, b_place, b_goal, b_walkers, b_steps, b_cost, b_good))
    (h4 : ∀ b_size b_walkers b_steps b_cost D, gr_L (mo_E (cg_tg W wy) false (tm_k T)) D (tm_s (tm_k T) fun i => pl (tm_w T i)) (tm_s (tm_k T) fun i => gl (tm_w T i)) → (∃ j, j < tm_k T ∧ x = nI (tm_w T j)) → (y < 0 ∨ ¬ y ≤ nI D) → post (-4) (b_size, b_isWall, b_waysOut, b_isSet, b_place, b_goal, b_walkers, b_steps, b_cost, b_good))
    (h5 : ∀ b_size b_walkers b_steps b_cost b_good D t j s, gr_L (mo_E (cg_tg W wy) false (tm_k T)) D (tm_s (tm_k T) fun i => pl (tm_w T i)) (tm_s (tm_k T) fun i => gl (tm_w T i)) → j < tm_k T → x = nI (tm_w T j) → t ≤ D → y = nI t →
      fn_W (mo_E (cg_tg W wy) false (tm_k T)) (tm_s (tm_k T) fun i => gl (tm_w T i)) (tm_s (tm_k T) fun i => pl (tm_w T i)) t s → post (nI (dg_j j s)) (b_size, b_isWall, b_waysOut, b_isSet, b_place, b_goal, b_walkers, b_steps, b_cost, b_good)) :
    wpY_cellAt post (b_size, b_isWall, b_waysOut, b_isSet, b_place, b_goal, b_walkers, b_steps, b_cost, b_good) (nI T) x y := by
  obtain ⟨hV, hO⟩ := rl_st hE t1 t8 hr.2 (fun w hw hb => (hr.1 w hw hb).2.1)
  obtain ⟨hk, hf⟩ := tm_f2 T t8 t1
  have k3 : ∀ i, i < tm_k T → i < 3 := fun i hi => by rcases hk with e | e | e <;> omega
  have ok := cg_tg_ok W wy
  have hb : ∀ c, gr_L (mo_E (cg_tg W wy) false (tm_k T)) c (tm_s (tm_k T) fun i => pl (tm_w T i)) (tm_s (tm_k T) fun i => gl (tm_w T i)) → c < 1728 := fun c l => Nat.lt_of_lt_of_le (mo_bound hk ok hV l) (mo_Nle _)
  unfold wpY_cellAt
  refine yw_isReady hE hW hs hp hg ?_ (fun hn => absurd hr (hn T t1 t8 rfl))
  intro _ _ _ _ _
  refine br_f (by decide) (yw_lt0 hE t1 t8 hr.2 (fun w hw hb => (hr.1 w hw hb).2.1) hW hw hp hg fun C b_walkers b_steps b_cost r hst hwk R hF hA => ?_)
  refine an_neg hA (fun c l => by have := hb c l; omega) (fun D hl hrD => ?_) (fun _ hno => h2 _ _ _ _ hno)
  have hD := hb D hl
  rcases ca_w t1 t8 x with ⟨z, hbad⟩ | ⟨z, z3, hbad⟩ | ⟨w, hw3, rfl, hw⟩
  · exact br_t z (h3 _ _ _ _ D hl hbad)
  · exact br_f z (br_t (Int32.lt_of_lt_of_le (by decide) z3) (h3 _ _ _ _ D hl hbad))
  · refine br_f (nI_pos (by omega)) (br_f (nI_nlt (a := 2) (by omega) (by omega)) (yw_in t8 hw3 (fun hb1 => br_f (by decide) ?_) (fun hb0 => br_t rfl (h3 _ _ _ _ D hl (hw.elim (fun q => q.2) fun q => by rw [hb0] at q; exact absurd q.1 (by decide))))))
    have hj : ∃ j, j < tm_k T ∧ tm_w T j = w := hw.elim (fun q => by rw [hb1] at q; exact absurd q.1 (by decide)) fun q => q.2
    obtain ⟨j, hj, rfl⟩ := hj
    refine br_c (fun y0 => h4 _ _ _ _ D hl ⟨j, hj, rfl⟩ (Or.inl y0)) (fun y0 => ?_)
    rw [hrD]
    refine br_c (fun yD => ?_) (fun yD => h4 _ _ _ _ D hl ⟨j, hj, rfl⟩ (Or.inr yD))
    obtain ⟨t, ht, rfl⟩ := nI_of2 (x := y) (M := nI D) (n := D) (nI_toInt (by omega)) y0 yD
    refine ⟨1729, yw_mg2 hk ok hst hwk (fun w hw => ⟨hg w hw, hE.2.2.2.2 w hw⟩) hO hV R hF rfl hl hD (fun G b_good RG hG => ?_) 1728 0 1729 b_good (by omega) (by omega) fun s hs => by omega⟩
    refine yw_start hk hwk (fun w hw => ⟨hp w hw, hE.2.2.2.1 w hw⟩) ⟨t + 1, ?_⟩
    refine yw_cell74 hk ok hst hwk hO hV R hF hl hD ht RG hG hj rfl (fun i hi e => ?_) (fun s hW => h5 _ _ _ _ _ D t j s hl hj rfl ht rfl hW) t 0 (t + 1) _ (by omega) (by omega) rfl ?_ ?_
    · exact ((hf i (k3 i hi) hi).2.2 j (k3 j hj) hj e)
    · rcases hF (tm_s (tm_k T) fun i => pl (tm_w T i)) with ⟨q, l⟩ | ⟨_, q⟩
      · have := gr_lu l (gr_l0 _)
        exact ⟨by omega, D, hl, by omega⟩
      · exact absurd (gr_r0 _) (q 0)
    · rcases hF (tm_s (tm_k T) fun i => pl (tm_w T i)) with ⟨q, l⟩ | ⟨_, q⟩
      · exact gr_lu l (gr_l0 _)
      · exact absurd (gr_r0 _) (q 0)
end
theorem i_vc_cellAt {k : Nat} {u : SX} {v : SY} (I : i_Rel k u v) (hk : k + 4 ≤ 2048) (v1 : Int32) (v2 : Int32) (v3 : Int32) : wpX_cellAt (fun r u' => wpY_cellAt (fun r' v' => r' = r ∧ i_Rel (k + 4) u' v') v v1 v2 v3) u v1 v2 v3 := by
  obtain ⟨W, wy, P, pl, gl, hE, hX, hY⟩ := I
  refine rl_elX (Q := fun u => wpX_cellAt (fun r u' => wpY_cellAt (fun r' v' => r' = r ∧ i_Rel (k + 4) u' v') v v1 v2 v3) u v1 v2 v3) hX ?_
  intro f_count f_byEffort f_best f_turns a_waysOut a_placeOf a_goalOf a_stepTo a_toGoal a_distance a_who a_cost a_origin a_closed a_onward a_queue a_cellNow a_cellNext a_walkNow a_walkNext a_used a_flowFrom a_flowTo a_cameBy a_line x1 x2 x3
  refine rl_elY (Q := fun v => wpX_cellAt (fun r u' => wpY_cellAt (fun r' v' => r' = r ∧ i_Rel (k + 4) u' v') v v1 v2 v3) (nI W, nI P, f_count, f_byEffort, f_best, f_turns, a_waysOut, a_placeOf, a_goalOf, a_stepTo, a_toGoal, a_distance, a_who, a_cost, a_origin, a_closed, a_onward, a_queue, a_cellNow, a_cellNext, a_walkNow, a_walkNext, a_used, a_flowFrom, a_flowTo, a_cameBy, a_line) v1 v2 v3) hY ?_
  intro b_size b_isWall b_waysOut b_isSet b_place b_goal b_walkers b_steps b_cost b_good y0 y1 ys y2 y3
  unfold wpX_cellAt
  refine xw_isReady hE x2 x3 ?_ (fun hn => br_t rfl ?_)
  · intro T t1 t8 e hr
    subst e
    obtain ⟨hV, hO⟩ := rl_st hE t1 t8 hr.2 (fun w hw hb => (hr.1 w hw hb).2.1)
    obtain ⟨hkT, hf⟩ := tm_f2 T t8 t1
    have k3 : ∀ i, i < tm_k T → i < 3 := fun i hi => by rcases hkT with e | e | e <;> omega
    have ok := cg_tg_ok W wy
    have hVg : mo_V (tm_k T) (tm_s (tm_k T) fun i => gl (tm_w T i)) := tm_R_V t1 t8 (fun _ _ z => z) hE.2.2.2.2 fun i j hij hj bi bj => (hr.2 i j hij hj bi bj).2
    have hb : ∀ c, gr_L (mo_E (cg_tg W wy) false (tm_k T)) c (tm_s (tm_k T) fun i => pl (tm_w T i)) (tm_s (tm_k T) fun i => gl (tm_w T i)) → c < 1728 := fun c l => Nat.lt_of_lt_of_le (mo_bound hkT ok hV l) (mo_Nle _)
    have winj : ∀ i j, i < tm_k T → j < tm_k T → nI (tm_w T i) = nI (tm_w T j) → i = j := fun i j hi hj e => by
      obtain ⟨a1, _, a3⟩ := hf i (k3 i hi) hi
      obtain ⟨b1, _, _⟩ := hf j (k3 j hj) hj
      exact a3 j (k3 j hj) hj ((nI_eq (by omega) (by omega)).mp e)
    refine br_f (by decide) ?_
    refine xw_plan (b := false) t1 t8 hE.1 (fun c hc => ⟨x1 c hc, hE.2.1 c hc⟩) (fun w hw => ⟨x2 w hw, hE.2.2.2.1 w hw⟩) (fun w hw => ⟨x3 w hw, hE.2.2.2.2 w hw⟩) hr.2 ?_
    intro f_count f_best a_stepTo a_toGoal a_distance a_who a_cost a_origin a_closed a_onward a_cellNow a_cellNext a_walkNow a_walkNext r hst hA
    -- Y's answer in each case
    have Y2 : (∀ c, ¬ gr_R (mo_E (cg_tg W wy) false (tm_k T)) c (tm_s (tm_k T) fun i => pl (tm_w T i)) (tm_s (tm_k T) fun i => gl (tm_w T i))) → wpY_cellAt (fun r' v' => r' = -2 ∧ i_Rel (k + 4) (nI W, nI P, f_count, 0, f_best, f_turns, a_waysOut, a_placeOf, a_goalOf, a_stepTo, a_toGoal, a_distance, a_who, a_cost, a_origin, a_closed, a_onward, a_queue, a_cellNow, a_cellNext, a_walkNow, a_walkNext, a_used, a_flowFrom, a_flowTo, a_cameBy, a_line) v') (b_size, b_isWall, b_waysOut, b_isSet, b_place, b_goal, b_walkers, b_steps, b_cost, b_good) (nI T) v2 v3 := fun hno =>
      yw_cellAt hE t1 t8 hr y0 ys y1 y2 y3 (fun _ _ _ _ _ => ⟨rfl, rl_in hE (rl_mkX x1 x2 x3) (rl_mkY y0 y1 ys y2 y3)⟩) (fun _ _ _ _ D l _ => absurd l.1 (hno D)) (fun _ _ _ _ D l _ _ => absurd l.1 (hno D)) (fun _ _ _ _ _ D _ _ _ l _ _ _ _ _ => absurd l.1 (hno D))
    refine an_neg hA (fun c l => by have := hb c l; omega) (fun D hl hrD => ?_) (fun _ hno => Y2 hno)
    have hD := hb D hl
    have Y3 : (∀ j, j < tm_k T → v2 ≠ nI (tm_w T j)) → wpY_cellAt (fun r' v' => r' = -3 ∧ i_Rel (k + 4) (nI W, nI P, f_count, 0, f_best, f_turns, a_waysOut, a_placeOf, a_goalOf, a_stepTo, a_toGoal, a_distance, a_who, a_cost, a_origin, a_closed, a_onward, a_queue, a_cellNow, a_cellNext, a_walkNow, a_walkNext, a_used, a_flowFrom, a_flowTo, a_cameBy, a_line) v') (b_size, b_isWall, b_waysOut, b_isSet, b_place, b_goal, b_walkers, b_steps, b_cost, b_good) (nI T) v2 v3 := fun hbad =>
      yw_cellAt hE t1 t8 hr y0 ys y1 y2 y3 (fun _ _ _ _ hno => absurd hl.1 (hno D)) (fun _ _ _ _ _ _ _ => ⟨rfl, rl_in hE (rl_mkX x1 x2 x3) (rl_mkY y0 y1 ys y2 y3)⟩) (fun _ _ _ _ _ _ ⟨j, hj, e⟩ _ => absurd e (hbad j hj)) (fun _ _ _ _ _ _ _ j _ _ hj e _ _ _ => absurd e (hbad j hj))
    have Y4 : (∃ j, j < tm_k T ∧ v2 = nI (tm_w T j)) → (v3 < 0 ∨ ¬ v3 ≤ nI D) → wpY_cellAt (fun r' v' => r' = -4 ∧ i_Rel (k + 4) (nI W, nI P, f_count, 0, f_best, f_turns, a_waysOut, a_placeOf, a_goalOf, a_stepTo, a_toGoal, a_distance, a_who, a_cost, a_origin, a_closed, a_onward, a_queue, a_cellNow, a_cellNext, a_walkNow, a_walkNext, a_used, a_flowFrom, a_flowTo, a_cameBy, a_line) v') (b_size, b_isWall, b_waysOut, b_isSet, b_place, b_goal, b_walkers, b_steps, b_cost, b_good) (nI T) v2 v3 := fun ⟨j, hj, ej⟩ hbad =>
      yw_cellAt hE t1 t8 hr y0 ys y1 y2 y3 (fun _ _ _ _ hno => absurd hl.1 (hno D)) (fun _ _ _ _ _ _ hw => absurd ej (hw j hj)) (fun _ _ _ _ _ _ _ _ => ⟨rfl, rl_in hE (rl_mkX x1 x2 x3) (rl_mkY y0 y1 ys y2 y3)⟩) (fun _ _ _ _ _ D' t' _ _ l' _ _ ht' e' _ => by
        have := gr_lu l' hl
        subst this
        rw [e'] at hbad
        rcases hbad with q | q
        · exact absurd q (nI_pos (by omega))
        · exact absurd (nI_le ht' (by omega)) q)
    rcases ca_w t1 t8 v2 with ⟨z, hbad⟩ | ⟨z, z3, hbad⟩ | ⟨w, hw3, rfl, hw⟩
    · exact br_t z (Y3 hbad)
    · exact br_f z (br_t z3 (Y3 hbad))
    · refine br_f (nI_pos (by omega)) (br_f (nI_ge (b := 3) hw3 (by omega)) (xb_br0 (by omega) (by omega) (fun hb0 => Y3 (hw.elim (fun q => q.2) fun q => by rw [hb0] at q; exact absurd q.1 (by decide))) (fun hb1 => ?_)))
      have hj : ∃ j, j < tm_k T ∧ tm_w T j = w := hw.elim (fun q => by rw [hb1] at q; exact absurd q.1 (by decide)) fun q => q.2
      obtain ⟨j, hj, rfl⟩ := hj
      refine br_c (fun n0 => Y4 ⟨j, hj, rfl⟩ (Or.inl n0)) (fun n0 => ?_)
      rw [hrD]
      refine br_c (fun nD => ?_) (fun nD => Y4 ⟨j, hj, rfl⟩ (Or.inr nD))
      obtain ⟨t, ht, rfl⟩ := nI_of2 (x := v3) (M := nI D) (n := D) (nI_toInt (by omega)) n0 nD
      refine xw_gather (f_count := f_count) t1 t8 fun a_who hwk => ?_
      refine xw_findTurnsLeft hkT ok hst hwk (fun w hw => ⟨x3 w hw, hE.2.2.2.2 w hw⟩) hVg fun B a_cost a_cellNow a_cellNext hF R => ?_
      refine xw_stateP hkT hwk (fun w hw => ⟨x2 w hw, hE.2.2.2.1 w hw⟩) ⟨t + 1, ?_⟩
      refine xw_cell82 hkT ok hst hwk hF R hD ht hj rfl (fun i hi e => winj i j hi hj (by rw [e])) (fun a_cellNow a_cellNext s hW => ?_) t 0 (t + 1) _ a_cellNow a_cellNext (by omega) (by omega) rfl hV hl
      refine yw_cellAt hE t1 t8 hr y0 ys y1 y2 y3 (fun _ _ _ _ hno => absurd hl.1 (hno D)) (fun _ _ _ _ _ _ hw => absurd rfl (hw j hj)) (fun _ _ _ _ D' l' _ hbad => ?_) (fun _ _ _ _ _ D' t' j' s' l' hj' ej' _ et' hW' => ⟨?_, rl_in hE (rl_mkX x1 x2 x3) (rl_mkY y0 y1 ys y2 y3)⟩)
      · have := gr_lu l' hl
        subst this
        rcases hbad with q | q
        · exact absurd q (nI_pos (by omega))
        · exact absurd (nI_le ht (by omega)) q
      · have hDD := gr_lu l' hl
        have ett : t = t' := (nI_eq (by omega) (by omega)).mp et'
        have ejj := winj j j' hj hj' ej'
        subst ett
        subst ejj
        rw [fn_Wu t s' s hW' hW]
  · unfold wpY_cellAt
    refine yw_isReady hE y0 ys y2 y3 ?_ ?_
    · exact fun T t1 t8 e hr => absurd hr (hn T t1 t8 e)
    · exact fun _ => br_t rfl ⟨rfl, rl_in hE (rl_mkX x1 x2 x3) (rl_mkY y0 y1 ys y2 y3)⟩
end
section
/-- from a cell of a turn's copy to one of the next; v = 12 * turn + cell -/
def fl_edge (tg : Nat → Nat → Option Nat) (v w : Nat) : Prop := w / 12 = v / 12 + 1 ∧ mo_mv tg (v % 12) (w % 12)
/-- ways through the copies, no two by one cell of a copy: U used, ff where it comes from, ft where it goes -/
def fl_V (tg : Nat → Nat → Option Nat) (t : Nat) (S G : Nat → Prop) (U : Nat → Prop) (ff ft : Nat → Option Nat) : Prop :=
  (∀ v, U v → v < 12 * (t + 1)) ∧ (∀ v, U v → v < 12 → S v ∧ ff v = none) ∧ (∀ v, U v → 12 ≤ v → ∃ u, ff v = some u ∧ U u ∧ ft u = some v ∧ fl_edge tg u v) ∧
  (∀ v, U v → 12 * t ≤ v → G (v % 12) ∧ ft v = none) ∧ (∀ v, U v → v < 12 * t → ∃ w, ft v = some w ∧ U w ∧ ff w = some v ∧ fl_edge tg v w) ∧ (∀ v, ¬ U v → ff v = none ∧ ft v = none)
/-- steps of a search: 2 * v comes to v, 2 * v + 1 goes on from it -/
def fl_R (tg : Nat → Nat → Option Nat) (t : Nat) (U : Nat → Prop) (ff ft : Nat → Option Nat) (a b : Nat) : Prop :=
  (∃ v, a = 2 * v ∧ b = 2 * v + 1 ∧ v < 12 * (t + 1) ∧ ¬ U v) ∨ (∃ v u, a = 2 * v ∧ b = 2 * u + 1 ∧ U v ∧ ff v = some u) ∨ (∃ v, a = 2 * v + 1 ∧ b = 2 * v ∧ U v) ∨
  (∃ v w, a = 2 * v + 1 ∧ b = 2 * w ∧ v < 12 * t ∧ fl_edge tg v w ∧ ft v ≠ some w)
def fl_so (S U : Nat → Prop) (n : Nat) : Prop := ∃ s, n = 2 * s ∧ s < 12 ∧ S s ∧ ¬ U s
def fl_si (t : Nat) (G U : Nat → Prop) (n : Nat) : Prop := ∃ v, n = 2 * v + 1 ∧ 12 * t ≤ v ∧ v < 12 * (t + 1) ∧ ¬ U v ∧ G (v % 12)
/-- a search that failed: what it has reached -/
def fl_Z (tg : Nat → Nat → Option Nat) (t : Nat) (S G : Nat → Prop) (U : Nat → Prop) (ff ft : Nat → Option Nat) (Z : Nat → Prop) : Prop :=
  (∀ n, fl_so S U n → Z n) ∧ (∀ a b, Z a → fl_R tg t U ff ft a b → Z b) ∧ ∀ n, Z n → ¬ fl_si t G U n
theorem ct_split (P Q : Nat → Prop) : ∀ N, ct_n P N = ct_n (fun i => P i ∧ Q i) N + ct_n (fun i => P i ∧ ¬ Q i) N
  | 0 => rfl
  | N + 1 => by
    have ih := ct_split P Q N
    simp only [ct_n]
    rcases Classical.em (P N) with p | p
    · rcases Classical.em (Q N) with q | q
      · rw [ct_bt p, ct_bt (⟨p, q⟩ : P N ∧ Q N), ct_bf (fun z : P N ∧ ¬ Q N => z.2 q)]; omega
      · rw [ct_bt p, ct_bt (⟨p, q⟩ : P N ∧ ¬ Q N), ct_bf (fun z : P N ∧ Q N => q z.2)]; omega
    · rw [ct_bf p, ct_bf (fun z : P N ∧ Q N => p z.1), ct_bf (fun z : P N ∧ ¬ Q N => p z.1)]; omega
/-- used cells of a copy from which the search goes on -/
noncomputable def fl_y (U Z : Nat → Prop) (τ : Nat) : Nat := ct_n (fun c => U (12 * τ + c) ∧ Z (2 * (12 * τ + c) + 1)) 12
def fl_p (ff : Nat → Option Nat) (v : Nat) : Nat := match ff v with
  | some u => u % 12
  | none => 0
theorem fl_p_e {ff : Nat → Option Nat} {v u : Nat} (h : ff v = some u) : fl_p ff v = u % 12 := by unfold fl_p; rw [h]
section
variable {tg : Nat → Nat → Option Nat} {op : Nat → Prop} {t : Nat} {S G U Z : Nat → Prop} {ff ft : Nat → Option Nat}
theorem fl_ftU (V : fl_V tg t S G U ff ft) {v w : Nat} (h : ft v = some w) : U v ∧ U w ∧ ff w = some v := by
  obtain ⟨v1, v2, v3, v4, v5, v6⟩ := V
  have hU : U v := by
    rcases Classical.em (U v) with q | q
    · exact q
    · rw [(v6 v q).2] at h; cases h
  rcases Nat.lt_or_ge v (12 * t) with z | z
  · obtain ⟨w', h1, h2, h3, _⟩ := v5 v hU z
    rw [h1] at h; cases h
    exact ⟨hU, h2, h3⟩
  · rw [(v4 v hU z).2] at h; cases h
theorem fl_ffU (V : fl_V tg t S G U ff ft) {v u : Nat} (h : ff v = some u) : U v ∧ U u ∧ ft u = some v ∧ fl_edge tg u v := by
  obtain ⟨v1, v2, v3, v4, v5, v6⟩ := V
  have hU : U v := by
    rcases Classical.em (U v) with q | q
    · exact q
    · rw [(v6 v q).1] at h; cases h
  rcases Nat.lt_or_ge v 12 with z | z
  · rw [(v2 v hU z).2] at h; cases h
  · obtain ⟨u', h1, h2, h3, h4⟩ := v3 v hU z
    rw [h1] at h; cases h
    exact ⟨hU, h2, h3, h4⟩
/-- what a search leaves behind from copy to copy is used up by ways -/
theorem fl_lost (V : fl_V tg t S G U ff ft) (F : fl_Z tg t S G U ff ft Z) {τ : Nat} (hτ : τ < t) {m : Nat} {P : Nat → Prop} {f : Nat → Nat}
    (h : ∀ i, i < m → P i → f i < 12 ∧ ∃ c, c < 12 ∧ Z (2 * (12 * τ + c) + 1) ∧ mo_mv tg c (f i)) (hi : ∀ i j, i < m → j < m → P i → P j → f i = f j → i = j) :
    ct_n P m + fl_y U Z (τ + 1) ≤ ct_n (fun i => P i ∧ Z (2 * (12 * (τ + 1) + f i) + 1)) m + fl_y U Z τ := by
  have V0 := V
  obtain ⟨v1, v2, v3, v4, v5, v6⟩ := V
  obtain ⟨f1, f2, f3⟩ := F
  have e1 := ct_split P (fun i => Z (2 * (12 * (τ + 1) + f i) + 1)) m
  -- Q: the way comes from where the search goes on
  have e2 := ct_split (fun c => U (12 * (τ + 1) + c) ∧ ∃ u, ff (12 * (τ + 1) + c) = some u ∧ Z (2 * u + 1)) (fun c => Z (2 * (12 * (τ + 1) + c) + 1)) 12
  have e3 : ct_n (fun i => P i ∧ ¬ Z (2 * (12 * (τ + 1) + f i) + 1)) m ≤ ct_n (fun c => (U (12 * (τ + 1) + c) ∧ ∃ u, ff (12 * (τ + 1) + c) = some u ∧ Z (2 * u + 1)) ∧ ¬ Z (2 * (12 * (τ + 1) + c) + 1)) 12 := by
    refine ct_inj f (fun i hi' ⟨p, nz⟩ => ?_) (fun i j h1 h2 p q e => hi i j h1 h2 p.1 q.1 e)
    obtain ⟨lf, c, hc, zc, mv⟩ := h i hi' p
    refine ⟨lf, ?_, nz⟩
    rcases Classical.em (Z (2 * (12 * (τ + 1) + f i))) with q | q
    · have hU : U (12 * (τ + 1) + f i) := by
        rcases Classical.em (U (12 * (τ + 1) + f i)) with r | r
        · exact r
        · exact absurd (f2 _ _ q (Or.inl ⟨_, rfl, rfl, by omega, r⟩)) nz
      obtain ⟨u, h1, h2, h3, h4⟩ := v3 _ hU (by omega)
      exact ⟨hU, u, h1, f2 _ _ q (Or.inr (Or.inl ⟨_, u, rfl, rfl, hU, h1⟩))⟩
    · have hft : ft (12 * τ + c) = some (12 * (τ + 1) + f i) := by
        rcases Classical.em (ft (12 * τ + c) = some (12 * (τ + 1) + f i)) with r | r
        · exact r
        · refine absurd (f2 _ _ zc (Or.inr (Or.inr (Or.inr ⟨_, _, rfl, rfl, by omega, ⟨by omega, ?_⟩, r⟩)))) q
          rw [show (12 * τ + c) % 12 = c by omega, show (12 * (τ + 1) + f i) % 12 = f i by omega]
          exact mv
      obtain ⟨_, h2, h3⟩ := fl_ftU V0 hft
      exact ⟨h2, _, h3, zc⟩
  have e4 : fl_y U Z (τ + 1) ≤ ct_n (fun c => (U (12 * (τ + 1) + c) ∧ ∃ u, ff (12 * (τ + 1) + c) = some u ∧ Z (2 * u + 1)) ∧ Z (2 * (12 * (τ + 1) + c) + 1)) 12 := by
    refine ct_mono fun c hc ⟨hU, hz⟩ => ⟨⟨hU, ?_⟩, hz⟩
    obtain ⟨u, h1, h2, h3, h4⟩ := v3 _ hU (by omega)
    exact ⟨u, h1, f2 _ _ (f2 _ _ hz (Or.inr (Or.inr (Or.inl ⟨_, rfl, rfl, hU⟩)))) (Or.inr (Or.inl ⟨_, u, rfl, rfl, hU, h1⟩))⟩
  have e5 : ct_n (fun c => U (12 * (τ + 1) + c) ∧ ∃ u, ff (12 * (τ + 1) + c) = some u ∧ Z (2 * u + 1)) 12 ≤ fl_y U Z τ := by
    refine ct_inj (fun c => fl_p ff (12 * (τ + 1) + c)) (fun c hc ⟨hU, u, h1, hz⟩ => ?_) (fun c c' hc hc' ⟨hU, u, h1, _⟩ ⟨hU', u', h1', _⟩ e => ?_)
    · obtain ⟨_, h2, h3, h4⟩ := fl_ffU V0 h1
      have hl := h4.1
      show fl_p ff (12 * (τ + 1) + c) < 12 ∧ U (12 * τ + fl_p ff (12 * (τ + 1) + c)) ∧ _
      rw [fl_p_e h1]
      have eu : 12 * τ + u % 12 = u := by omega
      rw [eu]
      exact ⟨by omega, h2, hz⟩
    · obtain ⟨_, _, h3, h4⟩ := fl_ffU V0 h1
      obtain ⟨_, _, h3', h4'⟩ := fl_ffU V0 h1'
      have hl := h4.1
      have hl' := h4'.1
      replace e : fl_p ff (12 * (τ + 1) + c) = fl_p ff (12 * (τ + 1) + c') := e
      rw [fl_p_e h1, fl_p_e h1'] at e
      have eu : u = u' := by omega
      rw [eu, h3'] at h3
      have := Option.some.inj h3
      omega
  omega
end
end
section
theorem dg_lt (j s : Nat) : dg_j j s < 12 := by
  unfold dg_j
  split
  · omega
  · split <;> omega
theorem dg_mv {tg : Nat → Nat → Option Nat} {k s t i : Nat} (hk : mo_K k) (m : mo_M tg k s t) (hi : i < k) : mo_mv tg (dg_j i s) (dg_j i t) := by
  have : i = 0 ∨ i = 1 ∨ i = 2 := by rcases hk with e | e | e <;> omega
  rcases this with rfl | rfl | rfl
  · exact m.2.1
  · exact (m.2.2.1 (by omega)).1
  · exact (m.2.2.2 (by omega)).1
theorem dg_ne {k s i j : Nat} (hk : mo_K k) (hv : mo_V k s) (hi : i < k) (hj : j < k) (e : dg_j i s = dg_j j s) : i = j := by
  have h1 : i = 0 ∨ i = 1 ∨ i = 2 := by rcases hk with e | e | e <;> omega
  have h2 : j = 0 ∨ j = 1 ∨ j = 2 := by rcases hk with e | e | e <;> omega
  rcases h1 with rfl | rfl | rfl <;> rcases h2 with rfl | rfl | rfl
  · rfl
  · exact absurd e (hv.2.1 (by omega))
  · exact absurd e (hv.2.2 (by omega)).1
  · exact absurd e.symm (hv.2.1 (by omega))
  · rfl
  · exact absurd e (hv.2.2 (by omega)).2
  · exact absurd e.symm (hv.2.2 (by omega)).1
  · exact absurd e.symm (hv.2.2 (by omega)).2
  · rfl
section
variable {tg : Nat → Nat → Option Nat} {op : Nat → Prop} {t k st : Nat} {S G U Z : Nat → Prop} {ff ft : Nat → Option Nat}
/-- at the first copy -/
theorem fl_base (hk : mo_K k) (V : fl_V tg t S G U ff ft) (F : fl_Z tg t S G U ff ft Z) (hv : mo_V k st) (hS : ∀ i, i < k → S (dg_j i st)) :
    k + fl_y U Z 0 ≤ ct_n (fun i => Z (2 * (12 * 0 + dg_j i st) + 1)) k + ct_n U 12 := by
  have e0 : ct_n (fun _ => True) k = k := ct_all fun _ _ => trivial
  have e1 := ct_split (fun _ => True) (fun i => Z (2 * (12 * 0 + dg_j i st) + 1)) k
  have e2 := ct_split U (fun c => Z (2 * (12 * 0 + c) + 1)) 12
  have e3 : ct_n (fun i => True ∧ ¬ Z (2 * (12 * 0 + dg_j i st) + 1)) k ≤ ct_n (fun c => U c ∧ ¬ Z (2 * (12 * 0 + c) + 1)) 12 := by
    refine ct_inj (fun i => dg_j i st) (fun i hi ⟨_, nz⟩ => ⟨dg_lt i st, ?_, nz⟩) (fun i j h1 h2 _ _ e => dg_ne hk hv h1 h2 e)
    rcases Classical.em (U (dg_j i st)) with q | q
    · exact q
    · exfalso
      apply nz
      rw [show 12 * 0 + dg_j i st = dg_j i st by omega]
      have := dg_lt i st
      exact F.2.1 _ _ (F.1 _ ⟨dg_j i st, rfl, dg_lt i st, hS i hi, q⟩) (Or.inl ⟨_, rfl, rfl, by omega, q⟩)
  have e4 : ct_n (fun i => True ∧ Z (2 * (12 * 0 + dg_j i st) + 1)) k = ct_n (fun i => Z (2 * (12 * 0 + dg_j i st) + 1)) k := ct_eq fun i _ => ⟨fun z => z.2, fun z => ⟨trivial, z⟩⟩
  have e5 : fl_y U Z 0 = ct_n (fun c => U c ∧ Z (2 * (12 * 0 + c) + 1)) 12 := ct_eq fun c _ => by rw [show 12 * 0 + c = c by omega]
  omega
/-- along a plan -/
theorem fl_along (hk : mo_K k) (V : fl_V tg t S G U ff ft) (F : fl_Z tg t S G U ff ft Z) (hv : mo_V k st) (hS : ∀ i, i < k → S (dg_j i st)) :
    ∀ τ c s, τ ≤ t → gr_W (mo_E tg false k) τ c st s → mo_V k s ∧ k + fl_y U Z τ ≤ ct_n (fun i => Z (2 * (12 * τ + dg_j i s) + 1)) k + ct_n U 12 := by
  intro τ
  induction τ with
  | zero =>
    intro c s _ h
    obtain ⟨_, rfl⟩ := h
    exact ⟨hv, fl_base hk V F hv hS⟩
  | succ τ ih =>
    intro c s hτ h
    obtain ⟨u, c1, w, h1, e, _⟩ := h
    obtain ⟨hu, ih⟩ := ih c1 u (by omega) h1
    have hvs := mo_E_V e
    have l := fl_lost V F (τ := τ) (by omega) (m := k) (P := fun i => Z (2 * (12 * τ + dg_j i u) + 1)) (f := fun i => dg_j i s)
      (fun i hi hz => ⟨dg_lt i s, dg_j i u, dg_lt i u, hz, dg_mv hk e.2.1 hi⟩) (fun i j h1 h2 _ _ e => dg_ne hk hvs h1 h2 e)
    have l2 : ct_n (fun i => Z (2 * (12 * τ + dg_j i u) + 1) ∧ Z (2 * (12 * (τ + 1) + dg_j i s) + 1)) k ≤ ct_n (fun i => Z (2 * (12 * (τ + 1) + dg_j i s) + 1)) k := ct_mono fun i _ z => z.2
    exact ⟨hvs, by omega⟩
/-- at the last copy -/
theorem fl_end (F : fl_Z tg t S G U ff ft Z) {m : Nat} {P : Nat → Prop} {f : Nat → Nat} (h : ∀ i, i < m → P i → f i < 12 ∧ G (f i) ∧ Z (2 * (12 * t + f i) + 1)) (hi : ∀ i j, i < m → j < m → P i → P j → f i = f j → i = j) : ct_n P m ≤ fl_y U Z t := by
  refine ct_inj f (fun i hm p => ?_) hi
  obtain ⟨l, g, z⟩ := h i hm p
  refine ⟨l, ?_, z⟩
  rcases Classical.em (U (12 * t + f i)) with q | q
  · exact q
  · exact absurd ⟨_, rfl, by omega, by omega, q, by rw [show (12 * t + f i) % 12 = f i by omega]; exact g⟩ (F.2.2 _ z)
/-- a search that fails: no plan of so many turns for more walkers than there are ways -/
theorem fl_noplan (hk : mo_K k) (V : fl_V tg t S G U ff ft) (F : fl_Z tg t S G U ff ft Z) (hv : mo_V k st) (hS : ∀ i, i < k → S (dg_j i st)) (hu : ct_n U 12 < k) {c s : Nat} (h : gr_W (mo_E tg false k) t c st s) (hG : ∀ i, i < k → G (dg_j i s)) : False := by
  obtain ⟨hvs, l⟩ := fl_along hk V F hv hS t c s (Nat.le_refl _) h
  have e := fl_end F (m := k) (P := fun i => Z (2 * (12 * t + dg_j i s) + 1)) (f := fun i => dg_j i s) (fun i hi z => ⟨dg_lt i s, hG i hi, z⟩) (fun i j h1 h2 _ _ e => dg_ne hk hvs h1 h2 e)
  omega
/-- the cells from which the search goes on, copy by copy: a closed set comes soon -/
theorem fl_closed (ok : cg_OK tg op) (hk : mo_K k) (V : fl_V tg t S G U ff ft) (F : fl_Z tg t S G U ff ft Z) (hv : mo_V k st) (hS : ∀ i, i < k → S (dg_j i st)) (hu : ct_n U 12 < k) (ht : 12 ≤ t) :
    ∃ τ, τ < t ∧ ∀ c c', c < 12 → Z (2 * (12 * τ + c) + 1) → mo_mv tg c c' → Z (2 * (12 * τ + c') + 1) := by
  rcases Classical.em (∃ τ, τ < t ∧ ∀ c c', c < 12 → Z (2 * (12 * τ + c) + 1) → mo_mv tg c c' → Z (2 * (12 * τ + c') + 1)) with q | q
  · exact q
  · exfalso
    have grow : ∀ τ, τ ≤ t → fl_y U Z τ + τ + 1 ≤ ct_n (fun c => Z (2 * (12 * τ + c) + 1)) 12 := by
      intro τ
      induction τ with
      | zero =>
        intro _
        have b := fl_base hk V F hv hS
        -- some start is not used
        have ex : ∃ i, i < k ∧ ¬ U (dg_j i st) := by
          rcases Classical.em (∃ i, i < k ∧ ¬ U (dg_j i st)) with r | r
          · exact r
          · exfalso
            have e0 : ct_n (fun _ => True) k = k := ct_all fun _ _ => trivial
            have := ct_inj (P := fun _ => True) (M := 12) (fun i => dg_j i st) (N := k) (Q := U) (fun i hi _ => ⟨dg_lt i st, by
              rcases Classical.em (U (dg_j i st)) with z | z
              · exact z
              · exact absurd ⟨i, hi, z⟩ r⟩) (fun i j h1 h2 _ _ e => dg_ne hk hv h1 h2 e)
            omega
        obtain ⟨i, hi, hn⟩ := ex
        have li := dg_lt i st
        have hz : Z (2 * (12 * 0 + dg_j i st) + 1) := by
          rw [show 12 * 0 + dg_j i st = dg_j i st by omega]
          exact F.2.1 _ _ (F.1 _ ⟨dg_j i st, rfl, li, hS i hi, hn⟩) (Or.inl ⟨_, rfl, rfl, by omega, hn⟩)
        have := ct_lt (P := fun c => U (12 * 0 + c) ∧ Z (2 * (12 * 0 + c) + 1)) (Q := fun c => Z (2 * (12 * 0 + c) + 1)) (a := dg_j i st) (N := 12) (fun z => hn (by have := z.1; rwa [show 12 * 0 + dg_j i st = dg_j i st by omega] at this)) hz (fun c _ z => z.2) li
        unfold fl_y
        omega
      | succ τ ih =>
        intro hτ
        have ih := ih (by omega)
        have hno : ¬ ∀ c c', c < 12 → Z (2 * (12 * τ + c) + 1) → mo_mv tg c c' → Z (2 * (12 * τ + c') + 1) := fun r => q ⟨τ, by omega, r⟩
        have ex : ∃ c c', c < 12 ∧ Z (2 * (12 * τ + c) + 1) ∧ mo_mv tg c c' ∧ ¬ Z (2 * (12 * τ + c') + 1) := by
          rcases Classical.em (∃ c c', c < 12 ∧ Z (2 * (12 * τ + c) + 1) ∧ mo_mv tg c c' ∧ ¬ Z (2 * (12 * τ + c') + 1)) with r | r
          · exact r
          · exfalso
            apply hno
            intro c c' h1 h2 h3
            rcases Classical.em (Z (2 * (12 * τ + c') + 1)) with z | z
            · exact z
            · exact absurd ⟨c, c', h1, h2, h3, z⟩ r
        obtain ⟨c, c', h1, h2, h3, h4⟩ := ex
        have lc' : c' < 12 := by
          rcases h3 with rfl | ⟨d, _, h⟩
          · exact h1
          · exact (ok c d c' h1 h).1
        have l := fl_lost V F (τ := τ) (by omega) (m := 12) (P := fun x => Z (2 * (12 * τ + x) + 1) ∨ x = c') (f := fun x => x)
          (fun x hx p => ⟨hx, by
            rcases p with p | rfl
            · exact ⟨x, hx, p, Or.inl rfl⟩
            · exact ⟨c, h1, h2, h3⟩⟩) (fun _ _ _ _ _ _ e => e)
        have a := ct_add (P := fun x => Z (2 * (12 * τ + x) + 1)) (a := c') h4 (N := 12) lc'
        have m2 : ct_n (fun x => (Z (2 * (12 * τ + x) + 1) ∨ x = c') ∧ Z (2 * (12 * (τ + 1) + x) + 1)) 12 ≤ ct_n (fun x => Z (2 * (12 * (τ + 1) + x) + 1)) 12 := ct_mono fun x _ z => z.2
        omega
    have g := grow 12 ht
    have := ct_le (fun c => Z (2 * (12 * 12 + c) + 1)) 12
    omega
/-- a search that fails in the copies of so many turns: no plan at all -/
theorem fl_never (ok : cg_OK tg op) (hk : mo_K k) (V : fl_V tg t S G U ff ft) (F : fl_Z tg t S G U ff ft Z) (hv : mo_V k st) (hS : ∀ i, i < k → S (dg_j i st)) (hu : ct_n U 12 < k) (ht : 12 ≤ t) {c s : Nat} (h : gr_R (mo_E tg false k) c st s) (hG : ∀ i, i < k → G (dg_j i s)) : False := by
  obtain ⟨τ, hτ, hc⟩ := fl_closed ok hk V F hv hS hu ht
  have hvs := mo_R_V hv h
  -- starts
  have st1 : ∀ σ, σ ≤ τ → k + fl_y U Z σ ≤ ct_n (fun i => Z (2 * (12 * σ + dg_j i st) + 1)) k + ct_n U 12 := by
    intro σ
    induction σ with
    | zero => exact fun _ => fl_base hk V F hv hS
    | succ σ ih =>
      intro hσ
      have ih := ih (by omega)
      have l := fl_lost V F (τ := σ) (by omega) (m := k) (P := fun i => Z (2 * (12 * σ + dg_j i st) + 1)) (f := fun i => dg_j i st) (fun i hi z => ⟨dg_lt i st, dg_j i st, dg_lt i st, z, Or.inl rfl⟩) (fun i j h1 h2 _ _ e => dg_ne hk hv h1 h2 e)
      have m2 : ct_n (fun i => Z (2 * (12 * σ + dg_j i st) + 1) ∧ Z (2 * (12 * (σ + 1) + dg_j i st) + 1)) k ≤ ct_n (fun i => Z (2 * (12 * (σ + 1) + dg_j i st) + 1)) k := ct_mono fun i _ z => z.2
      omega
  -- goals
  have gl1 : ∀ m σ, σ + m = t → ct_n (fun i => G i ∧ Z (2 * (12 * σ + i) + 1)) 12 ≤ fl_y U Z σ := by
    intro m
    induction m with
    | zero =>
      intro σ hσ
      obtain rfl : σ = t := by omega
      exact fl_end F (f := fun i => i) (fun i hi z => ⟨hi, z.1, z.2⟩) (fun _ _ _ _ _ _ e => e)
    | succ m ih =>
      intro σ hσ
      have ih := ih (σ + 1) (by omega)
      have l := fl_lost V F (τ := σ) (by omega) (m := 12) (P := fun i => G i ∧ Z (2 * (12 * σ + i) + 1)) (f := fun i => i) (fun i hi z => ⟨hi, i, hi, z.2, Or.inl rfl⟩) (fun _ _ _ _ _ _ e => e)
      have m2 : ct_n (fun i => (G i ∧ Z (2 * (12 * σ + i) + 1)) ∧ Z (2 * (12 * (σ + 1) + i) + 1)) 12 ≤ ct_n (fun i => G i ∧ Z (2 * (12 * (σ + 1) + i) + 1)) 12 := ct_mono fun i _ z => ⟨z.1.1, z.2⟩
      omega
  have a1 := st1 τ (Nat.le_refl _)
  have a2 := gl1 (t - τ) τ (by omega)
  -- nobody leaves the closed set
  have stay : ∀ i, i < k → Z (2 * (12 * τ + dg_j i st) + 1) → Z (2 * (12 * τ + dg_j i s) + 1) := by
    intro i hi
    refine gr_ind (P := fun _ s => Z (2 * (12 * τ + dg_j i st) + 1) → Z (2 * (12 * τ + dg_j i s) + 1)) (fun z => z) (fun _ u x w _ ih e z => ?_) h
    exact hc _ _ (dg_lt i u) (ih z) (dg_mv hk e.2.1 hi)
  have a3 : ct_n (fun i => Z (2 * (12 * τ + dg_j i st) + 1)) k ≤ ct_n (fun i => G i ∧ Z (2 * (12 * τ + i) + 1)) 12 :=
    ct_inj (fun i => dg_j i s) (fun i hi z => ⟨dg_lt i s, hG i hi, stay i hi z⟩) (fun i j h1 h2 _ _ e => dg_ne hk hvs h1 h2 e)
  omega
end
end
section
/-- a way found by the search, from its end back to its source: ch 0 .. ch J -/
def fl_P (tg : Nat → Nat → Option Nat) (t : Nat) (S G U : Nat → Prop) (ff ft : Nat → Option Nat) (ch : Nat → Nat) (J : Nat) : Prop :=
  fl_si t G U (ch 0) ∧ fl_so S U (ch J) ∧ (∀ i, i < J → fl_R tg t U ff ft (ch (i + 1)) (ch i)) ∧ ∀ i j, i ≤ J → j ≤ J → ch i = ch j → i = j
/-- its step from x to y, among the last m -/
def fl_s (ch : Nat → Nat) (m x y : Nat) : Prop := ∃ i, i < m ∧ x = ch (i + 1) ∧ y = ch i
/-- what is written along it -/
def fl_N (U U' : Nat → Prop) (ff ft ff' ft' : Nat → Option Nat) (ch : Nat → Nat) (m : Nat) : Prop :=
  (∀ v, U' v ↔ fl_s ch m (2 * v) (2 * v + 1) ∨ (U v ∧ ¬ fl_s ch m (2 * v + 1) (2 * v))) ∧
  (∀ v, (∀ w, w ≠ v → fl_s ch m (2 * v + 1) (2 * w) → ft' v = some w) ∧ (fl_s ch m (2 * v + 1) (2 * v) → ft' v = none) ∧ ((∀ w, ¬ fl_s ch m (2 * v + 1) (2 * w)) → ft' v = ft v)) ∧
  (∀ v, (∀ u, u ≠ v → fl_s ch m (2 * u + 1) (2 * v) → ff' v = some u) ∧ (fl_s ch m (2 * v + 1) (2 * v) → ff' v = none) ∧ ((∀ u, ¬ fl_s ch m (2 * u + 1) (2 * v)) → ff' v = ff v))
section
variable {tg : Nat → Nat → Option Nat} {t : Nat} {S G U U' : Nat → Prop} {ff ft ff' ft' : Nat → Option Nat} {ch : Nat → Nat} {J : Nat}
theorem fl_aug (V : fl_V tg t S G U ff ft) (P : fl_P tg t S G U ff ft ch J) (N : fl_N U U' ff ft ff' ft' ch J) : fl_V tg t S G U' ff' ft' ∧ ∃ s, s < 12 ∧ ¬ U s ∧ ∀ v, v < 12 → (U' v ↔ U v ∨ v = s) := by
  obtain ⟨hend, hsrc, hR, hinj⟩ := P
  obtain ⟨e, he, he1, he2, he3, he4⟩ := hend
  obtain ⟨s, hs, hs1, hs2, hs3⟩ := hsrc
  obtain ⟨nU, nT, nF⟩ := N
  have V0 := V
  obtain ⟨v1, v2, v3, v4, v5, v6⟩ := V
  -- steps of the way
  have su : ∀ {x y y'}, fl_s ch J x y → fl_s ch J x y' → y = y' := by
    rintro x y y' ⟨i, hi, h1, h2⟩ ⟨j, hj, h3, h4⟩
    have := hinj (i + 1) (j + 1) (by omega) (by omega) (h1.symm.trans h3)
    rw [h2, h4, show i = j by omega]
  have pu : ∀ {x x' y}, fl_s ch J x y → fl_s ch J x' y → x = x' := by
    rintro x x' y ⟨i, hi, h1, h2⟩ ⟨j, hj, h3, h4⟩
    have := hinj i j (by omega) (by omega) (h2.symm.trans h4)
    rw [h1, h3, this]
  have nx : ∀ {x y}, fl_s ch J x y → y = ch 0 ∨ ∃ z, fl_s ch J y z := by
    rintro x y ⟨i, hi, h1, h2⟩
    rcases Nat.eq_zero_or_pos i with rfl | z
    · exact Or.inl h2
    · exact Or.inr ⟨ch (i - 1), i - 1, by omega, by rw [show i - 1 + 1 = i by omega]; exact h2, rfl⟩
  have pv : ∀ {x y}, fl_s ch J x y → x = ch J ∨ ∃ z, fl_s ch J z x := by
    rintro x y ⟨i, hi, h1, h2⟩
    rcases Nat.decEq (i + 1) J with z | z
    · exact Or.inr ⟨ch (i + 2), i + 1, by omega, rfl, h1⟩
    · exact Or.inl (by rw [h1, z])
  have noend : ∀ {y}, ¬ fl_s ch J (ch 0) y := by
    rintro y ⟨i, hi, h1, _⟩
    have := hinj 0 (i + 1) (by omega) (by omega) h1
    omega
  have nosrc : ∀ {x}, ¬ fl_s ch J x (ch J) := by
    rintro x ⟨i, hi, _, h2⟩
    have := hinj J i (by omega) (by omega) h2
    omega
  have rs : ∀ {x y}, fl_s ch J x y → fl_R tg t U ff ft x y := by
    rintro x y ⟨i, hi, rfl, rfl⟩
    exact hR i hi
  have noself : ∀ v, ff v ≠ some v := fun v h => by
    have := (fl_ffU V0 h).2.2.2.1
    omega
  -- the four kinds
  have F1 : ∀ {v}, fl_s ch J (2 * v) (2 * v + 1) → ¬ U v ∧ v < 12 * (t + 1) := by
    intro v h
    rcases rs h with ⟨a, h1, h2, h3, h4⟩ | ⟨a, b, h1, h2, h3, h4⟩ | ⟨a, h1, h2, h3⟩ | ⟨a, b, h1, h2, _⟩
    · have : a = v := by omega
      subst this
      exact ⟨h4, h3⟩
    · have e1 : a = v := by omega
      have e2 : b = v := by omega
      subst e1
      subst e2
      exact absurd h4 (noself _)
    · omega
    · omega
  have F2 : ∀ {v u}, fl_s ch J (2 * v) (2 * u + 1) → u ≠ v → U v ∧ ff v = some u := by
    intro v u h hne
    rcases rs h with ⟨a, h1, h2, h3, h4⟩ | ⟨a, b, h1, h2, h3, h4⟩ | ⟨a, h1, h2, h3⟩ | ⟨a, b, h1, h2, _⟩
    · omega
    · have e1 : a = v := by omega
      have e2 : b = u := by omega
      subst e1
      subst e2
      exact ⟨h3, h4⟩
    · omega
    · omega
  have F3 : ∀ {v}, fl_s ch J (2 * v + 1) (2 * v) → U v := by
    intro v h
    rcases rs h with ⟨a, h1, h2, h3, h4⟩ | ⟨a, b, h1, h2, h3, h4⟩ | ⟨a, h1, h2, h3⟩ | ⟨a, b, h1, h2, h3, h4, h5⟩
    · omega
    · omega
    · have : a = v := by omega
      subst this
      exact h3
    · have e1 : a = v := by omega
      have e2 : b = v := by omega
      subst e1
      subst e2
      have := h4.1
      omega
  have F4 : ∀ {v w}, fl_s ch J (2 * v + 1) (2 * w) → w ≠ v → v < 12 * t ∧ fl_edge tg v w := by
    intro v w h hne
    rcases rs h with ⟨a, h1, h2, h3, h4⟩ | ⟨a, b, h1, h2, h3, h4⟩ | ⟨a, h1, h2, h3⟩ | ⟨a, b, h1, h2, h3, h4, h5⟩
    · omega
    · omega
    · omega
    · have e1 : a = v := by omega
      have e2 : b = w := by omega
      subst e1
      subst e2
      exact ⟨h3, h4⟩
  have fromI : ∀ {v y}, fl_s ch J (2 * v) y → ∃ u, y = 2 * u + 1 := by
    intro v y h
    rcases rs h with ⟨a, h1, h2, h3, h4⟩ | ⟨a, b, h1, h2, h3, h4⟩ | ⟨a, h1, h2, h3⟩ | ⟨a, b, h1, h2, _⟩
    · exact ⟨a, h2⟩
    · exact ⟨b, h2⟩
    · omega
    · omega
  have fromO : ∀ {v y}, fl_s ch J (2 * v + 1) y → ∃ w, y = 2 * w := by
    intro v y h
    rcases rs h with ⟨a, h1, h2, h3, h4⟩ | ⟨a, b, h1, h2, h3, h4⟩ | ⟨a, h1, h2, h3⟩ | ⟨a, b, h1, h2, _⟩
    · omega
    · omega
    · exact ⟨a, h2⟩
    · exact ⟨b, h2⟩
  have toI : ∀ {x v}, fl_s ch J x (2 * v) → ∃ u, x = 2 * u + 1 := by
    intro x v h
    rcases rs h with ⟨a, h1, h2, h3, h4⟩ | ⟨a, b, h1, h2, h3, h4⟩ | ⟨a, h1, h2, h3⟩ | ⟨a, b, h1, h2, _⟩
    · omega
    · omega
    · exact ⟨a, h1⟩
    · exact ⟨a, h1⟩
  have toO : ∀ {x v}, fl_s ch J x (2 * v + 1) → ∃ u, x = 2 * u := by
    intro x v h
    rcases rs h with ⟨a, h1, h2, h3, h4⟩ | ⟨a, b, h1, h2, h3, h4⟩ | ⟨a, h1, h2, h3⟩ | ⟨a, b, h1, h2, _⟩
    · exact ⟨a, h1⟩
    · exact ⟨a, h1⟩
    · omega
    · omega
  -- what follows a coming, what comes ahead of a going
  have afterI : ∀ {x v}, fl_s ch J x (2 * v) → fl_s ch J (2 * v) (2 * v + 1) ∨ ∃ u, u ≠ v ∧ fl_s ch J (2 * v) (2 * u + 1) ∧ U v ∧ ff v = some u := by
    intro x v h
    rcases nx h with q | ⟨z, q⟩
    · omega
    · obtain ⟨u, rfl⟩ := fromI q
      rcases Nat.decEq u v with r | rfl
      · exact Or.inr ⟨u, r, q, F2 q r⟩
      · exact Or.inl q
  have beforeO : ∀ {v y}, fl_s ch J (2 * v + 1) y → fl_s ch J (2 * v) (2 * v + 1) ∨ ∃ x, x ≠ v ∧ fl_s ch J (2 * x) (2 * v + 1) ∧ U x ∧ ff x = some v := by
    intro v y h
    rcases pv h with q | ⟨z, q⟩
    · omega
    · obtain ⟨x, rfl⟩ := toO q
      rcases Nat.decEq x v with r | rfl
      · have := F2 q (fun e => r e.symm)
        exact Or.inr ⟨x, r, q, this⟩
      · exact Or.inl q
  -- both ends of a new step are used
  have Uu : ∀ {u v}, u ≠ v → fl_s ch J (2 * u + 1) (2 * v) → U' u := by
    intro u v hne h
    rcases beforeO h with q | ⟨x, _, q, hx1, hx2⟩
    · exact (nU u).mpr (Or.inl q)
    · refine (nU u).mpr (Or.inr ⟨(fl_ffU V0 hx2).2.1, fun r => ?_⟩)
      have := su h r
      omega
  have Uw : ∀ {v w}, v ≠ w → fl_s ch J (2 * v + 1) (2 * w) → U' w := by
    intro v w hne h
    rcases afterI h with q | ⟨u, _, q, hu1, hu2⟩
    · exact (nU w).mpr (Or.inl q)
    · refine (nU w).mpr (Or.inr ⟨hu1, fun r => ?_⟩)
      have := pu h r
      omega
  -- a used cell of the first copy is not given up
  have keep0 : ∀ {v}, v < 12 → U v → ¬ fl_s ch J (2 * v + 1) (2 * v) := by
    intro v hv hU h
    rcases afterI h with q | ⟨u, _, _, _, hf⟩
    · exact (F1 q).1 hU
    · rw [(v2 v hU hv).2] at hf; cases hf
  have inA : ∀ {v}, fl_s ch J (2 * v) (2 * v + 1) → (v = s ∧ ∀ x, ¬ fl_s ch J x (2 * v)) ∨ ∃ u, u ≠ v ∧ fl_s ch J (2 * u + 1) (2 * v) ∧ u < 12 * t ∧ fl_edge tg u v := by
    intro v h
    rcases pv h with q | ⟨z, q⟩
    · refine Or.inl ⟨by omega, fun x r => ?_⟩
      rw [q] at r
      exact nosrc r
    · obtain ⟨u, rfl⟩ := toI q
      rcases Nat.decEq u v with r | rfl
      · exact Or.inr ⟨u, r, q, F4 q (fun e => r e.symm)⟩
      · exact absurd (F3 q) (F1 h).1
  refine ⟨⟨?_, ?_, ?_, ?_, ?_, ?_⟩, s, hs1, hs3, ?_⟩
  · intro v hv
    rcases (nU v).mp hv with h | ⟨h, _⟩
    · exact (F1 h).2
    · exact v1 v h
  · intro v hv hl
    rcases (nU v).mp hv with h | ⟨h, hn⟩
    · rcases inA h with ⟨rfl, hx⟩ | ⟨u, _, _, _, hedge⟩
      · exact ⟨hs2, by rw [(nF v).2.2 fun u => hx _]; exact (v6 v (F1 h).1).1⟩
      · have := hedge.1
        omega
    · refine ⟨(v2 v h hl).1, ?_⟩
      rw [(nF v).2.2 fun u r => ?_]
      · exact (v2 v h hl).2
      · rcases Nat.decEq u v with q | rfl
        · have := (F4 r (fun e => q e.symm)).2.1
          omega
        · exact hn r
  · intro v hv hl
    rcases (nU v).mp hv with h | ⟨h, hn⟩
    · rcases inA h with ⟨rfl, hx⟩ | ⟨u, hne, hst, _, hedge⟩
      · omega
      · exact ⟨u, (nF v).1 u hne hst, Uu hne hst, (nT u).1 v (fun e => hne e.symm) hst, hedge⟩
    · rcases Classical.em (∃ x, fl_s ch J (2 * x + 1) (2 * v)) with ⟨x, hx⟩ | hno
      · have hne : x ≠ v := fun e => hn (e ▸ hx)
        exact ⟨x, (nF v).1 x hne hx, Uu hne hx, (nT x).1 v (fun e => hne e.symm) hx, (F4 hx (fun e => hne e.symm)).2⟩
      · obtain ⟨u, h1, h2, h3, h4⟩ := v3 v h hl
        have hnoO : ∀ w, ¬ fl_s ch J (2 * u + 1) (2 * w) := by
          intro w hw
          rcases beforeO hw with q | ⟨x, _, q, _, hx2⟩
          · exact (F1 q).1 h2
          · have := (fl_ffU V0 hx2).2.2.1
            rw [h3] at this
            have := Option.some.inj this
            subst this
            rcases pv q with r | ⟨z, r⟩
            · have : v = s := by omega
              exact hs3 (this ▸ h)
            · obtain ⟨y, rfl⟩ := toI r
              exact hno ⟨y, r⟩
        exact ⟨u, by rw [(nF v).2.2 fun x hx => hno ⟨x, hx⟩]; exact h1, (nU u).mpr (Or.inr ⟨h2, hnoO u⟩), by rw [(nT u).2.2 hnoO]; exact h3, h4⟩
  · intro v hv hl
    rcases (nU v).mp hv with h | ⟨h, hn⟩
    · have hno : ∀ w, ¬ fl_s ch J (2 * v + 1) (2 * w) := by
        intro w hw
        rcases Nat.decEq w v with q | rfl
        · have := (F4 hw q).1
          omega
        · exact (F1 h).1 (F3 hw)
      rcases nx h with q | ⟨z, q⟩
      · have : v = e := by omega
        subst this
        exact ⟨he4, by rw [(nT v).2.2 hno]; exact (v6 v (F1 h).1).2⟩
      · obtain ⟨w, rfl⟩ := fromO q
        exact absurd q (hno w)
    · have hno : ∀ w, ¬ fl_s ch J (2 * v + 1) (2 * w) := by
        intro w hw
        rcases Nat.decEq w v with q | rfl
        · have := (F4 hw q).1
          omega
        · exact hn hw
      exact ⟨(v4 v h hl).1, by rw [(nT v).2.2 hno]; exact (v4 v h hl).2⟩
  · intro v hv hl
    rcases (nU v).mp hv with h | ⟨h, hn⟩
    · rcases nx h with q | ⟨z, q⟩
      · omega
      · obtain ⟨w, rfl⟩ := fromO q
        have hne : w ≠ v := fun e => (F1 h).1 (F3 (e ▸ q))
        exact ⟨w, (nT v).1 w hne q, Uw (fun e => hne e.symm) q, (nF w).1 v (fun e => hne e.symm) q, (F4 q hne).2⟩
    · rcases Classical.em (∃ y, fl_s ch J (2 * v + 1) (2 * y)) with ⟨y, hy⟩ | hno
      · have hne : y ≠ v := fun e => hn (e ▸ hy)
        exact ⟨y, (nT v).1 y hne hy, Uw (fun e => hne e.symm) hy, (nF y).1 v (fun e => hne e.symm) hy, (F4 hy hne).2⟩
      · obtain ⟨w, h1, h2, h3, h4⟩ := v5 v h hl
        have hnoI : ∀ x, ¬ fl_s ch J (2 * x + 1) (2 * w) := by
          intro x hx
          rcases afterI hx with q | ⟨y, _, q, _, hy2⟩
          · exact (F1 q).1 h2
          · rw [h3] at hy2
            have := Option.some.inj hy2
            subst this
            rcases nx q with r | ⟨z, r⟩
            · omega
            · obtain ⟨y, rfl⟩ := fromO r
              exact hno ⟨y, r⟩
        exact ⟨w, by rw [(nT v).2.2 fun y hy => hno ⟨y, hy⟩]; exact h1, (nU w).mpr (Or.inr ⟨h2, hnoI w⟩), by rw [(nF w).2.2 hnoI]; exact h3, h4⟩
  · intro v hv
    rcases Classical.em (fl_s ch J (2 * v + 1) (2 * v)) with q | q
    · exact ⟨(nF v).2.1 q, (nT v).2.1 q⟩
    · have hK1 : ¬ fl_s ch J (2 * v) (2 * v + 1) := fun r => hv ((nU v).mpr (Or.inl r))
      have hU : ¬ U v := fun r => hv ((nU v).mpr (Or.inr ⟨r, q⟩))
      refine ⟨?_, ?_⟩
      · rw [(nF v).2.2 fun u hu => ?_]
        · exact (v6 v hU).1
        · rcases afterI hu with r | ⟨_, _, _, r, _⟩
          · exact hK1 r
          · exact hU r
      · rw [(nT v).2.2 fun w hw => ?_]
        · exact (v6 v hU).2
        · rcases beforeO hw with r | ⟨x, _, _, _, r⟩
          · exact hK1 r
          · exact hU (fl_ffU V0 r).2.1
  · intro v hl
    constructor
    · intro hv
      rcases (nU v).mp hv with h | ⟨h, _⟩
      · rcases inA h with ⟨rfl, _⟩ | ⟨u, _, _, _, hedge⟩
        · exact Or.inr rfl
        · have := hedge.1
          omega
      · exact Or.inl h
    · rintro (h | rfl)
      · exact (nU v).mpr (Or.inr ⟨h, keep0 hl h⟩)
      · have hJ : 0 < J := by
          rcases Nat.eq_zero_or_pos J with rfl | z
          · omega
          · exact z
        have h : fl_s ch J (ch J) (ch (J - 1)) := ⟨J - 1, by omega, by rw [show J - 1 + 1 = J by omega], rfl⟩
        rw [hs] at h
        obtain ⟨u, hu⟩ := fromI h
        rw [hu] at h
        rcases Nat.decEq u v with q | rfl
        · exact absurd (F2 h q).1 hs3
        · exact (nU u).mpr (Or.inl h)
end
end
section
theorem dg_s {k i : Nat} {q : Nat → Nat} (hk : mo_K k) (hq : ∀ i, i < k → q i < 12) (hi : i < k) : dg_j i (tm_s k q) = q i := by
  have d := tm_s_d hk hq
  have : i = 0 ∨ i = 1 ∨ i = 2 := by rcases hk with e | e | e <;> omega
  rcases this with rfl | rfl | rfl
  · exact d.1
  · exact d.2.1 (by omega)
  · exact d.2.2 (by omega)
theorem mo_M_of {tg : Nat → Nat → Option Nat} {k s t : Nat} (hk : mo_K k) (ht : t < mo_N k) (hm : ∀ i, i < k → mo_mv tg (dg_j i s) (dg_j i t)) (hc : ∀ i j, i < j → j < k → mo_cl (dg_j i s) (dg_j j s) (dg_j i t) (dg_j j t)) : mo_M tg k s t := by
  have k0 : 0 < k := by rcases hk with e | e | e <;> omega
  exact ⟨ht, hm 0 k0, fun h2 => ⟨hm 1 (by omega), hc 0 1 (by omega) (by omega)⟩, fun h3 => ⟨hm 2 (by omega), hc 0 2 (by omega) (by omega), hc 1 2 (by omega) (by omega)⟩⟩
def fl_ix (st c : Nat) : Nat := if dg_j 0 st = c then 0 else if dg_j 1 st = c then 1 else 2
theorem fl_ix_e {k st c i : Nat} (hk : mo_K k) (hi : i < k) (h : dg_j i st = c) : fl_ix st c < k ∧ dg_j (fl_ix st c) st = c := by
  have : i = 0 ∨ i = 1 ∨ i = 2 := by rcases hk with e | e | e <;> omega
  unfold fl_ix
  by_cases a : dg_j 0 st = c
  · rw [if_pos a]; exact ⟨by omega, a⟩
  · rw [if_neg a]
    by_cases b : dg_j 1 st = c
    · rw [if_pos b]
      rcases this with rfl | rfl | rfl
      · exact absurd h a
      · exact ⟨hi, b⟩
      · exact ⟨by omega, b⟩
    · rw [if_neg b]
      rcases this with rfl | rfl | rfl
      · exact absurd h a
      · exact absurd h b
      · exact ⟨hi, h⟩
section
variable {tg : Nat → Nat → Option Nat} {op : Nat → Prop} {t k st : Nat} {S G U : Nat → Prop} {ff ft : Nat → Option Nat}
/-- as many ways as walkers: all start -/
theorem fl_all (hk : mo_K k) (V : fl_V tg t S G U ff ft) (hS : ∀ c, S c → ∃ i, i < k ∧ dg_j i st = c) (hu : k ≤ ct_n U 12) : ∀ i, i < k → U (dg_j i st) := by
  intro i hi
  rcases Classical.em (U (dg_j i st)) with q | q
  · exact q
  · exfalso
    have a : ct_n U 12 ≤ ct_n (fun i => U (dg_j i st)) k := by
      refine ct_inj (fl_ix st) (fun c hc h => ?_) (fun c c' hc hc' h h' e => ?_)
      · obtain ⟨j, hj, hjc⟩ := hS c (V.2.1 c h hc).1
        obtain ⟨x1, x2⟩ := fl_ix_e hk hj hjc
        exact ⟨x1, by rw [x2]; exact h⟩
      · obtain ⟨j, hj, hjc⟩ := hS c (V.2.1 c h hc).1
        obtain ⟨j', hj', hjc'⟩ := hS c' (V.2.1 c' h' hc').1
        rw [← (fl_ix_e hk hj hjc).2, ← (fl_ix_e hk hj' hjc').2, e]
    have b := ct_lt (P := fun i => U (dg_j i st)) (Q := fun _ => True) (a := i) q trivial (N := k) (fun _ _ _ => trivial) hi
    have c := ct_le (fun _ => True) k
    omega
/-- one turn along the ways; two that change places both stay -/
theorem fl_turn (ok : cg_OK tg op) (hk : mo_K k) (V : fl_V tg t S G U ff ft) {τ s : Nat} (hτ : τ < t) (hv : mo_V k s) (hU : ∀ i, i < k → U (12 * τ + dg_j i s)) : ∃ s', mo_E tg false k s s' 1 ∧ ∀ i, i < k → U (12 * (τ + 1) + dg_j i s') := by
  have V0 := V
  obtain ⟨v1, v2, v3, v4, v5, v6⟩ := V
  -- where the ways go
  have hn : ∀ i, i < k → ft (12 * τ + dg_j i s) = some (12 * (τ + 1) + fl_p ft (12 * τ + dg_j i s)) ∧ fl_p ft (12 * τ + dg_j i s) < 12 ∧ mo_mv tg (dg_j i s) (fl_p ft (12 * τ + dg_j i s)) := by
    intro i hi
    have li := dg_lt i s
    obtain ⟨w, h1, h2, h3, h4⟩ := v5 _ (hU i hi) (by omega)
    have hl := h4.1
    have hm := h4.2
    rw [fl_p_e h1]
    rw [show (12 * τ + dg_j i s) % 12 = dg_j i s by omega] at hm
    exact ⟨by rw [h1, show 12 * (τ + 1) + w % 12 = w by omega], by omega, hm⟩
  have ninj : ∀ i j, i < k → j < k → fl_p ft (12 * τ + dg_j i s) = fl_p ft (12 * τ + dg_j j s) → i = j := by
    intro i j hi hj e
    have a := (hn i hi).1
    have b := (hn j hj).1
    rw [← e] at b
    have c := (fl_ftU V0 a).2.2
    rw [(fl_ftU V0 b).2.2] at c
    have := Option.some.inj c
    exact dg_ne hk hv hi hj (by omega)
  generalize hnx : (fun i => fl_p ft (12 * τ + dg_j i s)) = nx
  have hnx' : ∀ i, fl_p ft (12 * τ + dg_j i s) = nx i := fun i => by rw [← hnx]
  simp only [hnx'] at hn ninj
  generalize hq : (fun i => @ite Nat (∃ j, j < k ∧ nx j = dg_j i s ∧ nx i = dg_j j s) (Classical.propDecidable _) (dg_j i s) (nx i)) = q
  have q1 : ∀ i, (∃ j, j < k ∧ nx j = dg_j i s ∧ nx i = dg_j j s) → q i = dg_j i s := fun i h => by rw [← hq]; exact if_pos h
  have q0 : ∀ i, (¬ ∃ j, j < k ∧ nx j = dg_j i s ∧ nx i = dg_j j s) → q i = nx i := fun i h => by rw [← hq]; exact if_neg h
  have qlt : ∀ i, i < k → q i < 12 := fun i hi => by
    rcases Classical.em (∃ j, j < k ∧ nx j = dg_j i s ∧ nx i = dg_j j s) with h | h
    · rw [q1 i h]; exact dg_lt i s
    · rw [q0 i h]; exact (hn i hi).2.1
  have qU : ∀ i, i < k → U (12 * (τ + 1) + q i) := fun i hi => by
    rcases Classical.em (∃ j, j < k ∧ nx j = dg_j i s ∧ nx i = dg_j j s) with h | h
    · rw [q1 i h]
      obtain ⟨j, hj, e1, _⟩ := h
      rw [← e1]
      exact (fl_ftU V0 (hn j hj).1).2.1
    · rw [q0 i h]
      exact (fl_ftU V0 (hn i hi).1).2.1
  have qne : ∀ i j, i < k → j < k → q i = q j → i = j := fun i j hi hj e => by
    rcases Classical.em (∃ j, j < k ∧ nx j = dg_j i s ∧ nx i = dg_j j s) with h | h
    · rcases Classical.em (∃ l, l < k ∧ nx l = dg_j j s ∧ nx j = dg_j l s) with h' | h'
      · rw [q1 i h, q1 j h'] at e
        exact dg_ne hk hv hi hj e
      · exfalso
        rw [q1 i h, q0 j h'] at e
        obtain ⟨l, hl, e1, e2⟩ := h
        have : l = j := ninj l j hl hj (e1.trans e)
        subst this
        exact h' ⟨i, hi, e2, e1⟩
    · rcases Classical.em (∃ l, l < k ∧ nx l = dg_j j s ∧ nx j = dg_j l s) with h' | h'
      · exfalso
        rw [q0 i h, q1 j h'] at e
        obtain ⟨l, hl, e1, e2⟩ := h'
        have : l = i := ninj l i hl hi (e1.trans e.symm)
        subst this
        exact h ⟨j, hj, e2, e1⟩
      · rw [q0 i h, q0 j h'] at e
        exact ninj i j hi hj e
  have ds : ∀ i, i < k → dg_j i (tm_s k q) = q i := fun i hi => dg_s hk qlt hi
  refine ⟨tm_s k q, ⟨hv.1, mo_M_of hk (tm_s_lt hk qlt) (fun i hi => ?_) (fun i j hij hj => ?_), rfl⟩, fun i hi => by rw [ds i hi]; exact qU i hi⟩
  · rw [ds i hi]
    rcases Classical.em (∃ j, j < k ∧ nx j = dg_j i s ∧ nx i = dg_j j s) with h | h
    · rw [q1 i h]; exact Or.inl rfl
    · rw [q0 i h]; exact (hn i hi).2.2
  · have hi : i < k := by omega
    rw [ds i hi, ds j hj]
    refine ⟨fun e => by have := qne i j hi hj e; omega, fun ⟨a, b⟩ => ?_⟩
    rcases Classical.em (∃ l, l < k ∧ nx l = dg_j i s ∧ nx i = dg_j l s) with h | h
    · rw [q1 i h] at a
      have := dg_ne hk hv hi hj a
      omega
    · rcases Classical.em (∃ l, l < k ∧ nx l = dg_j j s ∧ nx j = dg_j l s) with h' | h'
      · rw [q1 j h'] at b
        have := dg_ne hk hv hj hi b
        omega
      · rw [q0 i h] at a
        rw [q0 j h'] at b
        exact h ⟨j, hj, b, a⟩
theorem fl_plan (ok : cg_OK tg op) (hk : mo_K k) (V : fl_V tg t S G U ff ft) (hv : mo_V k st) (hS : ∀ c, S c → ∃ i, i < k ∧ dg_j i st = c) (hu : k ≤ ct_n U 12) : ∃ s, gr_R (mo_E tg false k) t st s ∧ ∀ i, i < k → G (dg_j i s) := by
  have key : ∀ τ, τ ≤ t → ∃ s, gr_R (mo_E tg false k) τ st s ∧ mo_V k s ∧ ∀ i, i < k → U (12 * τ + dg_j i s) := by
    intro τ
    induction τ with
    | zero =>
      intro _
      refine ⟨st, gr_r0 st, hv, fun i hi => ?_⟩
      rw [show 12 * 0 + dg_j i st = dg_j i st by omega]
      exact fl_all hk V hS hu i hi
    | succ τ ih =>
      intro hτ
      obtain ⟨s, r, hvs, hU⟩ := ih (by omega)
      obtain ⟨s', e, hU'⟩ := fl_turn ok hk V (by omega) hvs hU
      exact ⟨s', gr_rs r e, mo_E_V e, hU'⟩
  obtain ⟨s, r, _, hU⟩ := key t (Nat.le_refl _)
  refine ⟨s, r, fun i hi => ?_⟩
  have li := dg_lt i s
  have := (V.2.2.2.1 _ (hU i hi) (by omega)).1
  rwa [show (12 * t + dg_j i s) % 12 = dg_j i s by omega] at this
end
end
section
/-- what a search has reached, in order -/
def sq_I (tg : Nat → Nat → Option Nat) (t : Nat) (S U : Nat → Prop) (ff ft : Nat → Option Nat) (q : Nat → Nat) (m : Nat) (cb : Nat → Option Nat) : Prop :=
  (∀ n, (∃ p, cb n = some p) ↔ ∃ i, i < m ∧ q i = n) ∧ (∀ i j, i < m → j < m → q i = q j → i = j) ∧
  (∀ i, i < m → q i < 24 * (t + 1) ∧ ((cb (q i) = some (q i) ∧ fl_so S U (q i)) ∨ ∃ j, j < i ∧ cb (q i) = some (q j) ∧ fl_R tg t U ff ft (q j) (q i)))
def sq_R (t : Nat) (q : Nat → Nat) (m : Nat) (cb : Nat → Option Nat) (ac al : Nat → Int32) : Prop := (∀ n, n < 24 * (t + 1) → ac n = cg_eO (cb n)) ∧ ∀ i, i < m → al i = nI (q i)
def fl_A (t : Nat) (U : Nat → Prop) (ff ft : Nat → Option Nat) (au af ao : Nat → Int32) : Prop := ∀ v, v < 12 * (t + 1) → (U v → au v = 1) ∧ (¬ U v → au v = 0) ∧ af v = cg_eO (ff v) ∧ ao v = cg_eO (ft v)
theorem sq_le {tg : Nat → Nat → Option Nat} {t : Nat} {S U : Nat → Prop} {ff ft : Nat → Option Nat} {q : Nat → Nat} {m : Nat} {cb : Nat → Option Nat} (I : sq_I tg t S U ff ft q m cb) : m ≤ 24 * (t + 1) := by
  have h := ct_inj (P := fun _ => True) (M := 24 * (t + 1)) q (N := m) (Q := fun _ => True) (fun i hi _ => ⟨(I.2.2 i hi).1, trivial⟩) (fun i j hi hj _ _ e => I.2.1 i j hi hj e)
  rw [ct_all (P := fun _ => True) fun _ _ => trivial, ct_all (P := fun _ => True) fun _ _ => trivial] at h
  exact h
def sq_u (cb : Nat → Option Nat) (n p : Nat) : Nat → Option Nat := fun x => if x = n then some p else cb x
theorem sq_add {tg : Nat → Nat → Option Nat} {t : Nat} {S U : Nat → Prop} {ff ft : Nat → Option Nat} {q : Nat → Nat} {m n p : Nat} {cb : Nat → Option Nat} (I : sq_I tg t S U ff ft q m cb) (hn : n < 24 * (t + 1)) (hno : cb n = none)
    (h : (p = n ∧ fl_so S U n) ∨ ∃ j, j < m ∧ p = q j ∧ fl_R tg t U ff ft p n) : sq_I tg t S U ff ft (ag_up q m n) (m + 1) (sq_u cb n p) := by
  obtain ⟨i1, i2, i3⟩ := I
  have nv : ∀ i, i < m → q i ≠ n := fun i hi e => by
    obtain ⟨x, hx⟩ := (i1 n).mpr ⟨i, hi, e⟩
    rw [hno] at hx; cases hx
  refine ⟨fun x => ?_, fun i j hi hj e => ?_, fun i hi => ?_⟩
  · constructor
    · rintro ⟨y, hy⟩
      rcases Nat.decEq x n with z | rfl
      · unfold sq_u at hy
        rw [if_neg z] at hy
        obtain ⟨i, hi, e⟩ := (i1 x).mp ⟨y, hy⟩
        exact ⟨i, by omega, by rw [ag_un _ _ (by omega)]; exact e⟩
      · exact ⟨m, by omega, ag_us _ _ _⟩
    · rintro ⟨i, hi, e⟩
      rcases Nat.decEq i m with z | rfl
      · rw [ag_un _ _ z] at e
        obtain ⟨y, hy⟩ := (i1 x).mpr ⟨i, by omega, e⟩
        refine ⟨y, ?_⟩
        unfold sq_u
        rw [if_neg (fun r => nv i (by omega) (e.trans r))]; exact hy
      · rw [ag_us] at e
        exact ⟨p, if_pos e.symm⟩
  · rcases Nat.decEq i m with z | rfl
    · rcases Nat.decEq j m with y | rfl
      · rw [ag_un _ _ z, ag_un _ _ y] at e
        exact i2 i j (by omega) (by omega) e
      · rw [ag_un _ _ z, ag_us] at e
        exact absurd e (nv i (by omega))
    · rcases Nat.decEq j i with y | rfl
      · rw [ag_us, ag_un _ _ y] at e
        exact absurd e.symm (nv j (by omega))
      · rfl
  · rcases Nat.decEq i m with z | rfl
    · rw [ag_un _ _ z]
      obtain ⟨a, b⟩ := i3 i (by omega)
      refine ⟨a, ?_⟩
      unfold sq_u
      rw [if_neg (nv i (by omega))]
      rcases b with b | ⟨j, hj, b1, b2⟩
      · exact Or.inl b
      · exact Or.inr ⟨j, hj, by rw [ag_un _ _ (by omega)]; exact b1, by rw [ag_un _ _ (by omega)]; exact b2⟩
    · rw [ag_us]
      refine ⟨hn, ?_⟩
      unfold sq_u
      rw [if_pos rfl]
      rcases h with ⟨rfl, h⟩ | ⟨j, hj, rfl, h⟩
      · exact Or.inl ⟨rfl, h⟩
      · exact Or.inr ⟨j, hj, by rw [ag_un _ _ (by omega)], by rw [ag_un _ _ (by omega)]; exact h⟩
theorem sq_Radd {t : Nat} {q : Nat → Nat} {m n p : Nat} {cb : Nat → Option Nat} {ac al : Nat → Int32} (R : sq_R t q m cb ac al) : sq_R t (ag_up q m n) (m + 1) (sq_u cb n p) (upd ac n (nI p)) (upd al m (nI n)) := by
  refine ⟨fun x hx => ?_, fun i hi => ?_⟩
  · unfold sq_u
    rcases Nat.decEq x n with z | rfl
    · rw [pk_un z, if_neg z]; exact R.1 x hx
    · rw [pk_us, if_pos rfl]; rfl
  · rcases Nat.decEq i m with z | rfl
    · rw [ag_un _ _ z, pk_un z]; exact R.2 i (by omega)
    · rw [ag_us, pk_us]
section
variable {tg : Nat → Nat → Option Nat} {op : Nat → Prop} {t : Nat} {S G U : Nat → Prop} {ff ft : Nat → Option Nat}
variable {f_walls f_placed f_count f_byEffort f_best f_turns : Int32} {a_waysOut a_placeOf a_goalOf a_stepTo a_toGoal a_distance a_who a_cost a_origin a_closed a_onward a_queue a_cellNow a_cellNext a_walkNow a_walkNext a_used a_flowFrom a_flowTo a_cameBy a_line : Nat → Int32}
theorem xw_add {post : Int32 → SX → Prop} {q : Nat → Nat} {m n p j : Nat} {cb : Nat → Option Nat} (ht : t ≤ 26) (I : sq_I tg t S U ff ft q m cb) (R : sq_R t q m cb a_cameBy a_line) (hn : n < 24 * (t + 1)) (hj : j < m) (hp : p = q j) (hR : fl_R tg t U ff ft p n)
    (h : ∀ q' m' cb' a_cameBy a_line, sq_I tg t S U ff ft q' m' cb' → sq_R t q' m' cb' a_cameBy a_line → m ≤ m' → (∀ i, i < m → q' i = q i) → (∃ i, i < m' ∧ q' i = n) → post (nI m') (f_walls, f_placed, f_count, f_byEffort, f_best, f_turns, a_waysOut, a_placeOf, a_goalOf, a_stepTo, a_toGoal, a_distance, a_who, a_cost, a_origin, a_closed, a_onward, a_queue, a_cellNow, a_cellNext, a_walkNow, a_walkNext, a_used, a_flowFrom, a_flowTo, a_cameBy, a_line)) : wpX_add post (f_walls, f_placed, f_count, f_byEffort, f_best, f_turns, a_waysOut, a_placeOf, a_goalOf, a_stepTo, a_toGoal, a_distance, a_who, a_cost, a_origin, a_closed, a_onward, a_queue, a_cellNow, a_cellNext, a_walkNow, a_walkNext, a_used, a_flowFrom, a_flowTo, a_cameBy, a_line) (nI n) (nI p) (nI m) := by
  have cn : (nI n).toNatClampNeg = n := nI_clamp (by omega)
  have vn : vp_in (nI n) 648 := vp_in_nI (by omega) (by omega)
  refine ⟨vn, ?_⟩
  rw [cn, R.1 n hn]
  rcases hc : cb n with _ | x
  · have I' := sq_add I hn hc (Or.inr ⟨j, hj, hp, hR⟩)
    have hm := sq_le I'
    refine br_t xb_neg ⟨vn, nm_e ⟨vp_in_nI (by omega) (by omega), nm_r (by rw [nI_clamp (by omega)]) ?_⟩⟩
    rw [nI_1]
    exact h _ (m + 1) _ _ _ I' (sq_Radd R) (by omega) (fun i hi => ag_un _ _ (by omega)) ⟨m, by omega, ag_us _ _ _⟩
  · obtain ⟨i, hi, e⟩ := (I.1 n).mp ⟨x, hc⟩
    have hx : x < 2 ^ 31 := by
      have := (I.2.2 i hi)
      rw [e, hc] at this
      rcases this.2 with ⟨b, _⟩ | ⟨l, hl, b, _⟩
      · have := Option.some.inj b
        omega
      · have := Option.some.inj b
        have := (I.2.2 l (by omega)).1
        omega
    exact br_f (nI_pos hx) (h q m cb _ _ I R (Nat.le_refl _) (fun _ _ => rfl) ⟨i, hi, e⟩)
theorem xw_sp117 {post : Int32 → SX → Prop} {q0 : Nat → Nat} {m0 j v : Nat} (ok : cg_OK tg op) (hst : cg_ST tg a_stepTo) (ht : t ≤ 26) (V : fl_V tg t S G U ff ft) (A : fl_A t U ff ft a_used a_flowFrom a_flowTo) (hv : v < 12 * t) (hj : j < m0) (hq : q0 j = 2 * v + 1)
    (h : ∀ q' m' cb' a_cameBy a_line, sq_I tg t S U ff ft q' m' cb' → sq_R t q' m' cb' a_cameBy a_line → m0 ≤ m' → (∀ i, i < m0 → q' i = q0 i) → (∀ w, fl_edge tg v w → ft v ≠ some w → ∃ i, i < m' ∧ q' i = 2 * w) → post (nI m') (f_walls, f_placed, f_count, f_byEffort, f_best, nI t, a_waysOut, a_placeOf, a_goalOf, a_stepTo, a_toGoal, a_distance, a_who, a_cost, a_origin, a_closed, a_onward, a_queue, a_cellNow, a_cellNext, a_walkNow, a_walkNext, a_used, a_flowFrom, a_flowTo, a_cameBy, a_line)) :
    ∀ e o f q m cb a_cameBy a_line, o + e = 5 → e < f → sq_I tg t S U ff ft q m cb → sq_R t q m cb a_cameBy a_line → m0 ≤ m → (∀ i, i < m0 → q i = q0 i) → (∀ o' c', o' < o → mo_nx tg (v % 12) o' = some c' → ft v ≠ some (12 * (v / 12 + 1) + c') → ∃ i, i < m ∧ q i = 2 * (12 * (v / 12 + 1) + c')) →
      wX_spread_117 post (nI (2 * v + 1)) (nI v) (nI (12 * (v / 12 + 1))) f (nI m) (nI o) f_walls f_placed f_count f_byEffort f_best (nI t) a_waysOut a_placeOf a_goalOf a_stepTo a_toGoal a_distance a_who a_cost a_origin a_closed a_onward a_queue a_cellNow a_cellNext a_walkNow a_walkNext a_used a_flowFrom a_flowTo a_cameBy a_line := by
  intro e
  induction e with
  | zero =>
    intro o f q m cb a_cameBy a_line he hf I R hm hq' hx
    obtain ⟨f, rfl⟩ : ∃ m, f = m + 1 := ⟨f - 1, by omega⟩
    refine pk_le 5 o (fun _ => h q m cb a_cameBy a_line I R hm hq' fun w hw hne => ?_) (fun h => by omega)
    obtain ⟨o', ho', hnx, _⟩ := mo_mv_nx hw.2
    have ew : w = 12 * (v / 12 + 1) + w % 12 := by have := hw.1; omega
    have := hx o' (w % 12) (by omega) hnx (by rw [← ew]; exact hne)
    rw [← ew] at this
    exact this
  | succ e ih =>
    intro o f q m cb a_cameBy a_line he hf I R hm hq' hx
    obtain ⟨f, rfl⟩ : ∃ m, f = m + 1 := ⟨f - 1, by omega⟩
    have lv : v % 12 < 12 := by omega
    have cv : (nI v).toNatClampNeg = v := nI_clamp (by omega)
    have lm := sq_le I
    refine pk_le 5 o (fun _ => by omega) (fun hlt => ?_)
    have skip : (∀ c', mo_nx tg (v % 12) o = some c' → ft v = some (12 * (v / 12 + 1) + c')) → wX_spread_117 post (nI (2 * v + 1)) (nI v) (nI (12 * (v / 12 + 1))) f (nI m) (nI (o + 1)) f_walls f_placed f_count f_byEffort f_best (nI t) a_waysOut a_placeOf a_goalOf a_stepTo a_toGoal a_distance a_who a_cost a_origin a_closed a_onward a_queue a_cellNow a_cellNext a_walkNow a_walkNext a_used a_flowFrom a_flowTo a_cameBy a_line := fun r =>
      ih (o + 1) f q m cb a_cameBy a_line (by omega) (by omega) I R hm hq' fun o' c' ho hnx hne => by
        rcases Nat.decEq o' o with z | rfl
        · exact hx o' c' (by omega) hnx hne
        · exact absurd (r c' hnx) hne
    have go : wX_spread_151 post (wX_spread_117 post (nI (2 * v + 1)) (nI v) (nI (12 * (v / 12 + 1))) f) (nI (2 * v + 1)) (nI v) (nI m) (nI (12 * (v / 12 + 1))) (nI o) (cg_eO (mo_nx tg (v % 12) o)) f_walls f_placed f_count f_byEffort f_best (nI t) a_waysOut a_placeOf a_goalOf a_stepTo a_toGoal a_distance a_who a_cost a_origin a_closed a_onward a_queue a_cellNow a_cellNext a_walkNow a_walkNext a_used a_flowFrom a_flowTo a_cameBy a_line := by
      rcases hnx : mo_nx tg (v % 12) o with _ | c'
      · exact br_t xb_neg (nm_r (nI_1 o) (skip fun c' hc => by rw [hnx] at hc; cases hc))
      · have lc := mo_nx_lt ok lv hnx
        refine br_f (nI_pos (by omega)) ⟨vp_in_nI (by omega) (by omega), ?_⟩
        rw [cv, (A v (by omega)).2.2.2, cg_eOs, nI_add]
        have add : ft v ≠ some (12 * (v / 12 + 1) + c') → wpX_add (fun r_19 u => match u with | (f_walls_1, f_placed_1, f_count_1, f_byEffort_1, f_best_1, f_turns_1, a_waysOut_1, a_placeOf_1, a_goalOf_1, a_stepTo_1, a_toGoal_1, a_distance_1, a_who_1, a_cost_1, a_origin_1, a_closed_1, a_onward_1, a_queue_1, a_cellNow_1, a_cellNext_1, a_walkNow_1, a_walkNext_1, a_used_1, a_flowFrom_1, a_flowTo_1, a_cameBy_1, a_line_1) => (∀ x6_47 : Int32, x6_47 = nI o + 1 → wX_spread_117 post (nI (2 * v + 1)) (nI v) (nI (12 * (v / 12 + 1))) f r_19 x6_47 f_walls_1 f_placed_1 f_count_1 f_byEffort_1 f_best_1 f_turns_1 a_waysOut_1 a_placeOf_1 a_goalOf_1 a_stepTo_1 a_toGoal_1 a_distance_1 a_who_1 a_cost_1 a_origin_1 a_closed_1 a_onward_1 a_queue_1 a_cellNow_1 a_cellNext_1 a_walkNow_1 a_walkNext_1 a_used_1 a_flowFrom_1 a_flowTo_1 a_cameBy_1 a_line_1)) (f_walls, f_placed, f_count, f_byEffort, f_best, nI t, a_waysOut, a_placeOf, a_goalOf, a_stepTo, a_toGoal, a_distance, a_who, a_cost, a_origin, a_closed, a_onward, a_queue, a_cellNow, a_cellNext, a_walkNow, a_walkNext, a_used, a_flowFrom, a_flowTo, a_cameBy, a_line) (2 * nI (12 * (v / 12 + 1) + c')) (nI (2 * v + 1)) (nI m) := fun hne => by
          rw [show (2 : Int32) = nI 2 from rfl, pk_mul]
          refine xw_add (j := j) ht I R (by omega) (by omega) (by rw [hq' j hj, hq]) (Or.inr (Or.inr (Or.inr ⟨v, _, rfl, rfl, hv, ⟨by omega, ?_⟩, hne⟩))) fun q' m' cb' a_cameBy a_line I' R' hm' hq2 hvis => nm_r (nI_1 o) ?_
          · rw [show (12 * (v / 12 + 1) + c') % 12 = c' by omega]
            exact mo_nx_mv (by omega) hnx
          · refine ih (o + 1) f q' m' cb' a_cameBy a_line (by omega) (by omega) I' R' (by omega) (fun i hi => by rw [hq2 i (by omega), hq' i hi]) fun o' c2 ho hnx2 hne2 => ?_
            rcases Nat.decEq o' o with z | rfl
            · obtain ⟨i, hi, ei⟩ := hx o' c2 (by omega) hnx2 hne2
              exact ⟨i, by omega, by rw [hq2 i hi]; exact ei⟩
            · rw [hnx] at hnx2
              have := Option.some.inj hnx2
              subst this
              exact hvis
        rcases hf' : ft v with _ | w
        · exact br_f (fun e => by
            have := congrArg Int32.toInt e
            rw [nI_toInt (by omega), show (cg_eO none).toInt = -1 from by decide] at this
            omega) (add (by rw [hf']; exact fun e => nomatch e))
        · have lw : w < 12 * (t + 1) := V.1 w (fl_ftU V hf').2.1
          refine pk_eq w (12 * (v / 12 + 1) + c') (fun z => nm_r (nI_1 o) (skip fun c2 hc2 => ?_)) (fun z => add (by rw [hf']; exact fun e => z (Option.some.inj e)))
          rw [hnx] at hc2
          have := Option.some.inj hc2
          subst this
          rw [hf', z]
    have eo : v % 12 = v % 12 := rfl
    refine pk_eq o 0 (fun z => ⟨by decide, ?_⟩) (fun z => ⟨by decide, ?_⟩)
    · rw [xb_r 12 (show v < 2 ^ 31 by omega) (by omega)]
      have : mo_nx tg (v % 12) o = some (v % 12) := by unfold mo_nx; rw [if_pos z]
      rw [this] at go
      exact go
    · rw [xb_r 12 (show v < 2 ^ 31 by omega) (by omega), xb_ix4, show (1 : Int32) = nI 1 from rfl, pk_sub (by omega)]
      refine ⟨vp_in_nI (by omega) (by omega), ?_⟩
      have : mo_nx tg (v % 12) o = tg (v % 12) (o - 1) := by unfold mo_nx; rw [if_neg z]
      rw [nI_clamp (by omega), show 4 * (v % 12) + o - 1 = 4 * (v % 12) + (o - 1) by omega, hst (v % 12) (o - 1) lv (by omega), ← this]
      exact go
theorem xw_sp89 {post : Int32 → SX → Prop} {q : Nat → Nat} {m j v : Nat} {cb : Nat → Option Nat} (ok : cg_OK tg op) (hst : cg_ST tg a_stepTo) (ht : t ≤ 26) (V : fl_V tg t S G U ff ft) (A : fl_A t U ff ft a_used a_flowFrom a_flowTo) (hv : v < 12 * (t + 1)) (hj : j < m) (hq : q j = 2 * v + 1) (I : sq_I tg t S U ff ft q m cb) (R : sq_R t q m cb a_cameBy a_line)
    (h : ∀ q' m' cb' a_cameBy a_line, sq_I tg t S U ff ft q' m' cb' → sq_R t q' m' cb' a_cameBy a_line → m ≤ m' → (∀ i, i < m → q' i = q i) → (v < 12 * t → ∀ w, fl_edge tg v w → ft v ≠ some w → ∃ i, i < m' ∧ q' i = 2 * w) → post (nI m') (f_walls, f_placed, f_count, f_byEffort, f_best, nI t, a_waysOut, a_placeOf, a_goalOf, a_stepTo, a_toGoal, a_distance, a_who, a_cost, a_origin, a_closed, a_onward, a_queue, a_cellNow, a_cellNext, a_walkNow, a_walkNext, a_used, a_flowFrom, a_flowTo, a_cameBy, a_line)) :
    wX_spread_89 post (nI (2 * v + 1)) (nI v) (nI m) f_walls f_placed f_count f_byEffort f_best (nI t) a_waysOut a_placeOf a_goalOf a_stepTo a_toGoal a_distance a_who a_cost a_origin a_closed a_onward a_queue a_cellNow a_cellNext a_walkNow a_walkNext a_used a_flowFrom a_flowTo a_cameBy a_line := by
  have e12 : (12 : Int32) * nI t = nI (12 * t) := by rw [show (12 : Int32) = nI 12 from rfl, pk_mul]
  unfold wX_spread_89
  rw [e12]
  refine pk_lt v (12 * t) (fun hlt => ⟨by decide, nm_r (e' := nI (12 * (v / 12 + 1))) ?_ ⟨6, ?_⟩⟩) (fun hge => h q m cb _ _ I R (Nat.le_refl _) (fun _ _ => rfl) fun z => by omega)
  · rw [xb_r 12 (show v < 2 ^ 31 by omega) (by omega), pk_sub (by omega), show (12 : Int32) = nI 12 from rfl, nI_add]
    exact congrArg nI (by omega)
  · exact xw_sp117 ok hst ht V A hlt hj hq (fun q' m' cb' a_cameBy a_line I' R' hm' hq' hx => h q' m' cb' a_cameBy a_line I' R' hm' hq' fun _ => hx) 5 0 6 q m cb a_cameBy a_line (by omega) (by omega) I R (Nat.le_refl _) (fun _ _ => rfl) (fun o' c' ho => by omega)
theorem xw_spread {post : Int32 → SX → Prop} {q : Nat → Nat} {m j : Nat} {cb : Nat → Option Nat} (ok : cg_OK tg op) (hst : cg_ST tg a_stepTo) (ht : t ≤ 26) (V : fl_V tg t S G U ff ft) (A : fl_A t U ff ft a_used a_flowFrom a_flowTo) (hj : j < m) (I : sq_I tg t S U ff ft q m cb) (R : sq_R t q m cb a_cameBy a_line)
    (h : ∀ q' m' cb' a_cameBy a_line, sq_I tg t S U ff ft q' m' cb' → sq_R t q' m' cb' a_cameBy a_line → m ≤ m' → (∀ i, i < m → q' i = q i) → (∀ b, fl_R tg t U ff ft (q j) b → ∃ i, i < m' ∧ q' i = b) → post (nI m') (f_walls, f_placed, f_count, f_byEffort, f_best, nI t, a_waysOut, a_placeOf, a_goalOf, a_stepTo, a_toGoal, a_distance, a_who, a_cost, a_origin, a_closed, a_onward, a_queue, a_cellNow, a_cellNext, a_walkNow, a_walkNext, a_used, a_flowFrom, a_flowTo, a_cameBy, a_line)) :
    wpX_spread post (f_walls, f_placed, f_count, f_byEffort, f_best, nI t, a_waysOut, a_placeOf, a_goalOf, a_stepTo, a_toGoal, a_distance, a_who, a_cost, a_origin, a_closed, a_onward, a_queue, a_cellNow, a_cellNext, a_walkNow, a_walkNext, a_used, a_flowFrom, a_flowTo, a_cameBy, a_line) (nI (q j)) (nI m) := by
  have lq := (I.2.2 j hj).1
  have lm := sq_le I
  generalize hn : q j = n at *
  have vv : vp_in (nI (n / 2)) 324 := vp_in_nI (by omega) (by omega)
  have cv : (nI (n / 2)).toNatClampNeg = n / 2 := nI_clamp (by omega)
  have Av := A (n / 2) (by omega)
  refine ⟨by decide, nm_r (xb_d 2 (by omega) (by omega)) ⟨by decide, ?_⟩⟩
  rw [xb_r 2 (show n < 2 ^ 31 by omega) (by omega)]
  refine pk_eq (n % 2) 0 (fun z => ⟨vv, ?_⟩) (fun z => ⟨vv, ?_⟩)
  · have en : n = 2 * (n / 2) := by omega
    rw [cv]
    rcases Classical.em (U (n / 2)) with hU | hU
    · rw [Av.1 hU]
      refine br_f (by decide) ⟨vv, ?_⟩
      rw [Av.2.2.1]
      rcases hf : ff (n / 2) with _ | u
      · refine br_t xb_neg (h q m cb _ _ I R (Nat.le_refl _) (fun _ _ => rfl) fun b hb => ?_)
        rcases hb with ⟨a, h1, h2, h3, h4⟩ | ⟨a, c, h1, h2, h3, h4⟩ | ⟨a, h1, h2, h3⟩ | ⟨a, c, h1, h2, _⟩
        · have : a = n / 2 := by omega
          subst this
          exact absurd hU h4
        · have : a = n / 2 := by omega
          subst this
          rw [hf] at h4; cases h4
        · omega
        · omega
      · have lu : u < 12 * (t + 1) := V.1 u (fl_ffU V hf).2.1
        refine br_f (nI_pos (by omega)) ⟨vv, ?_⟩
        rw [cg_eOs, show (2 : Int32) = nI 2 from rfl, pk_mul, nI_1]
        refine xw_add (j := j) ht I R (by omega) hj hn.symm (Or.inr (Or.inl ⟨n / 2, u, en, rfl, hU, hf⟩)) fun q' m' cb' a_cameBy a_line I' R' hm' hq' hvis => h q' m' cb' a_cameBy a_line I' R' hm' hq' fun b hb => ?_
        rcases hb with ⟨a, h1, h2, h3, h4⟩ | ⟨a, c, h1, h2, h3, h4⟩ | ⟨a, h1, h2, h3⟩ | ⟨a, c, h1, h2, _⟩
        · have : a = n / 2 := by omega
          subst this
          exact absurd hU h4
        · have : a = n / 2 := by omega
          subst this
          rw [hf] at h4
          have := Option.some.inj h4
          subst this
          rw [h2]; exact hvis
        · omega
        · omega
    · rw [Av.2.1 hU]
      refine br_t rfl ?_
      rw [nI_1]
      refine xw_add (j := j) ht I R (by omega) hj hn.symm (Or.inl ⟨n / 2, en, by omega, by omega, hU⟩) fun q' m' cb' a_cameBy a_line I' R' hm' hq' hvis => h q' m' cb' a_cameBy a_line I' R' hm' hq' fun b hb => ?_
      rcases hb with ⟨a, h1, h2, h3, h4⟩ | ⟨a, c, h1, h2, h3, h4⟩ | ⟨a, h1, h2, h3⟩ | ⟨a, c, h1, h2, _⟩
      · rw [h2, show 2 * a + 1 = n + 1 by omega]; exact hvis
      · have : a = n / 2 := by omega
        subst this
        exact absurd h3 hU
      · omega
      · omega
  · have en : n = 2 * (n / 2) + 1 := by omega
    rw [cv]
    have succ : ∀ b, fl_R tg t U ff ft n b → (U (n / 2) ∧ b = 2 * (n / 2)) ∨ ∃ w, b = 2 * w ∧ n / 2 < 12 * t ∧ fl_edge tg (n / 2) w ∧ ft (n / 2) ≠ some w := by
      intro b hb
      rcases hb with ⟨a, h1, h2, h3, h4⟩ | ⟨a, c, h1, h2, h3, h4⟩ | ⟨a, h1, h2, h3⟩ | ⟨a, c, h1, h2, h3, h4, h5⟩
      · omega
      · omega
      · have : a = n / 2 := by omega
        subst this
        exact Or.inl ⟨h3, h2⟩
      · have : a = n / 2 := by omega
        subst this
        exact Or.inr ⟨c, h2, h3, h4, h5⟩
    rcases Classical.em (U (n / 2)) with hU | hU
    · rw [Av.1 hU]
      refine br_f (by decide) ?_
      rw [show (1 : Int32) = nI 1 from rfl, pk_sub (by omega)]
      refine xw_add (j := j) ht I R (by omega) hj hn.symm (Or.inr (Or.inr (Or.inl ⟨n / 2, en, by omega, hU⟩))) fun q' m' cb' a_cameBy a_line I' R' hm' hq' hvis => ?_
      have hq2 : q' j = 2 * (n / 2) + 1 := by rw [hq' j hj, hn]; exact en
      have k89 := xw_sp89 (post := post) (f_walls := f_walls) (f_placed := f_placed) (f_count := f_count) (f_byEffort := f_byEffort) (f_best := f_best) (a_waysOut := a_waysOut) (a_placeOf := a_placeOf) (a_goalOf := a_goalOf) (a_toGoal := a_toGoal) (a_distance := a_distance) (a_who := a_who) (a_cost := a_cost) (a_origin := a_origin) (a_closed := a_closed) (a_onward := a_onward) (a_queue := a_queue) (a_cellNow := a_cellNow) (a_cellNext := a_cellNext) (a_walkNow := a_walkNow) (a_walkNext := a_walkNext) ok hst ht V A (v := n / 2) (by omega) (show j < m' by omega) hq2 I' R' (fun q'' m'' cb'' a_cameBy a_line I'' R'' hm'' hq'' hx => h q'' m'' cb'' a_cameBy a_line I'' R'' (by omega) (fun i hi => by rw [hq'' i (by omega), hq' i hi]) fun b hb => ?_)
      · rw [← en] at k89
        exact k89
      · rcases succ b hb with ⟨_, e⟩ | ⟨w, e, h1, h2, h3⟩
        · obtain ⟨i, hi, ei⟩ := hvis
          exact ⟨i, by omega, by rw [hq'' i hi, ei]; omega⟩
        · obtain ⟨i, hi, ei⟩ := hx h1 w h2 h3
          exact ⟨i, hi, by rw [ei, e]⟩
    · rw [Av.2.1 hU]
      refine br_t rfl ?_
      have k89 := xw_sp89 (post := post) (f_walls := f_walls) (f_placed := f_placed) (f_count := f_count) (f_byEffort := f_byEffort) (f_best := f_best) (a_waysOut := a_waysOut) (a_placeOf := a_placeOf) (a_goalOf := a_goalOf) (a_toGoal := a_toGoal) (a_distance := a_distance) (a_who := a_who) (a_cost := a_cost) (a_origin := a_origin) (a_closed := a_closed) (a_onward := a_onward) (a_queue := a_queue) (a_cellNow := a_cellNow) (a_cellNext := a_cellNext) (a_walkNow := a_walkNow) (a_walkNext := a_walkNext) ok hst ht V A (v := n / 2) (by omega) hj (by rw [hn]; exact en) I R (fun q'' m'' cb'' a_cameBy a_line I'' R'' hm'' hq'' hx => h q'' m'' cb'' a_cameBy a_line I'' R'' hm'' hq'' fun b hb => ?_)
      · rw [← en] at k89
        exact k89
      · rcases succ b hb with ⟨r, _⟩ | ⟨w, e, h1, h2, h3⟩
        · exact absurd r hU
        · obtain ⟨i, hi, ei⟩ := hx h1 w h2 h3
          exact ⟨i, hi, by rw [ei, e]⟩
end
end
section
/-- back along the search's tree -/
theorem sq_chain {tg : Nat → Nat → Option Nat} {t : Nat} {S U : Nat → Prop} {ff ft : Nat → Option Nat} {q : Nat → Nat} {m : Nat} {cb : Nat → Option Nat} (I : sq_I tg t S U ff ft q m cb) :
    ∀ b i, i < b → i < m → ∃ (ch : Nat → Nat) (J : Nat), ch 0 = q i ∧ J ≤ i ∧ (∀ n, n ≤ J → ∃ l, l ≤ i ∧ ch n = q l) ∧ fl_so S U (ch J) ∧ cb (ch J) = some (ch J) ∧ (∀ n, n < J → cb (ch n) = some (ch (n + 1)) ∧ fl_R tg t U ff ft (ch (n + 1)) (ch n)) ∧ ∀ a c, a ≤ J → c ≤ J → ch a = ch c → a = c := by
  intro b
  induction b with
  | zero => intro i hi; omega
  | succ b ih =>
    intro i hi him
    rcases (I.2.2 i him).2 with ⟨h1, h2⟩ | ⟨j, hj, h1, h2⟩
    · exact ⟨fun _ => q i, 0, rfl, by omega, fun n _ => ⟨i, by omega, rfl⟩, h2, h1, fun n hn => by omega, fun a c ha hc _ => by omega⟩
    · obtain ⟨ch, J, c0, cJ, cl, cs, cc, cr, ci⟩ := ih j (by omega) (by omega)
      refine ⟨fun n => if n = 0 then q i else ch (n - 1), J + 1, rfl, by omega, fun n hn => ?_, ?_, ?_, fun n hn => ?_, fun a c ha hc e => ?_⟩
      · rcases Nat.decEq n 0 with z | rfl
        · obtain ⟨l, hl, e⟩ := cl (n - 1) (by omega)
          exact ⟨l, by omega, by show (if n = 0 then q i else ch (n - 1)) = q l; rw [if_neg z]; exact e⟩
        · exact ⟨i, by omega, rfl⟩
      · show fl_so S U (if J + 1 = 0 then q i else ch (J + 1 - 1))
        rw [if_neg (by omega)]; exact cs
      · show cb (if J + 1 = 0 then q i else ch (J + 1 - 1)) = some (if J + 1 = 0 then q i else ch (J + 1 - 1))
        rw [if_neg (by omega)]; exact cc
      · show cb (if n = 0 then q i else ch (n - 1)) = some (if n + 1 = 0 then q i else ch (n + 1 - 1)) ∧ fl_R tg t U ff ft (if n + 1 = 0 then q i else ch (n + 1 - 1)) (if n = 0 then q i else ch (n - 1))
        rw [if_neg (show ¬ n + 1 = 0 by omega), show n + 1 - 1 = n by omega]
        rcases Nat.decEq n 0 with z | rfl
        · rw [if_neg z]
          have := cr (n - 1) (by omega)
          rw [show n - 1 + 1 = n by omega] at this
          exact this
        · rw [if_pos rfl, c0]
          exact ⟨h1, h2⟩
      · replace e : (if a = 0 then q i else ch (a - 1)) = (if c = 0 then q i else ch (c - 1)) := e
        have far : ∀ n, n ≤ J → ch n ≠ q i := fun n hn e => by
          obtain ⟨l, hl, e'⟩ := cl n hn
          have := I.2.1 l i (by omega) him (e'.symm.trans e)
          omega
        rcases Nat.decEq a 0 with za | rfl
        · rw [if_neg za] at e
          rcases Nat.decEq c 0 with zc | rfl
          · rw [if_neg zc] at e
            have := ci (a - 1) (c - 1) (by omega) (by omega) e
            omega
          · rw [if_pos rfl] at e
            exact absurd e (far (a - 1) (by omega))
        · rw [if_pos rfl] at e
          rcases Nat.decEq c 0 with zc | rfl
          · rw [if_neg zc] at e
            exact absurd e.symm (far (c - 1) (by omega))
          · rfl
section
variable {tg : Nat → Nat → Option Nat} {op : Nat → Prop} {t k : Nat} {U : Nat → Prop} {ff ft : Nat → Option Nat} {wh pl gl : Nat → Nat}
variable {f_walls f_placed f_count f_byEffort f_best f_turns : Int32} {a_waysOut a_placeOf a_goalOf a_stepTo a_toGoal a_distance a_who a_cost a_origin a_closed a_onward a_queue a_cellNow a_cellNext a_walkNow a_walkNext a_used a_flowFrom a_flowTo a_cameBy a_line : Nat → Int32}
/-- the cells of a group's places, or goals -/
def fl_S (k : Nat) (wh pl : Nat → Nat) (c : Nat) : Prop := ∃ i, i < k ∧ pl (wh i) = c
theorem xw_isGoal {post : Int32 → Prop} {c : Nat} (hk : mo_K k) (hc : c < 12) (hw : tm_W k wh a_who) (hgl : ∀ w, w < 3 → a_goalOf w = nI (gl w) ∧ gl w < 12) (h1 : fl_S k wh gl c → post 1) (h0 : ¬ fl_S k wh gl c → post 0) : wpX_isGoal post (f_walls, f_placed, nI k, f_byEffort, f_best, f_turns, a_waysOut, a_placeOf, a_goalOf, a_stepTo, a_toGoal, a_distance, a_who, a_cost, a_origin, a_closed, a_onward, a_queue, a_cellNow, a_cellNext, a_walkNow, a_walkNext, a_used, a_flowFrom, a_flowTo, a_cameBy, a_line) (nI c) := by
  have hk3 : k ≤ 3 := by rcases hk with e | e | e <;> omega
  have key : ∀ e i f, i + e = k → e < f → (∀ l, l < i → gl (wh l) ≠ c) → wX_isGoal_2 post (nI c) f_walls f_placed (nI k) f_byEffort f_best f_turns a_waysOut a_placeOf a_goalOf a_stepTo a_toGoal a_distance a_who a_cost a_origin a_closed a_onward a_queue a_cellNow a_cellNext a_walkNow a_walkNext a_used a_flowFrom a_flowTo a_cameBy a_line f (nI i) := by
    intro e
    induction e with
    | zero =>
      intro i f he hf hi
      obtain ⟨f, rfl⟩ : ∃ m, f = m + 1 := ⟨f - 1, by omega⟩
      exact pk_le k i (fun _ => h0 fun ⟨l, hl, e⟩ => hi l (by omega) e) (fun h => by omega)
    | succ e ih =>
      intro i f he hf hi
      obtain ⟨f, rfl⟩ : ∃ m, f = m + 1 := ⟨f - 1, by omega⟩
      refine pk_le k i (fun _ => by omega) (fun hlt => ⟨vp_in_nI (by omega) (by omega), ?_⟩)
      have wi := (hw i hlt).2
      have li := (hgl _ wi).2
      rw [nI_clamp (show i < 2 ^ 31 by omega), (hw i hlt).1]
      refine ⟨vp_in_nI wi (by omega), ?_⟩
      rw [nI_clamp (show wh i < 2 ^ 31 by omega), (hgl _ wi).1]
      refine pk_eq (gl (wh i)) c (fun z => h1 ⟨i, hlt, z⟩) (fun z => nm_r (nI_1 i) (ih (i + 1) f (by omega) (by omega) fun l hl => ?_))
      rcases Nat.decEq l i with y | rfl
      · exact hi l (by omega)
      · exact z
  exact ⟨4, key k 0 4 (by omega) (by omega) fun l hl => by omega⟩
theorem xw_se98 {post : Int32 → SX → Prop} (hk : mo_K k) (ok : cg_OK tg op) (hst : cg_ST tg a_stepTo) (ht : t ≤ 26) (hw : tm_W k wh a_who) (hgl : ∀ w, w < 3 → a_goalOf w = nI (gl w) ∧ gl w < 12) (V : fl_V tg t (fl_S k wh pl) (fl_S k wh gl) U ff ft) (A : fl_A t U ff ft a_used a_flowFrom a_flowTo)
    (h0 : ∀ a_cameBy a_line Z, fl_Z tg t (fl_S k wh pl) (fl_S k wh gl) U ff ft Z → post (-1) (f_walls, f_placed, nI k, f_byEffort, f_best, nI t, a_waysOut, a_placeOf, a_goalOf, a_stepTo, a_toGoal, a_distance, a_who, a_cost, a_origin, a_closed, a_onward, a_queue, a_cellNow, a_cellNext, a_walkNow, a_walkNext, a_used, a_flowFrom, a_flowTo, a_cameBy, a_line))
    (h1 : ∀ (a_cameBy a_line : Nat → Int32) (cb : Nat → Option Nat) (ch : Nat → Nat) (J : Nat), (∀ n, n < 24 * (t + 1) → a_cameBy n = cg_eO (cb n)) → fl_P tg t (fl_S k wh pl) (fl_S k wh gl) U ff ft ch J → (∀ i, i < J → cb (ch i) = some (ch (i + 1))) → cb (ch J) = some (ch J) → (∀ i, i ≤ J → ch i < 24 * (t + 1)) → J < 648 → post (nI (ch 0)) (f_walls, f_placed, nI k, f_byEffort, f_best, nI t, a_waysOut, a_placeOf, a_goalOf, a_stepTo, a_toGoal, a_distance, a_who, a_cost, a_origin, a_closed, a_onward, a_queue, a_cellNow, a_cellNext, a_walkNow, a_walkNext, a_used, a_flowFrom, a_flowTo, a_cameBy, a_line)) :
    ∀ e at' f q m cb a_cameBy a_line, at' + e = 649 → e < f → at' ≤ m → sq_I tg t (fl_S k wh pl) U ff ft q m cb → sq_R t q m cb a_cameBy a_line → (∀ n, fl_so (fl_S k wh pl) U n → ∃ i, i < m ∧ q i = n) → (∀ i, i < at' → ¬ fl_si t (fl_S k wh gl) U (q i) ∧ ∀ b, fl_R tg t U ff ft (q i) b → ∃ l, l < m ∧ q l = b) →
      wX_search_98 post f (nI m) (nI at') f_walls f_placed (nI k) f_byEffort f_best (nI t) a_waysOut a_placeOf a_goalOf a_stepTo a_toGoal a_distance a_who a_cost a_origin a_closed a_onward a_queue a_cellNow a_cellNext a_walkNow a_walkNext a_used a_flowFrom a_flowTo a_cameBy a_line := by
  have e12 : (12 : Int32) * nI t = nI (12 * t) := by rw [show (12 : Int32) = nI 12 from rfl, pk_mul]
  intro e
  induction e with
  | zero =>
    intro at' f q m cb a_cameBy a_line he hf hm I
    have := sq_le I
    omega
  | succ e ih =>
    intro at' f q m cb a_cameBy a_line he hf hm I R hso hdone
    obtain ⟨f, rfl⟩ : ∃ m, f = m + 1 := ⟨f - 1, by omega⟩
    have lm := sq_le I
    refine pk_le m at' (fun z => h0 a_cameBy a_line (fun n => ∃ i, i < m ∧ q i = n) ⟨hso, fun a b ⟨i, hi, ei⟩ hR => ?_, fun n ⟨i, hi, ei⟩ hsi => ?_⟩) (fun hlt => ?_)
    · rw [← ei] at hR
      exact (hdone i (by omega)).2 b hR
    · rw [← ei] at hsi
      exact (hdone i (by omega)).1 hsi
    · refine pk_le 648 at' (fun _ => by omega) (fun hlt2 => ⟨vp_in_nI hlt2 (by omega), nm_r (e' := nI (q at')) (by rw [nI_clamp (by omega)]; exact R.2 at' hlt) ?_⟩)
      have lq := (I.2.2 at' hlt).1
      refine ⟨by decide, nm_r (xb_d 2 (show q at' < 2 ^ 31 by omega) (by omega)) ⟨by decide, ?_⟩⟩
      rw [xb_r 2 (show q at' < 2 ^ 31 by omega) (by omega), e12]
      -- not the end: go on
      have go : ¬ fl_si t (fl_S k wh gl) U (q at') → wX_search_182 post (wX_search_98 post f) (nI m) (nI at') (nI (q at')) f_walls f_placed (nI k) f_byEffort f_best (nI t) a_waysOut a_placeOf a_goalOf a_stepTo a_toGoal a_distance a_who a_cost a_origin a_closed a_onward a_queue a_cellNow a_cellNext a_walkNow a_walkNext a_used a_flowFrom a_flowTo a_cameBy a_line := fun hns => by
        refine xw_spread ok hst ht V A hlt I R fun q' m' cb' a_cameBy a_line I' R' hm' hq' hx => nm_r (nI_1 at') (ih (at' + 1) f q' m' cb' a_cameBy a_line (by omega) (by omega) (by omega) I' R' (fun n hn => ?_) fun i hi => ?_)
        · obtain ⟨l, hl, e⟩ := hso n hn
          exact ⟨l, by omega, by rw [hq' l hl]; exact e⟩
        · rcases Nat.decEq i at' with z | rfl
          · rw [hq' i (by omega)]
            refine ⟨(hdone i (by omega)).1, fun b hb => ?_⟩
            obtain ⟨l, hl, e⟩ := (hdone i (by omega)).2 b hb
            exact ⟨l, by omega, by rw [hq' l hl]; exact e⟩
          · rw [hq' i hlt]
            exact ⟨hns, hx⟩
      have no : ¬ fl_si t (fl_S k wh gl) U (q at') → wX_search_155 post (wX_search_98 post f) (nI m) (nI at') (nI (q at')) (nI (q at' / 2)) f_walls f_placed (nI k) f_byEffort f_best (nI t) a_waysOut a_placeOf a_goalOf a_stepTo a_toGoal a_distance a_who a_cost a_origin a_closed a_onward a_queue a_cellNow a_cellNext a_walkNow a_walkNext a_used a_flowFrom a_flowTo a_cameBy a_line := fun hns => br_t rfl (go hns)
      refine pk_eq (q at' % 2) 1 (fun zo => ?_) (fun zo => no fun ⟨v, hv, _⟩ => by omega)
      refine pk_lt (q at' / 2) (12 * t) (fun zl => no fun ⟨v, hv, h2, _⟩ => by omega) (fun zl => ⟨vp_in_nI (by omega) (by omega), ?_⟩)
      rw [nI_clamp (show q at' / 2 < 2 ^ 31 by omega)]
      rcases Classical.em (U (q at' / 2)) with hU | hU
      · rw [(A _ (by omega)).1 hU]
        refine br_f (by decide) (no fun ⟨v, hv, _, _, h4, _⟩ => ?_)
        have : v = q at' / 2 := by omega
        subst this
        exact h4 hU
      · rw [(A _ (by omega)).2.1 hU]
        refine br_t rfl (br_f (by decide) ?_)
        rw [e12, pk_sub (by omega)]
        have ec : q at' / 2 - 12 * t = q at' / 2 % 12 := by omega
        rw [ec]
        refine xw_isGoal hk (by omega) hw hgl (fun hg => br_f (by decide) ?_) (fun hg => br_t rfl (go fun ⟨v, hv, _, _, _, h5⟩ => ?_))
        · obtain ⟨ch, J, c0, cJ, cl, cs, cc, cr, ci⟩ := sq_chain I (at' + 1) at' (by omega) hlt
          rw [← c0]
          refine h1 a_cameBy a_line cb ch J R.1 ⟨?_, cs, fun i hi => (cr i hi).2, ci⟩ (fun i hi => (cr i hi).1) cc (fun i hi => ?_) (by omega)
          · rw [c0]
            exact ⟨q at' / 2, by omega, zl, by omega, hU, hg⟩
          · obtain ⟨l, hl, e⟩ := cl i hi
            rw [e]
            exact (I.2.2 l (by omega)).1
        · have : v = q at' / 2 := by omega
          subst this
          exact hg h5
theorem xw_se32 {post : Int32 → SX → Prop} (hk : mo_K k) (ok : cg_OK tg op) (hst : cg_ST tg a_stepTo) (ht : t ≤ 26) (hw : tm_W k wh a_who) (hpl : ∀ w, w < 3 → a_placeOf w = nI (pl w) ∧ pl w < 12) (hgl : ∀ w, w < 3 → a_goalOf w = nI (gl w) ∧ gl w < 12) (hd : ∀ i j, i < k → j < k → pl (wh i) = pl (wh j) → i = j) (V : fl_V tg t (fl_S k wh pl) (fl_S k wh gl) U ff ft) (A : fl_A t U ff ft a_used a_flowFrom a_flowTo)
    (h0 : ∀ a_cameBy a_line Z, fl_Z tg t (fl_S k wh pl) (fl_S k wh gl) U ff ft Z → post (-1) (f_walls, f_placed, nI k, f_byEffort, f_best, nI t, a_waysOut, a_placeOf, a_goalOf, a_stepTo, a_toGoal, a_distance, a_who, a_cost, a_origin, a_closed, a_onward, a_queue, a_cellNow, a_cellNext, a_walkNow, a_walkNext, a_used, a_flowFrom, a_flowTo, a_cameBy, a_line))
    (h1 : ∀ (a_cameBy a_line : Nat → Int32) (cb : Nat → Option Nat) (ch : Nat → Nat) (J : Nat), (∀ n, n < 24 * (t + 1) → a_cameBy n = cg_eO (cb n)) → fl_P tg t (fl_S k wh pl) (fl_S k wh gl) U ff ft ch J → (∀ i, i < J → cb (ch i) = some (ch (i + 1))) → cb (ch J) = some (ch J) → (∀ i, i ≤ J → ch i < 24 * (t + 1)) → J < 648 → post (nI (ch 0)) (f_walls, f_placed, nI k, f_byEffort, f_best, nI t, a_waysOut, a_placeOf, a_goalOf, a_stepTo, a_toGoal, a_distance, a_who, a_cost, a_origin, a_closed, a_onward, a_queue, a_cellNow, a_cellNext, a_walkNow, a_walkNext, a_used, a_flowFrom, a_flowTo, a_cameBy, a_line)) :
    ∀ e i f q m cb a_cameBy a_line, i + e = k → e < f → sq_I tg t (fl_S k wh pl) U ff ft q m cb → sq_R t q m cb a_cameBy a_line → (∀ l, l < m → ∃ j, j < i ∧ q l = 2 * pl (wh j)) → (∀ j, j < i → ¬ U (pl (wh j)) → ∃ l, l < m ∧ q l = 2 * pl (wh j)) →
      wX_search_32 post f_walls f_placed (nI k) f_byEffort f_best (nI t) f (nI m) (nI i) a_waysOut a_placeOf a_goalOf a_stepTo a_toGoal a_distance a_who a_cost a_origin a_closed a_onward a_queue a_cellNow a_cellNext a_walkNow a_walkNext a_used a_flowFrom a_flowTo a_cameBy a_line := by
  have hk3 : k ≤ 3 := by rcases hk with e | e | e <;> omega
  intro e
  induction e with
  | zero =>
    intro i f q m cb a_cameBy a_line he hf I R hq hso
    obtain ⟨f, rfl⟩ : ∃ m, f = m + 1 := ⟨f - 1, by omega⟩
    refine pk_le k i (fun _ => ⟨650, xw_se98 hk ok hst ht hw hgl V A h0 h1 649 0 650 q m cb a_cameBy a_line (by omega) (by omega) (by omega) I R (fun n ⟨s, e, _, ⟨j, hj, ej⟩, hU⟩ => ?_) fun i hi => by omega⟩) (fun h => by omega)
    rw [e, ← ej]
    exact hso j (by omega) (by rw [ej]; exact hU)
  | succ e ih =>
    intro i f q m cb a_cameBy a_line he hf I R hq hso
    obtain ⟨f, rfl⟩ : ∃ m, f = m + 1 := ⟨f - 1, by omega⟩
    refine pk_le k i (fun _ => by omega) (fun hlt => ⟨vp_in_nI (by omega) (by omega), ?_⟩)
    have wi := (hw i hlt).2
    have li := (hpl _ wi).2
    have lm := sq_le I
    rw [nI_clamp (show i < 2 ^ 31 by omega), (hw i hlt).1]
    refine ⟨vp_in_nI wi (by omega), ?_⟩
    rw [nI_clamp (show wh i < 2 ^ 31 by omega), (hpl _ wi).1]
    refine nm_r (e' := nI (2 * pl (wh i))) (by rw [show (2 : Int32) = nI 2 from rfl, pk_mul]) ⟨vp_in_nI (by omega) (by omega), vp_in_nI wi (by omega), vp_in_nI (by omega) (by omega), ?_⟩
    rw [nI_clamp (show pl (wh i) < 2 ^ 31 by omega)]
    have cbn : cb (2 * pl (wh i)) = none := by
      rcases hc : cb (2 * pl (wh i)) with _ | x
      · rfl
      · obtain ⟨l, hl, e⟩ := (I.1 _).mp ⟨x, hc⟩
        obtain ⟨j, hj, e2⟩ := hq l hl
        have := hd i j hlt (by omega) (by omega)
        omega
    rcases Classical.em (U (pl (wh i))) with hU | hU
    · rw [(A _ (by omega)).1 hU]
      refine br_f (by decide) (nm_r (nI_1 i) (ih (i + 1) f q m cb a_cameBy a_line (by omega) (by omega) I R (fun l hl => ?_) fun j hj hn => ?_))
      · obtain ⟨j, hj, e⟩ := hq l hl
        exact ⟨j, by omega, e⟩
      · rcases Nat.decEq j i with z | rfl
        · exact hso j (by omega) hn
        · exact absurd hU hn
    · rw [(A _ (by omega)).2.1 hU]
      have I' := sq_add I (n := 2 * pl (wh i)) (p := 2 * pl (wh i)) (by omega) cbn (Or.inl ⟨rfl, pl (wh i), rfl, li, ⟨i, hlt, rfl⟩, hU⟩)
      have lm' := sq_le I'
      refine br_t rfl ⟨vp_in_nI (by omega) (by omega), nm_r (by rw [nI_clamp (by omega)]) ⟨vp_in_nI (by omega) (by omega), nm_r (by rw [nI_clamp (by omega)]) (nm_r (nI_1 m) (nm_r (nI_1 i) (ih (i + 1) f _ (m + 1) _ _ _ (by omega) (by omega) I' (sq_Radd R) (fun l hl => ?_) fun j hj hn => ?_)))⟩⟩
      · rcases Nat.decEq l m with z | rfl
        · obtain ⟨j, hj, e⟩ := hq l (by omega)
          exact ⟨j, by omega, by rw [ag_un _ _ z]; exact e⟩
        · exact ⟨i, by omega, ag_us _ _ _⟩
      · rcases Nat.decEq j i with z | rfl
        · obtain ⟨l, hl, e⟩ := hso j (by omega) hn
          exact ⟨l, by omega, by rw [ag_un _ _ (by omega)]; exact e⟩
        · exact ⟨m, by omega, ag_us _ _ _⟩
theorem xw_search {post : Int32 → SX → Prop} (hk : mo_K k) (ok : cg_OK tg op) (hst : cg_ST tg a_stepTo) (ht : t ≤ 26) (hw : tm_W k wh a_who) (hpl : ∀ w, w < 3 → a_placeOf w = nI (pl w) ∧ pl w < 12) (hgl : ∀ w, w < 3 → a_goalOf w = nI (gl w) ∧ gl w < 12) (hd : ∀ i j, i < k → j < k → pl (wh i) = pl (wh j) → i = j) (V : fl_V tg t (fl_S k wh pl) (fl_S k wh gl) U ff ft) (A : fl_A t U ff ft a_used a_flowFrom a_flowTo)
    (h0 : ∀ a_cameBy a_line Z, fl_Z tg t (fl_S k wh pl) (fl_S k wh gl) U ff ft Z → post (-1) (f_walls, f_placed, nI k, f_byEffort, f_best, nI t, a_waysOut, a_placeOf, a_goalOf, a_stepTo, a_toGoal, a_distance, a_who, a_cost, a_origin, a_closed, a_onward, a_queue, a_cellNow, a_cellNext, a_walkNow, a_walkNext, a_used, a_flowFrom, a_flowTo, a_cameBy, a_line))
    (h1 : ∀ (a_cameBy a_line : Nat → Int32) (cb : Nat → Option Nat) (ch : Nat → Nat) (J : Nat), (∀ n, n < 24 * (t + 1) → a_cameBy n = cg_eO (cb n)) → fl_P tg t (fl_S k wh pl) (fl_S k wh gl) U ff ft ch J → (∀ i, i < J → cb (ch i) = some (ch (i + 1))) → cb (ch J) = some (ch J) → (∀ i, i ≤ J → ch i < 24 * (t + 1)) → J < 648 → post (nI (ch 0)) (f_walls, f_placed, nI k, f_byEffort, f_best, nI t, a_waysOut, a_placeOf, a_goalOf, a_stepTo, a_toGoal, a_distance, a_who, a_cost, a_origin, a_closed, a_onward, a_queue, a_cellNow, a_cellNext, a_walkNow, a_walkNext, a_used, a_flowFrom, a_flowTo, a_cameBy, a_line)) : wpX_search post (f_walls, f_placed, nI k, f_byEffort, f_best, nI t, a_waysOut, a_placeOf, a_goalOf, a_stepTo, a_toGoal, a_distance, a_who, a_cost, a_origin, a_closed, a_onward, a_queue, a_cellNow, a_cellNext, a_walkNow, a_walkNext, a_used, a_flowFrom, a_flowTo, a_cameBy, a_line) := by
  have e24 : (24 : Int32) * (nI t + 1) = nI (24 * (t + 1)) := by rw [nI_1, show (24 : Int32) = nI 24 from rfl, pk_mul]
  have key : ∀ e i f a_cameBy, i + e = 24 * (t + 1) → e < f → (∀ n, n < i → a_cameBy n = -1) → wX_search_2 post f_walls f_placed (nI k) f_byEffort f_best (nI t) f (nI i) a_waysOut a_placeOf a_goalOf a_stepTo a_toGoal a_distance a_who a_cost a_origin a_closed a_onward a_queue a_cellNow a_cellNext a_walkNow a_walkNext a_used a_flowFrom a_flowTo a_cameBy a_line := by
    intro e
    induction e with
    | zero =>
      intro i f a_cameBy he hf hi
      obtain ⟨f, rfl⟩ : ∃ m, f = m + 1 := ⟨f - 1, by omega⟩
      unfold wX_search_2
      rw [e24]
      refine pk_le (24 * (t + 1)) i (fun _ => ⟨4, xw_se32 hk ok hst ht hw hpl hgl hd V A h0 h1 k 0 4 (fun _ => 0) 0 (fun _ => none) a_cameBy a_line (by omega) (by rcases hk with e | e | e <;> omega) ⟨fun n => ⟨(fun ⟨p, hp⟩ => nomatch hp), fun ⟨i, hi, _⟩ => absurd hi (by omega)⟩, fun i j hi => by omega, fun i hi => by omega⟩ ⟨fun n hn => hi n (by omega), fun i hi => by omega⟩ (fun l hl => by omega) fun j hj => by omega⟩) (fun h => by omega)
    | succ e ih =>
      intro i f a_cameBy he hf hi
      obtain ⟨f, rfl⟩ : ∃ m, f = m + 1 := ⟨f - 1, by omega⟩
      unfold wX_search_2
      rw [e24]
      refine pk_le (24 * (t + 1)) i (fun _ => by omega) (fun hlt => ⟨vp_in_nI (by omega) (by omega), nm_r (by rw [nI_clamp (by omega)]) (nm_r (nI_1 i) (ih (i + 1) f _ (by omega) (by omega) fun n hn => ?_))⟩)
      rcases Nat.decEq n i with z | rfl
      · rw [pk_un z]; exact hi n (by omega)
      · exact pk_us
  exact ⟨24 * (t + 1) + 1, key (24 * (t + 1)) 0 _ a_cameBy (by omega) (by omega) fun n hn => by omega⟩
end
end
section
def ou_o (f : Nat → Option Nat) (n : Nat) (o : Option Nat) : Nat → Option Nat := fun x => if x = n then o else f x
theorem ou_s (f : Nat → Option Nat) (n : Nat) (o : Option Nat) : ou_o f n o n = o := if_pos rfl
theorem ou_n (f : Nat → Option Nat) {n x : Nat} (o : Option Nat) (h : x ≠ n) : ou_o f n o x = f x := if_neg h
theorem fl_s1 {ch : Nat → Nat} {m x y : Nat} : fl_s ch (m + 1) x y ↔ fl_s ch m x y ∨ (x = ch (m + 1) ∧ y = ch m) := by
  constructor
  · rintro ⟨i, hi, h1, h2⟩
    rcases Nat.decEq i m with z | rfl
    · exact Or.inl ⟨i, by omega, h1, h2⟩
    · exact Or.inr ⟨h1, h2⟩
  · rintro (⟨i, hi, h1, h2⟩ | ⟨h1, h2⟩)
    · exact ⟨i, by omega, h1, h2⟩
    · exact ⟨m, by omega, h1, h2⟩
section
variable {U U' : Nat → Prop} {ff ft ff' ft' : Nat → Option Nat} {ch : Nat → Nat} {J m : Nat}
theorem fl_N0 : fl_N U U ff ft ff ft ch 0 := by
  have no : ∀ x y, ¬ fl_s ch 0 x y := fun x y ⟨i, hi, _⟩ => by omega
  exact ⟨fun v => ⟨fun h => Or.inr ⟨h, no _ _⟩, fun h => h.elim (fun q => absurd q (no _ _)) fun q => q.1⟩, fun v => ⟨fun w _ h => absurd h (no _ _), fun h => absurd h (no _ _), fun _ => rfl⟩, fun v => ⟨fun w _ h => absurd h (no _ _), fun h => absurd h (no _ _), fun _ => rfl⟩⟩
/-- steps that leave their node and enter theirs are met once -/
theorem fl_new (hm : m < J) (hinj : ∀ i j, i ≤ J → j ≤ J → ch i = ch j → i = j) {x y : Nat} (h : fl_s ch m x y) : x ≠ ch (m + 1) ∧ y ≠ ch m := by
  obtain ⟨i, hi, h1, h2⟩ := h
  refine ⟨fun e => ?_, fun e => ?_⟩
  · have := hinj (i + 1) (m + 1) (by omega) (by omega) (h1.symm.trans e)
    omega
  · have := hinj i m (by omega) (by omega) (h2.symm.trans e)
    omega
theorem fl_N1 (N : fl_N U U' ff ft ff' ft' ch m) (hm : m < J) (hinj : ∀ i j, i ≤ J → j ≤ J → ch i = ch j → i = j) {v : Nat} (h1 : ch (m + 1) = 2 * v) (h2 : ch m = 2 * v + 1) : fl_N U (fun x => x = v ∨ U' x) ff ft ff' ft' ch (m + 1) := by
  obtain ⟨nU, nT, nF⟩ := N
  have e1 : ∀ x w, fl_s ch (m + 1) (2 * x + 1) (2 * w) ↔ fl_s ch m (2 * x + 1) (2 * w) := fun x w => by
    rw [fl_s1]
    exact ⟨fun z => z.elim id fun q => by omega, Or.inl⟩
  refine ⟨fun x => ?_, fun x => ?_, fun x => ?_⟩
  · show (x = v ∨ U' x) ↔ _
    rw [e1, nU x, fl_s1]
    constructor
    · rintro (rfl | h | h)
      · exact Or.inl (Or.inr ⟨h1.symm, h2.symm⟩)
      · exact Or.inl (Or.inl h)
      · exact Or.inr h
    · rintro ((h | ⟨h, _⟩) | h)
      · exact Or.inr (Or.inl h)
      · exact Or.inl (by omega)
      · exact Or.inr (Or.inr h)
  · simp only [e1]
    exact nT x
  · simp only [e1]
    exact nF x
theorem fl_N2 (N : fl_N U U' ff ft ff' ft' ch m) (hm : m < J) (hinj : ∀ i j, i ≤ J → j ≤ J → ch i = ch j → i = j) {v : Nat} (h1 : ch (m + 1) = 2 * v + 1) (h2 : ch m = 2 * v) : fl_N U (fun x => x ≠ v ∧ U' x) ff ft (ou_o ff' v none) (ou_o ft' v none) ch (m + 1) := by
  obtain ⟨nU, nT, nF⟩ := N
  have hs : fl_s ch (m + 1) (2 * v + 1) (2 * v) := fl_s1.mpr (Or.inr ⟨h1.symm, h2.symm⟩)
  refine ⟨fun x => ?_, fun x => ?_, fun x => ?_⟩
  · rcases Nat.decEq x v with z | rfl
    · have a : fl_s ch (m + 1) (2 * x) (2 * x + 1) ↔ fl_s ch m (2 * x) (2 * x + 1) := by
        rw [fl_s1]; exact ⟨fun q => q.elim id fun r => by omega, Or.inl⟩
      have b : fl_s ch (m + 1) (2 * x + 1) (2 * x) ↔ fl_s ch m (2 * x + 1) (2 * x) := by
        rw [fl_s1]; exact ⟨fun q => q.elim id fun r => by omega, Or.inl⟩
      rw [a, b, ← nU x]
      exact ⟨fun q => q.2, fun q => ⟨z, q⟩⟩
    · refine ⟨fun q => absurd rfl q.1, fun q => ?_⟩
      rcases q with q | q
      · exfalso
        rcases fl_s1.mp q with ⟨i, hi, r1, r2⟩ | ⟨r, _⟩
        · have a := hinj (i + 1) m (by omega) (by omega) (by omega)
          have b := hinj i (m + 1) (by omega) (by omega) (by omega)
          omega
        · omega
      · exact absurd hs q.2
  · rcases Nat.decEq x v with z | rfl
    · have a : ∀ w, fl_s ch (m + 1) (2 * x + 1) (2 * w) ↔ fl_s ch m (2 * x + 1) (2 * w) := fun w => by
        rw [fl_s1]; exact ⟨fun q => q.elim id fun r => by omega, Or.inl⟩
      simp only [a, ou_n ft' none z]
      exact nT x
    · rw [ou_s]
      refine ⟨fun w hw q => ?_, fun _ => rfl, fun q => absurd hs (q x)⟩
      rcases fl_s1.mp q with r | ⟨_, r⟩
      · exact absurd h1.symm (fl_new hm hinj r).1
      · omega
  · rcases Nat.decEq x v with z | rfl
    · have a : ∀ u, fl_s ch (m + 1) (2 * u + 1) (2 * x) ↔ fl_s ch m (2 * u + 1) (2 * x) := fun u => by
        rw [fl_s1]; exact ⟨fun q => q.elim id fun r => by omega, Or.inl⟩
      simp only [a, ou_n ff' none z]
      exact nF x
    · rw [ou_s]
      refine ⟨fun u hu q => ?_, fun _ => rfl, fun q => absurd hs (q x)⟩
      rcases fl_s1.mp q with r | ⟨r, _⟩
      · exact absurd h2.symm (fl_new hm hinj r).2
      · omega
theorem fl_N3 (N : fl_N U U' ff ft ff' ft' ch m) (hm : m < J) (hinj : ∀ i j, i ≤ J → j ≤ J → ch i = ch j → i = j) {u w : Nat} (hne : u ≠ w) (h1 : ch (m + 1) = 2 * u + 1) (h2 : ch m = 2 * w) : fl_N U U' ff ft (ou_o ff' w (some u)) (ou_o ft' u (some w)) ch (m + 1) := by
  obtain ⟨nU, nT, nF⟩ := N
  have hs : fl_s ch (m + 1) (2 * u + 1) (2 * w) := fl_s1.mpr (Or.inr ⟨h1.symm, h2.symm⟩)
  refine ⟨fun x => ?_, fun x => ?_, fun x => ?_⟩
  · have a : fl_s ch (m + 1) (2 * x) (2 * x + 1) ↔ fl_s ch m (2 * x) (2 * x + 1) := by
      rw [fl_s1]; exact ⟨fun q => q.elim id fun r => by omega, Or.inl⟩
    have b : fl_s ch (m + 1) (2 * x + 1) (2 * x) ↔ fl_s ch m (2 * x + 1) (2 * x) := by
      rw [fl_s1]; exact ⟨fun q => q.elim id fun r => by omega, Or.inl⟩
    rw [a, b]
    exact nU x
  · rcases Nat.decEq x u with z | rfl
    · have a : ∀ w', fl_s ch (m + 1) (2 * x + 1) (2 * w') ↔ fl_s ch m (2 * x + 1) (2 * w') := fun w' => by
        rw [fl_s1]; exact ⟨fun q => q.elim id fun r => by omega, Or.inl⟩
      simp only [a, ou_n ft' (some w) z]
      exact nT x
    · rw [ou_s]
      refine ⟨fun w' hw q => ?_, fun q => ?_, fun q => absurd hs (q w)⟩
      · rcases fl_s1.mp q with r | ⟨_, r⟩
        · exact absurd h1.symm (fl_new hm hinj r).1
        · rw [show w = w' by omega]
      · rcases fl_s1.mp q with r | ⟨_, r⟩
        · exact absurd h1.symm (fl_new hm hinj r).1
        · omega
  · rcases Nat.decEq x w with z | rfl
    · have a : ∀ u', fl_s ch (m + 1) (2 * u' + 1) (2 * x) ↔ fl_s ch m (2 * u' + 1) (2 * x) := fun u' => by
        rw [fl_s1]; exact ⟨fun q => q.elim id fun r => by omega, Or.inl⟩
      simp only [a, ou_n ff' (some u) z]
      exact nF x
    · rw [ou_s]
      refine ⟨fun u' hu q => ?_, fun q => ?_, fun q => absurd hs (q u)⟩
      · rcases fl_s1.mp q with r | ⟨r, _⟩
        · exact absurd h2.symm (fl_new hm hinj r).2
        · rw [show u = u' by omega]
      · rcases fl_s1.mp q with r | ⟨r, _⟩
        · exact absurd h2.symm (fl_new hm hinj r).2
        · omega
theorem fl_N4 (N : fl_N U U' ff ft ff' ft' ch m) {u w : Nat} (hne : u ≠ w) (h1 : ch (m + 1) = 2 * w) (h2 : ch m = 2 * u + 1) : fl_N U U' ff ft ff' ft' ch (m + 1) := by
  obtain ⟨nU, nT, nF⟩ := N
  have a : ∀ x y, fl_s ch (m + 1) (2 * x + 1) (2 * y) ↔ fl_s ch m (2 * x + 1) (2 * y) := fun x y => by
    rw [fl_s1]; exact ⟨fun q => q.elim id fun r => by omega, Or.inl⟩
  have b : ∀ x, fl_s ch (m + 1) (2 * x) (2 * x + 1) ↔ fl_s ch m (2 * x) (2 * x + 1) := fun x => by
    rw [fl_s1]; exact ⟨fun q => q.elim id fun r => by omega, Or.inl⟩
  refine ⟨fun x => ?_, fun x => ?_, fun x => ?_⟩
  · rw [a, b]; exact nU x
  · simp only [a]; exact nT x
  · simp only [a]; exact nF x
end
section
variable {tg : Nat → Nat → Option Nat} {t k : Nat} {S G U : Nat → Prop} {ff ft : Nat → Option Nat} {ch : Nat → Nat} {J : Nat} {cb : Nat → Option Nat}
variable {f_walls f_placed f_count f_byEffort f_best f_turns : Int32} {a_waysOut a_placeOf a_goalOf a_stepTo a_toGoal a_distance a_who a_cost a_origin a_closed a_onward a_queue a_cellNow a_cellNext a_walkNow a_walkNext a_used a_flowFrom a_flowTo a_cameBy a_line : Nat → Int32}
theorem xw_lead4 {post : SX → Prop} (ht : t ≤ 26) (V : fl_V tg t S G U ff ft) (P : fl_P tg t S G U ff ft ch J) (hcb : ∀ n, n < 24 * (t + 1) → a_cameBy n = cg_eO (cb n)) (hch : ∀ i, i < J → cb (ch i) = some (ch (i + 1))) (hJ : cb (ch J) = some (ch J)) (hl : ∀ i, i ≤ J → ch i < 24 * (t + 1)) (hJ6 : J < 648)
    (h : ∀ U' ff' ft' a_used a_flowFrom a_flowTo, fl_N U U' ff ft ff' ft' ch J → fl_A t U' ff' ft' a_used a_flowFrom a_flowTo → post (f_walls, f_placed, f_count, f_byEffort, f_best, f_turns, a_waysOut, a_placeOf, a_goalOf, a_stepTo, a_toGoal, a_distance, a_who, a_cost, a_origin, a_closed, a_onward, a_queue, a_cellNow, a_cellNext, a_walkNow, a_walkNext, a_used, a_flowFrom, a_flowTo, a_cameBy, a_line)) :
    ∀ e m f U' ff' ft' a_used a_flowFrom a_flowTo, m + e = J → e < f → fl_N U U' ff ft ff' ft' ch m → fl_A t U' ff' ft' a_used a_flowFrom a_flowTo → wX_lead_4 post f (nI (ch m)) (nI m) f_walls f_placed f_count f_byEffort f_best f_turns a_waysOut a_placeOf a_goalOf a_stepTo a_toGoal a_distance a_who a_cost a_origin a_closed a_onward a_queue a_cellNow a_cellNext a_walkNow a_walkNext a_used a_flowFrom a_flowTo a_cameBy a_line := by
  have hinj := P.2.2.2
  intro e
  induction e with
  | zero =>
    intro m f U' ff' ft' a_used a_flowFrom a_flowTo he hf N A
    obtain ⟨f, rfl⟩ : ∃ m, f = m + 1 := ⟨f - 1, by omega⟩
    obtain rfl : m = J := by omega
    have lm := hl m (Nat.le_refl _)
    refine pk_le 648 m (fun _ => by omega) (fun _ => ⟨vp_in_nI (by omega) (by omega), ?_⟩)
    rw [nI_clamp (by omega), hcb _ lm, hJ]
    exact br_t rfl (h U' ff' ft' _ _ _ N A)
  | succ e ih =>
    intro m f U' ff' ft' a_used a_flowFrom a_flowTo he hf N A
    obtain ⟨f, rfl⟩ : ∃ m, f = m + 1 := ⟨f - 1, by omega⟩
    have hm : m < J := by omega
    have lm := hl m (by omega)
    have lm1 := hl (m + 1) (by omega)
    have vm : vp_in (nI (ch m)) 648 := vp_in_nI (by omega) (by omega)
    have ne : ch (m + 1) ≠ ch m := fun e => by have := hinj (m + 1) m (by omega) (by omega) e; omega
    refine pk_le 648 m (fun _ => by omega) (fun _ => ⟨vm, ?_⟩)
    rw [nI_clamp (show ch m < 2 ^ 31 by omega), hcb _ lm, hch m hm, cg_eOs]
    refine pk_eq (ch (m + 1)) (ch m) (fun z => absurd z ne) (fun _ => ⟨vm, nm_e ⟨by decide, nm_r (xb_d 2 (show ch m < 2 ^ 31 by omega) (by omega)) ⟨by decide, nm_r (xb_d 2 (show ch (m + 1) < 2 ^ 31 by omega) (by omega)) ?_⟩⟩⟩)
    rcases P.2.2.1 m hm with ⟨v, r1, r2, r3, r4⟩ | ⟨w, u, r1, r2, r3, r4⟩ | ⟨v, r1, r2, r3⟩ | ⟨u, w, r1, r2, r3, r4, r5⟩
    · -- one more cell is used
      have e1 : ch m / 2 = v := by omega
      have e2 : ch (m + 1) / 2 = v := by omega
      rw [e1, e2]
      refine br_t rfl ⟨by decide, ?_⟩
      rw [xb_r 2 (show ch m < 2 ^ 31 by omega) (by omega), show ch m % 2 = 1 by omega]
      refine br_t rfl ⟨vp_in_nI (by omega) (by omega), nm_r (by rw [nI_clamp (by omega), xb_b1]) ⟨vp_in_nI (by omega) (by omega), ?_⟩⟩
      rw [nI_clamp (show v < 2 ^ 31 by omega), pk_us]
      refine br_f (by decide) (nm_r (nI_1 m) (ih (m + 1) f _ ff' ft' _ _ _ (by omega) (by omega) (fl_N1 N hm hinj r1 r2) fun x hx => ?_))
      rcases Nat.decEq x v with z | rfl
      · rw [pk_un z]
        exact ⟨fun q => (A x hx).1 (q.elim (fun q => absurd q z) id), fun q => (A x hx).2.1 fun r => q (Or.inr r), (A x hx).2.2⟩
      · rw [pk_us]
        exact ⟨fun _ => rfl, fun q => absurd (Or.inl rfl) q, (A x hx).2.2⟩
    · -- back along a way: nothing is written
      have hne : u ≠ w := fun e => by
        have := (fl_ffU V r4).2.2.2.1
        omega
      have e1 : ch m / 2 = u := by omega
      have e2 : ch (m + 1) / 2 = w := by omega
      rw [e1, e2]
      refine pk_eq u w (fun z => absurd z hne) (fun _ => ⟨by decide, ?_⟩)
      rw [xb_r 2 (show ch m < 2 ^ 31 by omega) (by omega), show ch m % 2 = 1 by omega]
      exact br_f (by decide) (nm_r (nI_1 m) (ih (m + 1) f U' ff' ft' _ _ _ (by omega) (by omega) (fl_N4 N hne r1 r2) A))
    · -- a cell is given up
      have e1 : ch m / 2 = v := by omega
      have e2 : ch (m + 1) / 2 = v := by omega
      rw [e1, e2]
      refine br_t rfl ⟨by decide, ?_⟩
      rw [xb_r 2 (show ch m < 2 ^ 31 by omega) (by omega), show ch m % 2 = 0 by omega]
      refine br_f (by decide) ⟨vp_in_nI (by omega) (by omega), nm_r (by rw [nI_clamp (by omega), xb_b0]) ⟨vp_in_nI (by omega) (by omega), ?_⟩⟩
      rw [nI_clamp (show v < 2 ^ 31 by omega), pk_us]
      refine br_t rfl ⟨vp_in_nI (by omega) (by omega), nm_e ⟨vp_in_nI (by omega) (by omega), nm_e (nm_r (nI_1 m) (ih (m + 1) f _ _ _ _ _ _ (by omega) (by omega) (fl_N2 N hm hinj r1 r2) fun x hx => ?_))⟩⟩
      rcases Nat.decEq x v with z | rfl
      · rw [pk_un z, pk_un z, pk_un z, ou_n _ _ z, ou_n _ _ z]
        exact ⟨fun q => (A x hx).1 q.2, fun q => (A x hx).2.1 fun r => q ⟨z, r⟩, (A x hx).2.2⟩
      · rw [pk_us, pk_us, pk_us, ou_s, ou_s]
        exact ⟨fun q => absurd rfl q.1, fun _ => rfl, rfl, rfl⟩
    · -- a step is taken
      have hne : u ≠ w := fun e => by
        have := r4.1
        rw [e] at this
        omega
      have e1 : ch m / 2 = w := by omega
      have e2 : ch (m + 1) / 2 = u := by omega
      rw [e1, e2]
      refine pk_eq w u (fun z => absurd z.symm hne) (fun _ => ⟨by decide, ?_⟩)
      rw [xb_r 2 (show ch m < 2 ^ 31 by omega) (by omega), show ch m % 2 = 0 by omega]
      refine br_t rfl ⟨vp_in_nI (by omega) (by omega), nm_r (by rw [nI_clamp (by omega)]) ⟨vp_in_nI (by omega) (by omega), nm_r (by rw [nI_clamp (by omega)]) (nm_r (nI_1 m) (ih (m + 1) f _ _ _ _ _ _ (by omega) (by omega) (fl_N3 N hm hinj hne r1 r2) fun x hx => ⟨(A x hx).1, (A x hx).2.1, ?_, ?_⟩))⟩⟩
      · rcases Nat.decEq x w with z | rfl
        · rw [pk_un z, ou_n _ _ z]; exact (A x hx).2.2.1
        · rw [pk_us, ou_s]; rfl
      · rcases Nat.decEq x u with z | rfl
        · rw [pk_un z, ou_n _ _ z]; exact (A x hx).2.2.2
        · rw [pk_us, ou_s]; rfl
theorem xw_lead {post : SX → Prop} (ht : t ≤ 26) (V : fl_V tg t S G U ff ft) (A : fl_A t U ff ft a_used a_flowFrom a_flowTo) (P : fl_P tg t S G U ff ft ch J) (hcb : ∀ n, n < 24 * (t + 1) → a_cameBy n = cg_eO (cb n)) (hch : ∀ i, i < J → cb (ch i) = some (ch (i + 1))) (hJ : cb (ch J) = some (ch J)) (hl : ∀ i, i ≤ J → ch i < 24 * (t + 1)) (hJ6 : J < 648)
    (h : ∀ U' ff' ft' a_used a_flowFrom a_flowTo, fl_V tg t S G U' ff' ft' → fl_A t U' ff' ft' a_used a_flowFrom a_flowTo → ct_n U' 12 = ct_n U 12 + 1 → post (f_walls, f_placed, f_count, f_byEffort, f_best, f_turns, a_waysOut, a_placeOf, a_goalOf, a_stepTo, a_toGoal, a_distance, a_who, a_cost, a_origin, a_closed, a_onward, a_queue, a_cellNow, a_cellNext, a_walkNow, a_walkNext, a_used, a_flowFrom, a_flowTo, a_cameBy, a_line)) : wpX_lead post (f_walls, f_placed, f_count, f_byEffort, f_best, f_turns, a_waysOut, a_placeOf, a_goalOf, a_stepTo, a_toGoal, a_distance, a_who, a_cost, a_origin, a_closed, a_onward, a_queue, a_cellNow, a_cellNext, a_walkNow, a_walkNext, a_used, a_flowFrom, a_flowTo, a_cameBy, a_line) (nI (ch 0)) := by
  refine ⟨J + 1, xw_lead4 ht V P hcb hch hJ hl hJ6 (fun U' ff' ft' a_used a_flowFrom a_flowTo N A' => ?_) J 0 (J + 1) U ff ft a_used a_flowFrom a_flowTo (by omega) (by omega) fl_N0 A⟩
  obtain ⟨V', s, hs, hn, hU⟩ := fl_aug V P N
  refine h U' ff' ft' _ _ _ V' A' ?_
  rw [← ct_add hn hs]
  exact ct_eq hU
end
end
section
/-- all walkers stand on goals -/
def sw_T (k : Nat) (wh gl : Nat → Nat) (s : Nat) : Prop := ∀ i, i < k → fl_S k wh gl (dg_j i s)
/-- the answer: the least number of turns after which the goals are taken, by anyone -/
def sw_A (E : Nat → Nat → Nat → Prop) (T : Nat → Prop) (st : Nat) (r : Int32) : Prop :=
  (∃ n s, r = nI n ∧ gr_R E n st s ∧ T s ∧ ∀ n' s', gr_R E n' st s' → T s' → n ≤ n') ∨ (r = -2 ∧ ∀ n s, gr_R E n st s → ¬ T s)
theorem sw_u {E : Nat → Nat → Nat → Prop} {T : Nat → Prop} {st : Nat} {r r' : Int32} (h : sw_A E T st r) (h' : sw_A E T st r') : r = r' := by
  rcases h with ⟨n, s, rfl, h1, h2, h3⟩ | ⟨rfl, h1⟩
  · rcases h' with ⟨n', s', rfl, g1, g2, g3⟩ | ⟨_, g1⟩
    · rw [Nat.le_antisymm (h3 n' s' g1 g2) (g3 n s h1 h2)]
    · exact absurd h2 (g1 n s h1)
  · rcases h' with ⟨n', s', _, g1, g2, _⟩ | ⟨rfl, _⟩
    · exact absurd g2 (h1 n' s' g1)
    · rfl
theorem mo_Wn {tg : Nat → Nat → Option Nat} {k : Nat} : ∀ {n c s t : Nat}, gr_W (mo_E tg false k) n c s t → c = n
  | 0, _, _, _, h => h.1
  | n + 1, c, s, t, ⟨u, c1, w, h1, e, h2⟩ => by
    have := mo_Wn h1
    have hw : w = 1 := e.2.2
    omega
theorem fl_cnt {tg : Nat → Nat → Option Nat} {t k st : Nat} {S G U : Nat → Prop} {ff ft : Nat → Option Nat} (hk : mo_K k) (V : fl_V tg t S G U ff ft) (hS : ∀ c, S c → ∃ i, i < k ∧ dg_j i st = c) : ct_n U 12 ≤ k := by
  have a : ct_n U 12 ≤ ct_n (fun _ => True) k := by
    refine ct_inj (fl_ix st) (fun c hc h => ?_) (fun c c' hc hc' h h' e => ?_)
    · obtain ⟨j, hj, hjc⟩ := hS c (V.2.1 c h hc).1
      exact ⟨(fl_ix_e hk hj hjc).1, trivial⟩
    · obtain ⟨j, hj, hjc⟩ := hS c (V.2.1 c h hc).1
      obtain ⟨j', hj', hjc'⟩ := hS c' (V.2.1 c' h' hc').1
      rw [← (fl_ix_e hk hj hjc).2, ← (fl_ix_e hk hj' hjc').2, e]
  have := ct_le (fun _ => True) k
  omega
section
variable {tg : Nat → Nat → Option Nat} {op : Nat → Prop} {t k : Nat} {wh pl gl : Nat → Nat}
variable {f_walls f_placed f_count f_byEffort f_best f_turns : Int32} {a_waysOut a_placeOf a_goalOf a_stepTo a_toGoal a_distance a_who a_cost a_origin a_closed a_onward a_queue a_cellNow a_cellNext a_walkNow a_walkNext a_used a_flowFrom a_flowTo a_cameBy a_line : Nat → Int32}
theorem xw_flow48 {post : Int32 → SX → Prop} (hk : mo_K k) (ok : cg_OK tg op) (hst : cg_ST tg a_stepTo) (ht : t ≤ 26) (hw : tm_W k wh a_who) (hpl : ∀ w, w < 3 → a_placeOf w = nI (pl w) ∧ pl w < 12) (hgl : ∀ w, w < 3 → a_goalOf w = nI (gl w) ∧ gl w < 12) (hd : ∀ i j, i < k → j < k → pl (wh i) = pl (wh j) → i = j)
    (h : ∀ U ff ft a_used a_flowFrom a_flowTo a_cameBy a_line, fl_V tg t (fl_S k wh pl) (fl_S k wh gl) U ff ft → (ct_n U 12 < k → ∃ Z, fl_Z tg t (fl_S k wh pl) (fl_S k wh gl) U ff ft Z) → post (nI (ct_n U 12)) (f_walls, f_placed, nI k, f_byEffort, f_best, nI t, a_waysOut, a_placeOf, a_goalOf, a_stepTo, a_toGoal, a_distance, a_who, a_cost, a_origin, a_closed, a_onward, a_queue, a_cellNow, a_cellNext, a_walkNow, a_walkNext, a_used, a_flowFrom, a_flowTo, a_cameBy, a_line)) :
    ∀ e i f U ff ft a_used a_flowFrom a_flowTo a_cameBy a_line, i + e = 3 → e + 1 < f → ct_n U 12 = i → fl_V tg t (fl_S k wh pl) (fl_S k wh gl) U ff ft → fl_A t U ff ft a_used a_flowFrom a_flowTo → wX_flow_48 post f (nI i) 1 (nI i) f_walls f_placed (nI k) f_byEffort f_best (nI t) a_waysOut a_placeOf a_goalOf a_stepTo a_toGoal a_distance a_who a_cost a_origin a_closed a_onward a_queue a_cellNow a_cellNext a_walkNow a_walkNext a_used a_flowFrom a_flowTo a_cameBy a_line := by
  have hk3 : k ≤ 3 := by rcases hk with e | e | e <;> omega
  intro e
  induction e with
  | zero =>
    intro i f U ff ft a_used a_flowFrom a_flowTo a_cameBy a_line he hf hi V A
    obtain ⟨f, rfl⟩ : ∃ m, f = m + 1 := ⟨f - 1, by omega⟩
    refine pk_le 3 i (fun _ => ?_) (fun z => by omega)
    rw [← hi]
    exact h U ff ft _ _ _ _ _ V fun z => by omega
  | succ e ih =>
    intro i f U ff ft a_used a_flowFrom a_flowTo a_cameBy a_line he hf hi V A
    obtain ⟨f, rfl⟩ : ∃ m, f = m + 1 := ⟨f - 1, by omega⟩
    refine pk_le 3 i (fun _ => by omega) (fun _ => br_f (by decide) ?_)
    refine xw_search hk ok hst ht hw hpl hgl hd V A (fun a_cameBy a_line Z F => ?_) (fun a_cameBy a_line cb ch J hcb P hch hJ hl hJ6 => ?_)
    · refine br_t xb_neg (br_t rfl (nm_r (nI_1 i) ?_))
      obtain ⟨f, rfl⟩ : ∃ m, f = m + 1 := ⟨f - 1, by omega⟩
      have fin : post (nI i) (f_walls, f_placed, nI k, f_byEffort, f_best, nI t, a_waysOut, a_placeOf, a_goalOf, a_stepTo, a_toGoal, a_distance, a_who, a_cost, a_origin, a_closed, a_onward, a_queue, a_cellNow, a_cellNext, a_walkNow, a_walkNext, a_used, a_flowFrom, a_flowTo, a_cameBy, a_line) := by
        rw [← hi]
        exact h U ff ft _ _ _ _ _ V fun _ => ⟨Z, F⟩
      exact br_c (fun _ => fin) (fun _ => br_t rfl fin)
    · have l0 := hl 0 (Nat.zero_le _)
      refine br_f (nI_pos (by omega)) (br_f (by decide) ?_)
      refine xw_lead ht V A P hcb hch hJ hl hJ6 fun U' ff' ft' a_used a_flowFrom a_flowTo V' A' hU' => nm_r (nI_1 i) (nm_r (nI_1 i) ?_)
      exact ih (i + 1) f U' ff' ft' a_used a_flowFrom a_flowTo a_cameBy a_line (by omega) (by omega) (by omega) V' A'
theorem xw_flow {post : Int32 → SX → Prop} (hk : mo_K k) (ok : cg_OK tg op) (hst : cg_ST tg a_stepTo) (ht : t ≤ 26) (hw : tm_W k wh a_who) (hpl : ∀ w, w < 3 → a_placeOf w = nI (pl w) ∧ pl w < 12) (hgl : ∀ w, w < 3 → a_goalOf w = nI (gl w) ∧ gl w < 12) (hd : ∀ i j, i < k → j < k → pl (wh i) = pl (wh j) → i = j)
    (h : ∀ U ff ft a_used a_flowFrom a_flowTo a_cameBy a_line, fl_V tg t (fl_S k wh pl) (fl_S k wh gl) U ff ft → (ct_n U 12 < k → ∃ Z, fl_Z tg t (fl_S k wh pl) (fl_S k wh gl) U ff ft Z) → post (nI (ct_n U 12)) (f_walls, f_placed, nI k, f_byEffort, f_best, nI t, a_waysOut, a_placeOf, a_goalOf, a_stepTo, a_toGoal, a_distance, a_who, a_cost, a_origin, a_closed, a_onward, a_queue, a_cellNow, a_cellNext, a_walkNow, a_walkNext, a_used, a_flowFrom, a_flowTo, a_cameBy, a_line)) : wpX_flow post (f_walls, f_placed, nI k, f_byEffort, f_best, nI t, a_waysOut, a_placeOf, a_goalOf, a_stepTo, a_toGoal, a_distance, a_who, a_cost, a_origin, a_closed, a_onward, a_queue, a_cellNow, a_cellNext, a_walkNow, a_walkNext, a_used, a_flowFrom, a_flowTo, a_cameBy, a_line) := by
  have e12 : (12 : Int32) * (nI t + 1) = nI (12 * (t + 1)) := by rw [nI_1, show (12 : Int32) = nI 12 from rfl, pk_mul]
  have key : ∀ e i f a_used a_flowFrom a_flowTo, i + e = 12 * (t + 1) → e < f → (∀ v, v < i → a_used v = 0 ∧ a_flowFrom v = -1 ∧ a_flowTo v = -1) → wX_flow_2 post f_walls f_placed (nI k) f_byEffort f_best (nI t) f (nI i) a_waysOut a_placeOf a_goalOf a_stepTo a_toGoal a_distance a_who a_cost a_origin a_closed a_onward a_queue a_cellNow a_cellNext a_walkNow a_walkNext a_used a_flowFrom a_flowTo a_cameBy a_line := by
    intro e
    induction e with
    | zero =>
      intro i f a_used a_flowFrom a_flowTo he hf hi
      obtain ⟨f, rfl⟩ : ∃ m, f = m + 1 := ⟨f - 1, by omega⟩
      unfold wX_flow_2
      rw [e12]
      refine pk_le (12 * (t + 1)) i (fun _ => ⟨5, ?_⟩) (fun z => by omega)
      refine xw_flow48 hk ok hst ht hw hpl hgl hd h 3 0 5 (fun _ => False) (fun _ => none) (fun _ => none) _ _ _ _ _ (by omega) (by omega) (ct_zero fun _ _ z => z) ⟨fun v z => z.elim, fun v z => z.elim, fun v z => z.elim, fun v z => z.elim, fun v z => z.elim, fun v _ => ⟨rfl, rfl⟩⟩ fun v hv => ?_
      obtain ⟨a1, a2, a3⟩ := hi v (by omega)
      exact ⟨fun z => z.elim, fun _ => a1, a2, a3⟩
    | succ e ih =>
      intro i f a_used a_flowFrom a_flowTo he hf hi
      obtain ⟨f, rfl⟩ : ∃ m, f = m + 1 := ⟨f - 1, by omega⟩
      unfold wX_flow_2
      rw [e12]
      have vi : vp_in (nI i) 324 := vp_in_nI (by omega) (by omega)
      have ci : (nI i).toNatClampNeg = i := nI_clamp (by omega)
      refine pk_le (12 * (t + 1)) i (fun _ => by omega) (fun hlt => ⟨vi, nm_r (by rw [ci, xb_b0]) ⟨vi, nm_r (by rw [ci]) ⟨vi, nm_r (by rw [ci]) (nm_r (nI_1 i) (ih (i + 1) f _ _ _ (by omega) (by omega) fun v hv => ?_))⟩⟩⟩)
      rcases Nat.decEq v i with z | rfl
      · rw [pk_un z, pk_un z, pk_un z]; exact hi v (by omega)
      · rw [pk_us, pk_us, pk_us]; exact ⟨rfl, rfl, rfl⟩
  exact ⟨12 * (t + 1) + 1, key (12 * (t + 1)) 0 _ a_used a_flowFrom a_flowTo (by omega) (by omega) fun v hv => by omega⟩
theorem xw_swarm21 {post : Int32 → SX → Prop} (hk : mo_K k) (ok : cg_OK tg op) (hst : cg_ST tg a_stepTo) (hw : tm_W k wh a_who) (hpl : ∀ w, w < 3 → a_placeOf w = nI (pl w) ∧ pl w < 12) (hgl : ∀ w, w < 3 → a_goalOf w = nI (gl w) ∧ gl w < 12) (hV : mo_V k (tm_s k fun i => pl (wh i)))
    (h : ∀ f_turns a_used a_flowFrom a_flowTo a_cameBy a_line r, sw_A (mo_E tg false k) (sw_T k wh gl) (tm_s k fun i => pl (wh i)) r → post r (f_walls, f_placed, nI k, f_byEffort, f_best, f_turns, a_waysOut, a_placeOf, a_goalOf, a_stepTo, a_toGoal, a_distance, a_who, a_cost, a_origin, a_closed, a_onward, a_queue, a_cellNow, a_cellNext, a_walkNow, a_walkNext, a_used, a_flowFrom, a_flowTo, a_cameBy, a_line)) :
    ∀ e t f f_turns a_used a_flowFrom a_flowTo a_cameBy a_line, t + e = 27 → e < f → (∀ n s, n < t → gr_R (mo_E tg false k) n (tm_s k fun i => pl (wh i)) s → ¬ sw_T k wh gl s) → (27 ≤ t → ∀ n s, gr_R (mo_E tg false k) n (tm_s k fun i => pl (wh i)) s → ¬ sw_T k wh gl s) → wX_swarm_21 post f (nI t) f_walls f_placed (nI k) f_byEffort f_best f_turns a_waysOut a_placeOf a_goalOf a_stepTo a_toGoal a_distance a_who a_cost a_origin a_closed a_onward a_queue a_cellNow a_cellNext a_walkNow a_walkNext a_used a_flowFrom a_flowTo a_cameBy a_line := by
  have lp : ∀ i, i < k → pl (wh i) < 12 := fun i hi => (hpl _ (hw i hi).2).2
  have dst : ∀ i, i < k → dg_j i (tm_s k fun i => pl (wh i)) = pl (wh i) := fun i hi => dg_s hk lp hi
  have hd : ∀ i j, i < k → j < k → pl (wh i) = pl (wh j) → i = j := fun i j hi hj e => dg_ne hk hV hi hj (by rw [dst i hi, dst j hj]; exact e)
  have hk3 : k ≤ 3 := by rcases hk with e | e | e <;> omega
  have hS : ∀ c, fl_S k wh pl c → ∃ i, i < k ∧ dg_j i (tm_s k fun i => pl (wh i)) = c := fun c ⟨i, hi, e⟩ => ⟨i, hi, by rw [dst i hi]; exact e⟩
  have hS' : ∀ i, i < k → fl_S k wh pl (dg_j i (tm_s k fun i => pl (wh i))) := fun i hi => ⟨i, hi, (dst i hi).symm⟩
  intro e
  induction e with
  | zero =>
    intro t f f_turns a_used a_flowFrom a_flowTo a_cameBy a_line he hf hno hnv
    obtain ⟨f, rfl⟩ : ∃ m, f = m + 1 := ⟨f - 1, by omega⟩
    refine pk_lt 26 t (fun _ => h _ _ _ _ _ _ _ (Or.inr ⟨rfl, hnv (by omega)⟩)) (fun z => by omega)
  | succ e ih =>
    intro t f f_turns a_used a_flowFrom a_flowTo a_cameBy a_line he hf hno hnv
    obtain ⟨f, rfl⟩ : ∃ m, f = m + 1 := ⟨f - 1, by omega⟩
    refine pk_lt 26 t (fun _ => by omega) (fun hle => ?_)
    refine xw_flow hk ok hst hle hw hpl hgl hd fun U ff ft a_used a_flowFrom a_flowTo a_cameBy a_line V hZ => ?_
    have hc := fl_cnt hk V hS
    refine pk_eq (ct_n U 12) k (fun z => ?_) (fun z => nm_r (nI_1 t) ?_)
    · obtain ⟨s, r, hG⟩ := fl_plan ok hk V hV hS (by omega)
      refine h _ _ _ _ _ _ _ (Or.inl ⟨t, s, rfl, r, hG, fun n' s' r' T' => ?_⟩)
      rcases Nat.lt_or_ge n' t with y | y
      · exact absurd T' (hno n' s' y r')
      · exact y
    · obtain ⟨Z, F⟩ := hZ (by omega)
      refine ih (t + 1) f _ _ _ _ _ _ (by omega) (by omega) (fun n s hn r T => ?_) (fun h27 n s r T => ?_)
      · rcases Nat.lt_or_ge n t with y | y
        · exact hno n s y r T
        · have en : n = t := by omega
          subst en
          obtain ⟨n', hW⟩ := r
          have := mo_Wn hW
          subst this
          exact fl_noplan hk V F hV hS' (by omega) hW T
      · exact fl_never ok hk V F hV hS' (by omega) (by omega) r T
end
end
section
section
variable {tg : Nat → Nat → Option Nat} {k : Nat} {wh gl pl : Nat → Nat} {st : Nat}
variable {b_size : Int32} {b_isWall b_waysOut b_isSet b_place b_goal b_walkers b_steps b_cost b_good : Nat → Int32}
theorem yw_cell {post : Int32 → Prop} {s i : Nat} (hi : i < 3) (h : post (nI (dg_j i s))) : wpY_cell post (b_size, b_isWall, b_waysOut, b_isSet, b_place, b_goal, b_walkers, b_steps, b_cost, b_good) (nI (rv_c s)) (nI i) := by
  have lr := rv_lt s
  obtain ⟨r0, r1, r2, _⟩ := rv_d s
  have : i = 0 ∨ i = 1 ∨ i = 2 := by omega
  rcases this with rfl | rfl | rfl
  · refine br_t rfl ⟨by decide, ?_⟩
    rw [xb_d 144 (by omega) (by omega), r0]; exact h
  · refine br_f (by decide) (br_t rfl ⟨by decide, by decide, ?_⟩)
    rw [xb_d 12 (by omega) (by omega), xb_r 12 (by omega) (by omega), r1]; exact h
  · refine br_f (by decide) (br_f (by decide) ⟨by decide, ?_⟩)
    rw [xb_r 12 (by omega) (by omega), r2]; exact h
/-- so many different cells among so many goals are all of them -/
theorem sw_all {s : Nat} (hk : mo_K k) (hv : mo_V k s) (hgl : ∀ i, i < k → gl (wh i) < 12) (hT : sw_T k wh gl s) {c : Nat} (hc : fl_S k wh gl c) : ∃ i, i < k ∧ dg_j i s = c := by
  rcases Classical.em (∃ i, i < k ∧ dg_j i s = c) with q | q
  · exact q
  · exfalso
    have lc : c < 12 := by
      obtain ⟨j, hj, e⟩ := hc
      rw [← e]; exact hgl j hj
    have a := ct_lt (P := fun x => ∃ i, i < k ∧ dg_j i s = x) (Q := fl_S k wh gl) (a := c) q hc (N := 12) (fun x _ ⟨i, hi, e⟩ => by rw [← e]; exact hT i hi) lc
    have b : ct_n (fun _ => True) k ≤ ct_n (fun x => ∃ i, i < k ∧ dg_j i s = x) 12 := ct_inj (fun i => dg_j i s) (fun i hi _ => ⟨dg_lt i s, i, hi, rfl⟩) (fun i j hi hj _ _ e => dg_ne hk hv hi hj e)
    have d : ct_n (fl_S k wh gl) 12 ≤ ct_n (fun _ => True) k := by
      have dgs : ∀ i, i < k → dg_j i (tm_s k fun i => gl (wh i)) = gl (wh i) := fun i hi => dg_s hk hgl hi
      refine ct_inj (fl_ix (tm_s k fun i => gl (wh i))) (fun x _ ⟨j, hj, e⟩ => ⟨(fl_ix_e hk hj ((dgs j hj).trans e)).1, trivial⟩) (fun x x' _ _ ⟨j, hj, e⟩ ⟨j', hj', e'⟩ ee => ?_)
      rw [← (fl_ix_e hk hj ((dgs j hj).trans e)).2, ← (fl_ix_e hk hj' ((dgs j' hj').trans e')).2, ee]
    omega
/-- a set of cells as a number -/
def sw_M (p : Nat → Nat) (i M : Nat) : Prop := M < 4096 ∧ ∀ c, M.testBit c = true ↔ ∃ l, l < i ∧ p l = c
theorem sw_MS {p : Nat → Nat} {i M : Nat} (hp : p i < 12) (h : sw_M p i M) : sw_M p (i + 1) (M ||| 2 ^ p i) := by
  refine ⟨Nat.or_lt_two_pow (n := 12) h.1 (Nat.pow_lt_pow_right (by omega) hp), fun c => ?_⟩
  rw [Nat.testBit_or, Nat.testBit_two_pow, Bool.or_eq_true, h.2 c, decide_eq_true_eq]
  constructor
  · rintro (⟨l, h1, h2⟩ | h1)
    · exact ⟨l, by omega, h2⟩
    · exact ⟨i, by omega, h1⟩
  · rintro ⟨l, h1, h2⟩
    rcases Nat.decEq l i with z | rfl
    · exact Or.inl ⟨l, by omega, h2⟩
    · exact Or.inr h2
theorem yw_takesGoals {post : Int32 → Prop} {s : Nat} (hk : mo_K k) (hw : tm_W k wh b_walkers) (hgl : ∀ w, w < 3 → b_goal w = nI (gl w) ∧ gl w < 12) (hv : mo_V k s) (h1 : sw_T k wh gl s → post 1) (h0 : ¬ sw_T k wh gl s → post 0) : wpY_takesGoals post (nI k, b_isWall, b_waysOut, b_isSet, b_place, b_goal, b_walkers, b_steps, b_cost, b_good) (nI (rv_c s)) := by
  have hk3 : k ≤ 3 := by rcases hk with e | e | e <;> omega
  have lg : ∀ i, i < k → gl (wh i) < 12 := fun i hi => (hgl _ (hw i hi).2).2
  have key : ∀ e i f M1 M2, i + e = k → e < f → sw_M (fun l => dg_j l s) i M1 → sw_M (fun l => gl (wh l)) i M2 → wY_takesGoals_7 post (nI (rv_c s)) (nI k) b_isWall b_waysOut b_isSet b_place b_goal b_walkers b_steps b_cost b_good f (nI M1) (nI M2) (nI i) := by
    intro e
    induction e with
    | zero =>
      intro i f M1 M2 he hf m1 m2
      obtain ⟨f, rfl⟩ : ∃ m, f = m + 1 := ⟨f - 1, by omega⟩
      obtain rfl : i = k := by omega
      have l1 := m1.1
      have l2 := m2.1
      refine pk_le i i (fun _ => pk_eq M1 M2 (fun z => h1 fun j hj => ?_) (fun z => h0 fun hT => z ?_)) (fun h => by omega)
      · have := (m1.2 (dg_j j s)).mpr ⟨j, hj, rfl⟩
        rw [z] at this
        obtain ⟨l, hl, e⟩ := (m2.2 _).mp this
        exact ⟨l, hl, e⟩
      · apply Nat.eq_of_testBit_eq
        intro c
        rw [Bool.eq_iff_iff, m1.2 c, m2.2 c]
        constructor
        · rintro ⟨l, hl, rfl⟩
          obtain ⟨j, hj, e⟩ := hT l hl
          exact ⟨j, hj, e⟩
        · rintro ⟨l, hl, e⟩
          exact sw_all hk hv lg hT ⟨l, hl, e⟩
    | succ e ih =>
      intro i f M1 M2 he hf m1 m2
      obtain ⟨f, rfl⟩ : ∃ m, f = m + 1 := ⟨f - 1, by omega⟩
      refine pk_le k i (fun _ => by omega) (fun hlt => ?_)
      have wi := (hw i hlt).2
      have li := lg i hlt
      have ld := dg_lt i s
      refine yw_cell (by omega) (nm_r (e' := nI (M1 ||| 2 ^ dg_j i s)) (by rw [xb_sh1 (by omega), nx_or]) ⟨vp_in_nI (by omega) (by omega), ?_⟩)
      rw [nI_clamp (show i < 2 ^ 31 by omega), (hw i hlt).1]
      refine ⟨vp_in_nI wi (by omega), nm_r (e' := nI (M2 ||| 2 ^ gl (wh i))) (by rw [nI_clamp (by omega), (hgl _ wi).1, xb_sh1 (by omega), nx_or]) (nm_r (nI_1 i) (ih (i + 1) f _ _ (by omega) (by omega) (sw_MS ld m1) (sw_MS li m2)))⟩
  refine ⟨4, key k 0 4 0 0 (by omega) (by omega) ⟨by omega, fun c => ?_⟩ ⟨by omega, fun c => ?_⟩⟩
  · rw [Nat.zero_testBit]
    exact ⟨(fun z => nomatch z), fun ⟨l, hl, _⟩ => absurd hl (by omega)⟩
  · rw [Nat.zero_testBit]
    exact ⟨(fun z => nomatch z), fun ⟨l, hl, _⟩ => absurd hl (by omega)⟩
theorem yw_swarm25 {post : Int32 → SY → Prop} {C : Nat → Nat} (hk : mo_K k) (hw : tm_W k wh b_walkers) (hgl : ∀ w, w < 3 → b_goal w = nI (gl w) ∧ gl w < 12) (hv : mo_V k st) (R : yc_R C b_cost) (hF : dj_F (mo_E tg false k) st C) (h : ∀ r, sw_A (mo_E tg false k) (sw_T k wh gl) st r → post r (nI k, b_isWall, b_waysOut, b_isSet, b_place, b_goal, b_walkers, b_steps, b_cost, b_good)) :
    ∀ e i f x2, i + e = 1728 → e < f → ((x2 = -2 ∧ ∀ y, y < i → C (rv_c y) < 1000000 → ¬ sw_T k wh gl (rv_c y)) ∨ (∃ n s, x2 = nI n ∧ n < 1728 ∧ C s = n ∧ sw_T k wh gl s ∧ ∀ y, y < i → C (rv_c y) < 1000000 → sw_T k wh gl (rv_c y) → n ≤ C (rv_c y))) →
      wY_swarm_25 post (nI k) b_isWall b_waysOut b_isSet b_place b_goal b_walkers b_steps b_cost b_good f x2 (nI i) := by
  intro e
  induction e with
  | zero =>
    intro i f x2 he hf hx
    obtain ⟨f, rfl⟩ : ∃ m, f = m + 1 := ⟨f - 1, by omega⟩
    refine pk_le 1728 i (fun _ => h x2 ?_) (fun h => by omega)
    have fin : ∀ n s, gr_R (mo_E tg false k) n st s → C s < 1000000 ∧ C s ≤ n ∧ s < 1728 := fun n s r => by
      have ls := Nat.lt_of_lt_of_le (mo_R_V hv r).1 (mo_Nle k)
      rcases hF s with ⟨q, l⟩ | ⟨_, q⟩
      · exact ⟨by omega, l.2 _ r, ls⟩
      · exact absurd r (q n)
    rcases hx with ⟨rfl, hno⟩ | ⟨n, s, rfl, hn, hC, hT, hle⟩
    · refine Or.inr ⟨rfl, fun n s r hT => ?_⟩
      obtain ⟨f1, f2, f3⟩ := fin n s r
      have := hno (rv_c s) (by have := rv_lt s; omega)
      rw [rv_rv f3] at this
      exact this f1 hT
    · refine Or.inl ⟨n, s, rfl, ?_, hT, fun n' s' r' T' => ?_⟩
      · rcases hF s with ⟨_, l⟩ | ⟨q, _⟩
        · rw [hC] at l; exact l.1
        · omega
      · obtain ⟨f1, f2, f3⟩ := fin n' s' r'
        have := hle (rv_c s') (by have := rv_lt s'; omega)
        rw [rv_rv f3] at this
        have := this f1 T'
        omega
  | succ e ih =>
    intro i f x2 he hf hx
    obtain ⟨f, rfl⟩ : ∃ m, f = m + 1 := ⟨f - 1, by omega⟩
    refine pk_le 1728 i (fun _ => by omega) (fun hlt => ⟨vp_in_nI hlt (by omega), ?_⟩)
    have ci : (nI i).toNatClampNeg = i := nI_clamp (by omega)
    have vi : vp_in (nI i) 1728 := vp_in_nI hlt (by omega)
    have R' := R (rv_c i) (rv_lt i)
    rw [rv_rv hlt] at R'
    have skip : (C (rv_c i) < 1000000 → ¬ sw_T k wh gl (rv_c i)) → wY_swarm_25 post (nI k) b_isWall b_waysOut b_isSet b_place b_goal b_walkers b_steps b_cost b_good f x2 (nI (i + 1)) := fun q => by
      refine ih (i + 1) f x2 (by omega) (by omega) ?_
      rcases hx with ⟨e1, hno⟩ | ⟨n, s, e1, hn, hC, hT, hle⟩
      · refine Or.inl ⟨e1, fun y hy => ?_⟩
        rcases Nat.decEq y i with z | rfl
        · exact hno y (by omega)
        · exact q
      · refine Or.inr ⟨n, s, e1, hn, hC, hT, fun y hy h1 h2 => ?_⟩
        rcases Nat.decEq y i with z | rfl
        · exact hle y (by omega) h1 h2
        · exact absurd h2 (q h1)
    rw [ci]
    rcases R' with ⟨z, q⟩ | ⟨z, q⟩
    · rw [q]
      exact br_t xb_neg (nm_r (nI_1 i) (skip fun y => by omega))
    · rw [q]
      have hl : C (rv_c i) < 1728 ∧ gr_L (mo_E tg false k) (C (rv_c i)) st (rv_c i) := by
        rcases hF (rv_c i) with l | ⟨y, _⟩
        · exact l
        · omega
      have htg := yw_takesGoals (b_isWall := b_isWall) (b_waysOut := b_waysOut) (b_isSet := b_isSet) (b_place := b_place) (b_goal := b_goal) (b_walkers := b_walkers) (b_steps := b_steps) (b_cost := b_cost) (b_good := b_good) (s := rv_c i)
        (post := fun r_39 => ((r_39 = 0 → (∀ x3_51 : Int32, x3_51 = nI i + 1 → (wY_swarm_25 post (nI k) b_isWall b_waysOut b_isSet b_place b_goal b_walkers b_steps b_cost b_good f x2 x3_51))) ∧ (¬ r_39 = 0 → (((x2 < 0 → (wY_swarm_63 post (wY_swarm_25 post (nI k) b_isWall b_waysOut b_isSet b_place b_goal b_walkers b_steps b_cost b_good f) (nI i) (nI k) b_isWall b_waysOut b_isSet b_place b_goal b_walkers b_steps b_cost b_good)) ∧ (¬ x2 < 0 → (vp_in (nI i) 1728 ∧ (((x2 ≤ nI (C (rv_c i)) → (∀ x3_58 : Int32, x3_58 = nI i + 1 → (wY_swarm_25 post (nI k) b_isWall b_waysOut b_isSet b_place b_goal b_walkers b_steps b_cost b_good f x2 x3_58))) ∧ (¬ x2 ≤ nI (C (rv_c i)) → (wY_swarm_63 post (wY_swarm_25 post (nI k) b_isWall b_waysOut b_isSet b_place b_goal b_walkers b_steps b_cost b_good f) (nI i) (nI k) b_isWall b_waysOut b_isSet b_place b_goal b_walkers b_steps b_cost b_good)))))))))))
        hk hw hgl (mo_R_V hv hl.2.1) (fun hT => ?_) (fun hT => br_t rfl (nm_r (nI_1 i) (skip fun _ => hT)))
      · rw [rv_rv hlt] at htg
        exact br_f (nI_pos (by omega)) htg
      · have take : (∀ y, y < i → C (rv_c y) < 1000000 → sw_T k wh gl (rv_c y) → C (rv_c i) ≤ C (rv_c y)) → wY_swarm_63 post (wY_swarm_25 post (nI k) b_isWall b_waysOut b_isSet b_place b_goal b_walkers b_steps b_cost b_good f) (nI i) (nI k) b_isWall b_waysOut b_isSet b_place b_goal b_walkers b_steps b_cost b_good := fun r => by
          refine ⟨vi, nm_r (e' := nI (C (rv_c i))) (by rw [ci]; exact q) (nm_r (nI_1 i) (ih (i + 1) f _ (by omega) (by omega) (Or.inr ⟨C (rv_c i), rv_c i, rfl, hl.1, rfl, hT, fun y hy h1 h2 => ?_⟩)))⟩
          rcases Nat.decEq y i with zz | rfl
          · exact r y (by omega) h1 h2
          · exact Nat.le_refl _
        refine br_f (by decide) ?_
        rcases hx with ⟨rfl, hno⟩ | ⟨n, s, rfl, hn, hC, hTs, hle⟩
        · exact br_t (by decide) (take fun y hy h1 h2 => absurd h2 (hno y hy h1))
        · refine br_f (nI_pos (by omega)) ⟨vi, pk_le n (C (rv_c i)) (fun y => nm_r (nI_1 i) (ih (i + 1) f _ (by omega) (by omega) (Or.inr ⟨n, s, rfl, hn, hC, hTs, fun y2 hy2 h1 h2 => ?_⟩))) (fun y => take fun y2 hy2 h1 h2 => ?_)⟩
          · rcases Nat.decEq y2 i with zz | rfl
            · exact hle y2 (by omega) h1 h2
            · exact y
          · have := hle y2 hy2 h1 h2
            omega
end
end
section
theorem i_vc_swarm {k : Nat} {u : SX} {v : SY} (I : i_Rel k u v) (hk : k + 4 ≤ 2048) (v1 : Int32) : wpX_swarm (fun r u' => wpY_swarm (fun r' v' => r' = r ∧ i_Rel (k + 4) u' v') v v1) u v1 := by
  obtain ⟨W, wy, P, pl, gl, hE, hX, hY⟩ := I
  refine rl_elX (Q := fun u => wpX_swarm (fun r u' => wpY_swarm (fun r' v' => r' = r ∧ i_Rel (k + 4) u' v') v v1) u v1) hX ?_
  intro f_count f_byEffort f_best f_turns a_waysOut a_placeOf a_goalOf a_stepTo a_toGoal a_distance a_who a_cost a_origin a_closed a_onward a_queue a_cellNow a_cellNext a_walkNow a_walkNext a_used a_flowFrom a_flowTo a_cameBy a_line x1 x2 x3
  refine rl_elY (Q := fun v => wpX_swarm (fun r u' => wpY_swarm (fun r' v' => r' = r ∧ i_Rel (k + 4) u' v') v v1) (nI W, nI P, f_count, f_byEffort, f_best, f_turns, a_waysOut, a_placeOf, a_goalOf, a_stepTo, a_toGoal, a_distance, a_who, a_cost, a_origin, a_closed, a_onward, a_queue, a_cellNow, a_cellNext, a_walkNow, a_walkNext, a_used, a_flowFrom, a_flowTo, a_cameBy, a_line) v1) hY ?_
  intro b_size b_isWall b_waysOut b_isSet b_place b_goal b_walkers b_steps b_cost b_good y0 y1 ys y2 y3
  unfold wpX_swarm wpY_swarm
  refine xw_isReady hE x2 x3 ?_ (fun hn => br_t rfl (yw_isReady hE y0 ys y2 y3 (fun T t1 t8 e hr => absurd hr (hn T t1 t8 e)) (fun _ => br_t rfl ⟨rfl, rl_in hE (rl_mkX x1 x2 x3) (rl_mkY y0 y1 ys y2 y3)⟩)))
  intro T t1 t8 e hr
  subst e
  have ok := cg_tg_ok W wy
  have hkT := (tm_f2 T t8 t1).1
  obtain ⟨hV, hO⟩ := rl_st hE t1 t8 hr.2 (fun w hw hb => (hr.1 w hw hb).2.1)
  refine br_f (by decide) (xw_laySteps hE.1 (fun c hc => ⟨x1 c hc, hE.2.1 c hc⟩) fun a_stepTo hst => ?_)
  refine xw_gather (f_count := f_count) t1 t8 fun a_who hw => ⟨28, ?_⟩
  refine xw_swarm21 hkT ok hst hw (fun w hw => ⟨x2 w hw, hE.2.2.2.1 w hw⟩) (fun w hw => ⟨x3 w hw, hE.2.2.2.2 w hw⟩) hV (fun f_turns a_used a_flowFrom a_flowTo a_cameBy a_line r hA => ?_) 27 0 28 f_turns a_used a_flowFrom a_flowTo a_cameBy a_line (by omega) (by omega) (fun n s hn => by omega) (fun h => by omega)
  refine yw_isReady hE y0 ys y2 y3 (fun _ _ _ _ _ => br_f (by decide) ?_) (fun hn => absurd hr (hn T t1 t8 rfl))
  refine yw_choose t1 t8 y0 (fun c hc => ⟨y1 c hc, hE.2.1 c hc⟩) fun b_walkers b_steps hst' hwk => ?_
  refine yw_spread (b := false) hkT ok hst' hwk (fun w hw => ⟨y2 w hw, hE.2.2.2.1 w hw⟩) hO hV fun C b_cost R hF => ⟨1729, ?_⟩
  exact yw_swarm25 hkT hwk (fun w hw => ⟨y3 w hw, hE.2.2.2.2 w hw⟩) hV R hF (fun r' hA' => ⟨sw_u hA' hA, rl_in hE (rl_mkX x1 x2 x3) (rl_mkY y0 y1 ys y2 y3)⟩) 1728 0 1729 (-2) (by omega) (by omega) (Or.inl ⟨rfl, fun y hy => by omega⟩)
end
