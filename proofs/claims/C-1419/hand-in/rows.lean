section
/-! pure rows to paste: stores, nI and lN arithmetic, masks, shifts, narrowing, branches by naturals (pk_le, pk_lt, pk_eq), loops (lp1 .. lp16: the measure of the state; rp1 ..: recursion), negatives. Take what you need -/
theorem pk_us {f : Nat → Int32} {k : Nat} {x : Int32} : upd f k x k = x := if_pos rfl
theorem pk_un {f : Nat → Int32} {k j : Nat} {x : Int32} (h : j ≠ k) : upd f k x j = f j := if_neg h
theorem pk_uLs {f : Nat → Int64} {k : Nat} {x : Int64} : vp_updL f k x k = x := if_pos rfl
theorem pk_uLn {f : Nat → Int64} {k j : Nat} {x : Int64} (h : j ≠ k) : vp_updL f k x j = f j := if_neg h
theorem pk_sub {a b : Nat} (h : b ≤ a) : nI a - nI b = nI (a - b) := by
  obtain ⟨c, rfl⟩ : ∃ c, a = c + b := ⟨a - b, by omega⟩
  rw [← nI_add, Int32.add_sub_cancel, Nat.add_sub_cancel]
theorem pk_m1 (n : Nat) : nI (n + 1) + (-1) = nI n := by
  rw [← nI_1, Int32.add_assoc, show (1 : Int32) + (-1) = 0 from rfl, Int32.add_zero]
theorem pk_mul (a b : Nat) : nI a * nI b = nI (a * b) := (Int32.ofNat_mul a b).symm
theorem pk_div {a d : Nat} (ha : a < 2 ^ 31) (h0 : 0 < d) (hd : d < 2 ^ 31) : nI a / nI d = nI (a / d) := by
  apply Int32.toInt_inj.mp
  rw [lg_idiv_nonneg (by rw [nI_toInt ha]; omega) (by rw [nI_toInt hd]; omega), nI_toInt ha, nI_toInt hd, nI_toInt (Nat.lt_of_le_of_lt (Nat.div_le_self a d) ha)]
  first | rfl | exact (Int.natCast_ediv _ _).symm
theorem pk_rem {a d : Nat} (ha : a < 2 ^ 31) (h0 : 0 < d) (hd : d < 2 ^ 31) : nI a - nI a / nI d * nI d = nI (a % d) := by
  rw [pk_div ha h0 hd, pk_mul, pk_sub (Nat.div_mul_le_self a d)]
  exact congrArg nI (by have := Nat.div_add_mod' a d; omega)
theorem pk_sub_toInt {a b : Nat} (ha : a < 2 ^ 30) (hb : b < 2 ^ 30) : (nI a - nI b).toInt = (a : Int) - b := by
  rw [Int32.toInt_sub, nI_toInt (by omega), nI_toInt (by omega)]
  exact Int.bmod_eq_of_le (by omega) (by omega)
theorem pk_sneg {a b : Nat} (hb : b < 2 ^ 30) (h : a < b) : nI a - nI b < 0 := by
  rw [Int32.lt_iff_toInt_lt, pk_sub_toInt (by omega) hb, show (0 : Int32).toInt = 0 from by decide]
  omega
theorem pk_ix (x : Int32) {n : Nat} (hn : n < 2 ^ 31) : x < 0 ∨ nI n ≤ x ∨ ∃ j : Nat, j < n ∧ x = nI j := by
  by_cases h : x < 0
  · exact Or.inl h
  · obtain ⟨j, hj, rfl⟩ := nI_of h
    by_cases h2 : j < n
    · exact Or.inr (Or.inr ⟨j, h2, rfl⟩)
    · exact Or.inr (Or.inl (nI_le (by omega) hj))
theorem pk_le {x y : Int32} {A B : Prop} (a b : Nat) (f : a ≤ b → A) (g : b < a → B) (hx : x = nI a := by rfl) (hy : y = nI b := by rfl) (ha : a < 2 ^ 31 := by omega) (hb : b < 2 ^ 31 := by omega) : (x ≤ y → A) ∧ (¬ x ≤ y → B) := by
  subst hx hy
  rw [nI_leI ha hb]
  exact ⟨f, fun z => g (by omega)⟩
theorem pk_lt {x y : Int32} {A B : Prop} (a b : Nat) (f : a < b → A) (g : b ≤ a → B) (hx : x = nI a := by rfl) (hy : y = nI b := by rfl) (ha : a < 2 ^ 31 := by omega) (hb : b < 2 ^ 31 := by omega) : (x < y → A) ∧ (¬ x < y → B) := by
  subst hx hy
  rw [nI_ltI ha hb]
  exact ⟨f, fun z => g (by omega)⟩
theorem pk_eq {x y : Int32} {A B : Prop} (a b : Nat) (f : a = b → A) (g : a ≠ b → B) (hx : x = nI a := by rfl) (hy : y = nI b := by rfl) (ha : a < 2 ^ 31 := by omega) (hb : b < 2 ^ 31 := by omega) : (x = y → A) ∧ (¬ x = y → B) := by
  subst hx hy
  rw [nI_eq ha hb]
  exact ⟨f, g⟩
theorem pk_in {x : Int32} (n N : Nat) (h : n < N) (hx : x = nI n := by rfl) (hN : N < 2 ^ 31 := by omega) : vp_in x N := by
  subst hx
  exact vp_in_nI h hN
theorem pk_cl {x : Int32} (n : Nat) (hx : x = nI n := by rfl) (h : n < 2 ^ 31 := by omega) : x.toNatClampNeg = n := by
  subst hx
  exact nI_clamp h
theorem pk_tn {n : Nat} (h : n < 2 ^ 32) : (nI n).toBitVec.toNat = n := Nat.mod_eq_of_lt h
theorem pk_and (x : Int32) {m : Int32} (k : Nat) (hm : m.toBitVec.toNat = 2 ^ k - 1) : x &&& m = nI (x.toBitVec.toNat % 2 ^ k) := by
  apply Int32.toBitVec_inj.mp
  apply BitVec.eq_of_toNat_eq
  rw [Int32.toBitVec_and, BitVec.toNat_and, hm, Nat.and_two_pow_sub_one_eq_mod]
  show _ = (BitVec.ofNat 32 _).toNat
  rw [BitVec.toNat_ofNat]
  exact (Nat.mod_eq_of_lt (Nat.lt_of_le_of_lt (Nat.mod_le _ _) x.toBitVec.isLt)).symm
theorem pk_andN {n : Nat} (h : n < 2 ^ 32) {m : Int32} (k : Nat) (hm : m.toBitVec.toNat = 2 ^ k - 1) : nI n &&& m = nI (n % 2 ^ k) := by
  rw [pk_and _ k hm, pk_tn h]
theorem pk_andE (x : Int32) {m : Int32} (k : Nat) (hm : m.toBitVec.toNat = 2 ^ k - 1) : ∃ j : Nat, j < 2 ^ k ∧ x &&& m = nI j := ⟨_, Nat.mod_lt _ (Nat.two_pow_pos k), pk_and x k hm⟩
theorem pk_andIn (x : Int32) {m : Int32} (k : Nat) (hm : m.toBitVec.toNat = 2 ^ k - 1) (hk : k ≤ 30) : vp_in (x &&& m) (2 ^ k) := by
  obtain ⟨j, hj, e⟩ := pk_andE x k hm
  rw [e]
  exact vp_in_nI hj (Nat.lt_of_le_of_lt (Nat.pow_le_pow_right (by decide) hk) (by decide))
theorem pk_shl (a s : Int32) (k : Nat) (hs : (s.toBitVec.smod 32).toNat = k) : (a <<< s).toBitVec.toNat = a.toBitVec.toNat * 2 ^ k % 2 ^ 32 := by
  show (a.toBitVec <<< (s.toBitVec.smod 32).toNat).toNat = _
  rw [hs, BitVec.toNat_shiftLeft, Nat.shiftLeft_eq]
theorem pk_shlN {n : Nat} (s : Int32) (k : Nat) (hs : (s.toBitVec.smod 32).toNat = k) (h : n * 2 ^ k < 2 ^ 32) : nI n <<< s = nI (n * 2 ^ k) := by
  apply Int32.toBitVec_inj.mp
  apply BitVec.eq_of_toNat_eq
  have hn : n < 2 ^ 32 := Nat.lt_of_le_of_lt (Nat.le_mul_of_pos_right n (Nat.two_pow_pos k)) h
  rw [pk_shl _ _ k hs, pk_tn hn, pk_tn h, Nat.mod_eq_of_lt h]
theorem pk_shr (a s : Int32) (k : Nat) (hs : (s.toBitVec.smod 32).toNat = k) : (a >>> s).toInt = a.toInt >>> k := by
  show (a.toBitVec.sshiftRight (s.toBitVec.smod 32).toNat).toInt = _
  rw [hs, BitVec.toInt_sshiftRight]
  rfl
theorem pk_shrN {n : Nat} (h : n < 2 ^ 31) (s : Int32) (k : Nat) (hs : (s.toBitVec.smod 32).toNat = k) : nI n >>> s = nI (n / 2 ^ k) := by
  apply Int32.toInt_inj.mp
  have h2 : n / 2 ^ k ≤ n := Nat.div_le_self _ _
  rw [pk_shr _ _ k hs, nI_toInt h, nI_toInt (by omega), Int.shiftRight_eq_div_pow]
  rfl
theorem pk_ushr (x s : Int32) (k : Nat) (hs : ((s.toUInt32 &&& Int32.toUInt32 31).toBitVec % 32).toNat = k) : (x.toUInt32 >>> (s.toUInt32 &&& Int32.toUInt32 31)).toInt32.toBitVec.toNat = x.toBitVec.toNat / 2 ^ k := by
  have e : (x.toUInt32 >>> (s.toUInt32 &&& Int32.toUInt32 31)).toInt32.toBitVec = x.toBitVec >>> k := by
    rw [← hs]
    exact UInt32.toBitVec_shiftRight _ _
  rw [e, BitVec.toNat_ushiftRight, Nat.shiftRight_eq_div_pow]
theorem pk_ushrN {n : Nat} (hn : n < 2 ^ 32) (s : Int32) (k : Nat) (hs : ((s.toUInt32 &&& Int32.toUInt32 31).toBitVec % 32).toNat = k) : ((nI n).toUInt32 >>> (s.toUInt32 &&& Int32.toUInt32 31)).toInt32 = nI (n / 2 ^ k) := by
  apply Int32.toBitVec_inj.mp
  apply BitVec.eq_of_toNat_eq
  rw [pk_ushr _ s k hs, pk_tn hn, pk_tn (Nat.lt_of_le_of_lt (Nat.div_le_self _ _) hn)]
theorem pk_nb (z : Int32) : narrow .byte (.int z.toInt8.toInt32) = .int z.toInt8.toInt32 := congrArg Value.int (by simp)
theorem pk_ns (z : Int32) : narrow .short (.int z.toInt16.toInt32) = .int z.toInt16.toInt32 := congrArg Value.int (by simp)
theorem pk_fb (r : Int32) : fits .byte (.int r.toInt8.toInt32) = true := by
  have ⟨a, b⟩ := lg_i2b_range r
  have h1 : (-128 : Int32).toInt = -128 := by decide
  have h2 : (127 : Int32).toInt = 127 := by decide
  simp only [fits, Bool.and_eq_true, decide_eq_true_eq, Int32.le_iff_toInt_le, h1, h2]
  omega
theorem pk_fs (r : Int32) : fits .short (.int r.toInt16.toInt32) = true := by
  have ⟨a, b⟩ := lg_i2s_range r
  have h1 : (-32768 : Int32).toInt = -32768 := by decide
  have h2 : (32767 : Int32).toInt = 32767 := by decide
  simp only [fits, Bool.and_eq_true, decide_eq_true_eq, Int32.le_iff_toInt_le, h1, h2]
  omega
theorem pk_charN {q : Nat} (hq : q < 65536) : narrow .char (.int (nI q)) = .int (nI q) ∧ fits .char (.int (nI q)) = true := by
  constructor
  · have e : (nI q).toUInt32.toUInt16.toUInt32.toInt32 = nI q := by
      apply Int32.toBitVec_inj.mp
      apply BitVec.eq_of_toNat_eq
      show (nI q).toUInt32.toUInt16.toUInt32.toNat = q % 2 ^ 32
      rw [UInt16.toNat_toUInt32, UInt32.toNat_toUInt16, show (nI q).toUInt32.toNat = q % 2 ^ 32 from rfl]
      omega
    exact congrArg Value.int e
  · have a : (0 : Int32) ≤ nI q := nI_pos' (by omega)
    have b : nI q ≤ 65535 := nI_le (b := 65535) (by omega) (by decide)
    show (decide ((0 : Int32) ≤ nI q) && decide (nI q ≤ 65535)) = true
    rw [decide_eq_true a, decide_eq_true b]
    rfl
theorem pk_char (x : Int32) : (x.toUInt32 % 65536).toInt32 = nI (x.toBitVec.toNat % 65536) := by
  apply Int32.toBitVec_inj.mp
  apply BitVec.eq_of_toNat_eq
  rw [pk_tn (by omega)]
  show (x.toUInt32 % 65536).toNat = _
  rw [UInt32.toNat_mod]
  rfl
theorem pk_nc (x : Int32) : narrow .char (.int (x.toUInt32 % 65536).toInt32) = .int (x.toUInt32 % 65536).toInt32 := by
  rw [pk_char]
  exact (pk_charN (Nat.mod_lt _ (by decide))).1
theorem pk_fc (x : Int32) : fits .char (.int (x.toUInt32 % 65536).toInt32) = true := by
  rw [pk_char]
  exact (pk_charN (Nat.mod_lt _ (by decide))).2
theorem pk_vb (z : Int32) : vp_nar .byte z.toInt8.toInt32 = z.toInt8.toInt32 := by rw [vp_nar_byte]; simp
theorem pk_vs (z : Int32) : vp_nar .short z.toInt16.toInt32 = z.toInt16.toInt32 := by rw [vp_nar_short]; simp
theorem pk_vc (z : Int32) : vp_nar .char (z.toUInt32 % 65536).toInt32 = (z.toUInt32 % 65536).toInt32 := Value.int.inj (pk_nc z)
theorem pk_lT {n : Nat} (h : n < 2 ^ 63) : (lN n).toInt = (n : Int) := lg_ofNat_toInt h
theorem pk_lLT {a b : Nat} (ha : a < 2 ^ 63) (hb : b < 2 ^ 63) : lN a < lN b ↔ a < b := by
  rw [Int64.lt_iff_toInt_lt, pk_lT ha, pk_lT hb]; omega
theorem pk_lLE {a b : Nat} (ha : a < 2 ^ 63) (hb : b < 2 ^ 63) : lN a ≤ lN b ↔ a ≤ b := by
  rw [Int64.le_iff_toInt_le, pk_lT ha, pk_lT hb]; omega
theorem pk_lEQ {a b : Nat} (ha : a < 2 ^ 63) (hb : b < 2 ^ 63) : lN a = lN b ↔ a = b := by
  rw [← Int64.toInt_inj, pk_lT ha, pk_lT hb]; omega
theorem pk_lOf {x : Int64} (h : ¬ x < 0) : ∃ k : Nat, k < 2 ^ 63 ∧ x = lN k := by
  rw [Int64.lt_iff_toInt_lt] at h
  have h0 : (0 : Int64).toInt = 0 := by decide
  have hx := Int64.toInt_lt x
  refine ⟨x.toInt.toNat, by omega, Int64.toInt_inj.mp ?_⟩
  rw [pk_lT (by omega)]
  omega
theorem pk_lDiv {a b : Nat} (ha : a < 2 ^ 63) (h0 : 0 < b) (hb : b < 2 ^ 63) : lN a / lN b = lN (a / b) := by
  apply Int64.toInt_inj.mp
  rw [lg_ldiv_nonneg (by rw [pk_lT ha]; omega) (by rw [pk_lT hb]; omega), pk_lT ha, pk_lT hb, pk_lT (Nat.lt_of_le_of_lt (Nat.div_le_self a b) ha)]
  rfl
theorem pk_lRem {a b : Nat} (ha : a < 2 ^ 63) (h0 : 0 < b) (hb : b < 2 ^ 63) : lN a - lN a / lN b * lN b = lN (a % b) := by
  rw [pk_lDiv ha h0 hb, lN_mul, lN_sub (Nat.div_mul_le_self a b)]
  exact congrArg lN (by have := Nat.div_add_mod' a b; omega)
theorem pk_loop {σ : Type} (W : Nat → Nat → σ → Prop) (I : Nat → σ → Prop) (e i0 : Nat) (s : σ) (hi : i0 ≤ e) (h0 : I i0 s) (hx : ∀ n s, I e s → W (n + 1) e s)
    (hs : ∀ n i s, i < e → I i s → (∀ s', I (i + 1) s' → W n (i + 1) s') → W (n + 1) i s) : ∃ n, W n i0 s :=
  ⟨e + 1, loop_i W I e hx hs (e + 1) i0 s hi (by omega) h0⟩
theorem pk_loopD {σ : Type} (W : Nat → Nat → σ → Prop) (I : Nat → σ → Prop) (hx : ∀ n s, I 0 s → W (n + 1) 0 s)
    (hs : ∀ n i s, I (i + 1) s → (∀ s', I i s' → W n i s') → W (n + 1) (i + 1) s) : ∀ (e : Nat) (s : σ), I e s → W (e + 1) e s := by
  intro e
  induction e with
  | zero => exact fun s h => hx 0 s h
  | succ e ih => exact fun s h => hs (e + 1) e s h (fun s' h' => ih s' h')
theorem lp1 {A1 : Type} (W : Nat → A1 → Prop) (I : A1 → Prop) (μ : A1 → Nat) (hs : ∀ (n : Nat) (a1 : A1), I a1 → (∀ (b1 : A1), I b1 → μ b1 < μ a1 → W n b1) → W (n + 1) a1) (a1 : A1) (h : I a1) : ∃ n, W n a1 :=
  loop_m (σ := A1) (fun n s => W n s) (fun s => I s) (fun s => μ s) (fun n s hI hk => hs n s hI (fun b1 h9 hm => hk b1 h9 hm)) a1 h
theorem lp2 {A1 A2 : Type} (W : Nat → A1 → A2 → Prop) (I : A1 → A2 → Prop) (μ : A1 → A2 → Nat) (hs : ∀ (n : Nat) (a1 : A1) (a2 : A2), I a1 a2 → (∀ (b1 : A1) (b2 : A2), I b1 b2 → μ b1 b2 < μ a1 a2 → W n b1 b2) → W (n + 1) a1 a2) (a1 : A1) (a2 : A2) (h : I a1 a2) : ∃ n, W n a1 a2 :=
  loop_m (σ := A1 × A2) (fun n s => W n s.1 s.2) (fun s => I s.1 s.2) (fun s => μ s.1 s.2) (fun n s hI hk => hs n s.1 s.2 hI (fun b1 b2 h9 hm => hk (b1, b2) h9 hm)) (a1, a2) h
theorem lp3 {A1 A2 A3 : Type} (W : Nat → A1 → A2 → A3 → Prop) (I : A1 → A2 → A3 → Prop) (μ : A1 → A2 → A3 → Nat) (hs : ∀ (n : Nat) (a1 : A1) (a2 : A2) (a3 : A3), I a1 a2 a3 → (∀ (b1 : A1) (b2 : A2) (b3 : A3), I b1 b2 b3 → μ b1 b2 b3 < μ a1 a2 a3 → W n b1 b2 b3) → W (n + 1) a1 a2 a3) (a1 : A1) (a2 : A2) (a3 : A3) (h : I a1 a2 a3) : ∃ n, W n a1 a2 a3 :=
  loop_m (σ := A1 × A2 × A3) (fun n s => W n s.1 s.2.1 s.2.2) (fun s => I s.1 s.2.1 s.2.2) (fun s => μ s.1 s.2.1 s.2.2) (fun n s hI hk => hs n s.1 s.2.1 s.2.2 hI (fun b1 b2 b3 h9 hm => hk (b1, b2, b3) h9 hm)) (a1, a2, a3) h
theorem lp4 {A1 A2 A3 A4 : Type} (W : Nat → A1 → A2 → A3 → A4 → Prop) (I : A1 → A2 → A3 → A4 → Prop) (μ : A1 → A2 → A3 → A4 → Nat) (hs : ∀ (n : Nat) (a1 : A1) (a2 : A2) (a3 : A3) (a4 : A4), I a1 a2 a3 a4 → (∀ (b1 : A1) (b2 : A2) (b3 : A3) (b4 : A4), I b1 b2 b3 b4 → μ b1 b2 b3 b4 < μ a1 a2 a3 a4 → W n b1 b2 b3 b4) → W (n + 1) a1 a2 a3 a4) (a1 : A1) (a2 : A2) (a3 : A3) (a4 : A4) (h : I a1 a2 a3 a4) : ∃ n, W n a1 a2 a3 a4 :=
  loop_m (σ := A1 × A2 × A3 × A4) (fun n s => W n s.1 s.2.1 s.2.2.1 s.2.2.2) (fun s => I s.1 s.2.1 s.2.2.1 s.2.2.2) (fun s => μ s.1 s.2.1 s.2.2.1 s.2.2.2) (fun n s hI hk => hs n s.1 s.2.1 s.2.2.1 s.2.2.2 hI (fun b1 b2 b3 b4 h9 hm => hk (b1, b2, b3, b4) h9 hm)) (a1, a2, a3, a4) h
theorem lp5 {A1 A2 A3 A4 A5 : Type} (W : Nat → A1 → A2 → A3 → A4 → A5 → Prop) (I : A1 → A2 → A3 → A4 → A5 → Prop) (μ : A1 → A2 → A3 → A4 → A5 → Nat) (hs : ∀ (n : Nat) (a1 : A1) (a2 : A2) (a3 : A3) (a4 : A4) (a5 : A5), I a1 a2 a3 a4 a5 → (∀ (b1 : A1) (b2 : A2) (b3 : A3) (b4 : A4) (b5 : A5), I b1 b2 b3 b4 b5 → μ b1 b2 b3 b4 b5 < μ a1 a2 a3 a4 a5 → W n b1 b2 b3 b4 b5) → W (n + 1) a1 a2 a3 a4 a5) (a1 : A1) (a2 : A2) (a3 : A3) (a4 : A4) (a5 : A5) (h : I a1 a2 a3 a4 a5) : ∃ n, W n a1 a2 a3 a4 a5 :=
  loop_m (σ := A1 × A2 × A3 × A4 × A5) (fun n s => W n s.1 s.2.1 s.2.2.1 s.2.2.2.1 s.2.2.2.2) (fun s => I s.1 s.2.1 s.2.2.1 s.2.2.2.1 s.2.2.2.2) (fun s => μ s.1 s.2.1 s.2.2.1 s.2.2.2.1 s.2.2.2.2) (fun n s hI hk => hs n s.1 s.2.1 s.2.2.1 s.2.2.2.1 s.2.2.2.2 hI (fun b1 b2 b3 b4 b5 h9 hm => hk (b1, b2, b3, b4, b5) h9 hm)) (a1, a2, a3, a4, a5) h
theorem lp6 {A1 A2 A3 A4 A5 A6 : Type} (W : Nat → A1 → A2 → A3 → A4 → A5 → A6 → Prop) (I : A1 → A2 → A3 → A4 → A5 → A6 → Prop) (μ : A1 → A2 → A3 → A4 → A5 → A6 → Nat) (hs : ∀ (n : Nat) (a1 : A1) (a2 : A2) (a3 : A3) (a4 : A4) (a5 : A5) (a6 : A6), I a1 a2 a3 a4 a5 a6 → (∀ (b1 : A1) (b2 : A2) (b3 : A3) (b4 : A4) (b5 : A5) (b6 : A6), I b1 b2 b3 b4 b5 b6 → μ b1 b2 b3 b4 b5 b6 < μ a1 a2 a3 a4 a5 a6 → W n b1 b2 b3 b4 b5 b6) → W (n + 1) a1 a2 a3 a4 a5 a6) (a1 : A1) (a2 : A2) (a3 : A3) (a4 : A4) (a5 : A5) (a6 : A6) (h : I a1 a2 a3 a4 a5 a6) : ∃ n, W n a1 a2 a3 a4 a5 a6 :=
  loop_m (σ := A1 × A2 × A3 × A4 × A5 × A6) (fun n s => W n s.1 s.2.1 s.2.2.1 s.2.2.2.1 s.2.2.2.2.1 s.2.2.2.2.2) (fun s => I s.1 s.2.1 s.2.2.1 s.2.2.2.1 s.2.2.2.2.1 s.2.2.2.2.2) (fun s => μ s.1 s.2.1 s.2.2.1 s.2.2.2.1 s.2.2.2.2.1 s.2.2.2.2.2) (fun n s hI hk => hs n s.1 s.2.1 s.2.2.1 s.2.2.2.1 s.2.2.2.2.1 s.2.2.2.2.2 hI (fun b1 b2 b3 b4 b5 b6 h9 hm => hk (b1, b2, b3, b4, b5, b6) h9 hm)) (a1, a2, a3, a4, a5, a6) h
theorem lp7 {A1 A2 A3 A4 A5 A6 A7 : Type} (W : Nat → A1 → A2 → A3 → A4 → A5 → A6 → A7 → Prop) (I : A1 → A2 → A3 → A4 → A5 → A6 → A7 → Prop) (μ : A1 → A2 → A3 → A4 → A5 → A6 → A7 → Nat) (hs : ∀ (n : Nat) (a1 : A1) (a2 : A2) (a3 : A3) (a4 : A4) (a5 : A5) (a6 : A6) (a7 : A7), I a1 a2 a3 a4 a5 a6 a7 → (∀ (b1 : A1) (b2 : A2) (b3 : A3) (b4 : A4) (b5 : A5) (b6 : A6) (b7 : A7), I b1 b2 b3 b4 b5 b6 b7 → μ b1 b2 b3 b4 b5 b6 b7 < μ a1 a2 a3 a4 a5 a6 a7 → W n b1 b2 b3 b4 b5 b6 b7) → W (n + 1) a1 a2 a3 a4 a5 a6 a7) (a1 : A1) (a2 : A2) (a3 : A3) (a4 : A4) (a5 : A5) (a6 : A6) (a7 : A7) (h : I a1 a2 a3 a4 a5 a6 a7) : ∃ n, W n a1 a2 a3 a4 a5 a6 a7 :=
  loop_m (σ := A1 × A2 × A3 × A4 × A5 × A6 × A7) (fun n s => W n s.1 s.2.1 s.2.2.1 s.2.2.2.1 s.2.2.2.2.1 s.2.2.2.2.2.1 s.2.2.2.2.2.2) (fun s => I s.1 s.2.1 s.2.2.1 s.2.2.2.1 s.2.2.2.2.1 s.2.2.2.2.2.1 s.2.2.2.2.2.2) (fun s => μ s.1 s.2.1 s.2.2.1 s.2.2.2.1 s.2.2.2.2.1 s.2.2.2.2.2.1 s.2.2.2.2.2.2) (fun n s hI hk => hs n s.1 s.2.1 s.2.2.1 s.2.2.2.1 s.2.2.2.2.1 s.2.2.2.2.2.1 s.2.2.2.2.2.2 hI (fun b1 b2 b3 b4 b5 b6 b7 h9 hm => hk (b1, b2, b3, b4, b5, b6, b7) h9 hm)) (a1, a2, a3, a4, a5, a6, a7) h
theorem lp8 {A1 A2 A3 A4 A5 A6 A7 A8 : Type} (W : Nat → A1 → A2 → A3 → A4 → A5 → A6 → A7 → A8 → Prop) (I : A1 → A2 → A3 → A4 → A5 → A6 → A7 → A8 → Prop) (μ : A1 → A2 → A3 → A4 → A5 → A6 → A7 → A8 → Nat) (hs : ∀ (n : Nat) (a1 : A1) (a2 : A2) (a3 : A3) (a4 : A4) (a5 : A5) (a6 : A6) (a7 : A7) (a8 : A8), I a1 a2 a3 a4 a5 a6 a7 a8 → (∀ (b1 : A1) (b2 : A2) (b3 : A3) (b4 : A4) (b5 : A5) (b6 : A6) (b7 : A7) (b8 : A8), I b1 b2 b3 b4 b5 b6 b7 b8 → μ b1 b2 b3 b4 b5 b6 b7 b8 < μ a1 a2 a3 a4 a5 a6 a7 a8 → W n b1 b2 b3 b4 b5 b6 b7 b8) → W (n + 1) a1 a2 a3 a4 a5 a6 a7 a8) (a1 : A1) (a2 : A2) (a3 : A3) (a4 : A4) (a5 : A5) (a6 : A6) (a7 : A7) (a8 : A8) (h : I a1 a2 a3 a4 a5 a6 a7 a8) : ∃ n, W n a1 a2 a3 a4 a5 a6 a7 a8 :=
  loop_m (σ := A1 × A2 × A3 × A4 × A5 × A6 × A7 × A8) (fun n s => W n s.1 s.2.1 s.2.2.1 s.2.2.2.1 s.2.2.2.2.1 s.2.2.2.2.2.1 s.2.2.2.2.2.2.1 s.2.2.2.2.2.2.2) (fun s => I s.1 s.2.1 s.2.2.1 s.2.2.2.1 s.2.2.2.2.1 s.2.2.2.2.2.1 s.2.2.2.2.2.2.1 s.2.2.2.2.2.2.2) (fun s => μ s.1 s.2.1 s.2.2.1 s.2.2.2.1 s.2.2.2.2.1 s.2.2.2.2.2.1 s.2.2.2.2.2.2.1 s.2.2.2.2.2.2.2) (fun n s hI hk => hs n s.1 s.2.1 s.2.2.1 s.2.2.2.1 s.2.2.2.2.1 s.2.2.2.2.2.1 s.2.2.2.2.2.2.1 s.2.2.2.2.2.2.2 hI (fun b1 b2 b3 b4 b5 b6 b7 b8 h9 hm => hk (b1, b2, b3, b4, b5, b6, b7, b8) h9 hm)) (a1, a2, a3, a4, a5, a6, a7, a8) h
theorem lp9 {A1 A2 A3 A4 A5 A6 A7 A8 A9 : Type} (W : Nat → A1 → A2 → A3 → A4 → A5 → A6 → A7 → A8 → A9 → Prop) (I : A1 → A2 → A3 → A4 → A5 → A6 → A7 → A8 → A9 → Prop) (μ : A1 → A2 → A3 → A4 → A5 → A6 → A7 → A8 → A9 → Nat) (hs : ∀ (n : Nat) (a1 : A1) (a2 : A2) (a3 : A3) (a4 : A4) (a5 : A5) (a6 : A6) (a7 : A7) (a8 : A8) (a9 : A9), I a1 a2 a3 a4 a5 a6 a7 a8 a9 → (∀ (b1 : A1) (b2 : A2) (b3 : A3) (b4 : A4) (b5 : A5) (b6 : A6) (b7 : A7) (b8 : A8) (b9 : A9), I b1 b2 b3 b4 b5 b6 b7 b8 b9 → μ b1 b2 b3 b4 b5 b6 b7 b8 b9 < μ a1 a2 a3 a4 a5 a6 a7 a8 a9 → W n b1 b2 b3 b4 b5 b6 b7 b8 b9) → W (n + 1) a1 a2 a3 a4 a5 a6 a7 a8 a9) (a1 : A1) (a2 : A2) (a3 : A3) (a4 : A4) (a5 : A5) (a6 : A6) (a7 : A7) (a8 : A8) (a9 : A9) (h : I a1 a2 a3 a4 a5 a6 a7 a8 a9) : ∃ n, W n a1 a2 a3 a4 a5 a6 a7 a8 a9 :=
  loop_m (σ := A1 × A2 × A3 × A4 × A5 × A6 × A7 × A8 × A9) (fun n s => W n s.1 s.2.1 s.2.2.1 s.2.2.2.1 s.2.2.2.2.1 s.2.2.2.2.2.1 s.2.2.2.2.2.2.1 s.2.2.2.2.2.2.2.1 s.2.2.2.2.2.2.2.2) (fun s => I s.1 s.2.1 s.2.2.1 s.2.2.2.1 s.2.2.2.2.1 s.2.2.2.2.2.1 s.2.2.2.2.2.2.1 s.2.2.2.2.2.2.2.1 s.2.2.2.2.2.2.2.2) (fun s => μ s.1 s.2.1 s.2.2.1 s.2.2.2.1 s.2.2.2.2.1 s.2.2.2.2.2.1 s.2.2.2.2.2.2.1 s.2.2.2.2.2.2.2.1 s.2.2.2.2.2.2.2.2) (fun n s hI hk => hs n s.1 s.2.1 s.2.2.1 s.2.2.2.1 s.2.2.2.2.1 s.2.2.2.2.2.1 s.2.2.2.2.2.2.1 s.2.2.2.2.2.2.2.1 s.2.2.2.2.2.2.2.2 hI (fun b1 b2 b3 b4 b5 b6 b7 b8 b9 h9 hm => hk (b1, b2, b3, b4, b5, b6, b7, b8, b9) h9 hm)) (a1, a2, a3, a4, a5, a6, a7, a8, a9) h
theorem lp10 {A1 A2 A3 A4 A5 A6 A7 A8 A9 A10 : Type} (W : Nat → A1 → A2 → A3 → A4 → A5 → A6 → A7 → A8 → A9 → A10 → Prop) (I : A1 → A2 → A3 → A4 → A5 → A6 → A7 → A8 → A9 → A10 → Prop) (μ : A1 → A2 → A3 → A4 → A5 → A6 → A7 → A8 → A9 → A10 → Nat) (hs : ∀ (n : Nat) (a1 : A1) (a2 : A2) (a3 : A3) (a4 : A4) (a5 : A5) (a6 : A6) (a7 : A7) (a8 : A8) (a9 : A9) (a10 : A10), I a1 a2 a3 a4 a5 a6 a7 a8 a9 a10 → (∀ (b1 : A1) (b2 : A2) (b3 : A3) (b4 : A4) (b5 : A5) (b6 : A6) (b7 : A7) (b8 : A8) (b9 : A9) (b10 : A10), I b1 b2 b3 b4 b5 b6 b7 b8 b9 b10 → μ b1 b2 b3 b4 b5 b6 b7 b8 b9 b10 < μ a1 a2 a3 a4 a5 a6 a7 a8 a9 a10 → W n b1 b2 b3 b4 b5 b6 b7 b8 b9 b10) → W (n + 1) a1 a2 a3 a4 a5 a6 a7 a8 a9 a10) (a1 : A1) (a2 : A2) (a3 : A3) (a4 : A4) (a5 : A5) (a6 : A6) (a7 : A7) (a8 : A8) (a9 : A9) (a10 : A10) (h : I a1 a2 a3 a4 a5 a6 a7 a8 a9 a10) : ∃ n, W n a1 a2 a3 a4 a5 a6 a7 a8 a9 a10 :=
  loop_m (σ := A1 × A2 × A3 × A4 × A5 × A6 × A7 × A8 × A9 × A10) (fun n s => W n s.1 s.2.1 s.2.2.1 s.2.2.2.1 s.2.2.2.2.1 s.2.2.2.2.2.1 s.2.2.2.2.2.2.1 s.2.2.2.2.2.2.2.1 s.2.2.2.2.2.2.2.2.1 s.2.2.2.2.2.2.2.2.2) (fun s => I s.1 s.2.1 s.2.2.1 s.2.2.2.1 s.2.2.2.2.1 s.2.2.2.2.2.1 s.2.2.2.2.2.2.1 s.2.2.2.2.2.2.2.1 s.2.2.2.2.2.2.2.2.1 s.2.2.2.2.2.2.2.2.2) (fun s => μ s.1 s.2.1 s.2.2.1 s.2.2.2.1 s.2.2.2.2.1 s.2.2.2.2.2.1 s.2.2.2.2.2.2.1 s.2.2.2.2.2.2.2.1 s.2.2.2.2.2.2.2.2.1 s.2.2.2.2.2.2.2.2.2) (fun n s hI hk => hs n s.1 s.2.1 s.2.2.1 s.2.2.2.1 s.2.2.2.2.1 s.2.2.2.2.2.1 s.2.2.2.2.2.2.1 s.2.2.2.2.2.2.2.1 s.2.2.2.2.2.2.2.2.1 s.2.2.2.2.2.2.2.2.2 hI (fun b1 b2 b3 b4 b5 b6 b7 b8 b9 b10 h9 hm => hk (b1, b2, b3, b4, b5, b6, b7, b8, b9, b10) h9 hm)) (a1, a2, a3, a4, a5, a6, a7, a8, a9, a10) h
theorem lp11 {A1 A2 A3 A4 A5 A6 A7 A8 A9 A10 A11 : Type} (W : Nat → A1 → A2 → A3 → A4 → A5 → A6 → A7 → A8 → A9 → A10 → A11 → Prop) (I : A1 → A2 → A3 → A4 → A5 → A6 → A7 → A8 → A9 → A10 → A11 → Prop) (μ : A1 → A2 → A3 → A4 → A5 → A6 → A7 → A8 → A9 → A10 → A11 → Nat) (hs : ∀ (n : Nat) (a1 : A1) (a2 : A2) (a3 : A3) (a4 : A4) (a5 : A5) (a6 : A6) (a7 : A7) (a8 : A8) (a9 : A9) (a10 : A10) (a11 : A11), I a1 a2 a3 a4 a5 a6 a7 a8 a9 a10 a11 → (∀ (b1 : A1) (b2 : A2) (b3 : A3) (b4 : A4) (b5 : A5) (b6 : A6) (b7 : A7) (b8 : A8) (b9 : A9) (b10 : A10) (b11 : A11), I b1 b2 b3 b4 b5 b6 b7 b8 b9 b10 b11 → μ b1 b2 b3 b4 b5 b6 b7 b8 b9 b10 b11 < μ a1 a2 a3 a4 a5 a6 a7 a8 a9 a10 a11 → W n b1 b2 b3 b4 b5 b6 b7 b8 b9 b10 b11) → W (n + 1) a1 a2 a3 a4 a5 a6 a7 a8 a9 a10 a11) (a1 : A1) (a2 : A2) (a3 : A3) (a4 : A4) (a5 : A5) (a6 : A6) (a7 : A7) (a8 : A8) (a9 : A9) (a10 : A10) (a11 : A11) (h : I a1 a2 a3 a4 a5 a6 a7 a8 a9 a10 a11) : ∃ n, W n a1 a2 a3 a4 a5 a6 a7 a8 a9 a10 a11 :=
  loop_m (σ := A1 × A2 × A3 × A4 × A5 × A6 × A7 × A8 × A9 × A10 × A11) (fun n s => W n s.1 s.2.1 s.2.2.1 s.2.2.2.1 s.2.2.2.2.1 s.2.2.2.2.2.1 s.2.2.2.2.2.2.1 s.2.2.2.2.2.2.2.1 s.2.2.2.2.2.2.2.2.1 s.2.2.2.2.2.2.2.2.2.1 s.2.2.2.2.2.2.2.2.2.2) (fun s => I s.1 s.2.1 s.2.2.1 s.2.2.2.1 s.2.2.2.2.1 s.2.2.2.2.2.1 s.2.2.2.2.2.2.1 s.2.2.2.2.2.2.2.1 s.2.2.2.2.2.2.2.2.1 s.2.2.2.2.2.2.2.2.2.1 s.2.2.2.2.2.2.2.2.2.2) (fun s => μ s.1 s.2.1 s.2.2.1 s.2.2.2.1 s.2.2.2.2.1 s.2.2.2.2.2.1 s.2.2.2.2.2.2.1 s.2.2.2.2.2.2.2.1 s.2.2.2.2.2.2.2.2.1 s.2.2.2.2.2.2.2.2.2.1 s.2.2.2.2.2.2.2.2.2.2) (fun n s hI hk => hs n s.1 s.2.1 s.2.2.1 s.2.2.2.1 s.2.2.2.2.1 s.2.2.2.2.2.1 s.2.2.2.2.2.2.1 s.2.2.2.2.2.2.2.1 s.2.2.2.2.2.2.2.2.1 s.2.2.2.2.2.2.2.2.2.1 s.2.2.2.2.2.2.2.2.2.2 hI (fun b1 b2 b3 b4 b5 b6 b7 b8 b9 b10 b11 h9 hm => hk (b1, b2, b3, b4, b5, b6, b7, b8, b9, b10, b11) h9 hm)) (a1, a2, a3, a4, a5, a6, a7, a8, a9, a10, a11) h
theorem lp12 {A1 A2 A3 A4 A5 A6 A7 A8 A9 A10 A11 A12 : Type} (W : Nat → A1 → A2 → A3 → A4 → A5 → A6 → A7 → A8 → A9 → A10 → A11 → A12 → Prop) (I : A1 → A2 → A3 → A4 → A5 → A6 → A7 → A8 → A9 → A10 → A11 → A12 → Prop) (μ : A1 → A2 → A3 → A4 → A5 → A6 → A7 → A8 → A9 → A10 → A11 → A12 → Nat) (hs : ∀ (n : Nat) (a1 : A1) (a2 : A2) (a3 : A3) (a4 : A4) (a5 : A5) (a6 : A6) (a7 : A7) (a8 : A8) (a9 : A9) (a10 : A10) (a11 : A11) (a12 : A12), I a1 a2 a3 a4 a5 a6 a7 a8 a9 a10 a11 a12 → (∀ (b1 : A1) (b2 : A2) (b3 : A3) (b4 : A4) (b5 : A5) (b6 : A6) (b7 : A7) (b8 : A8) (b9 : A9) (b10 : A10) (b11 : A11) (b12 : A12), I b1 b2 b3 b4 b5 b6 b7 b8 b9 b10 b11 b12 → μ b1 b2 b3 b4 b5 b6 b7 b8 b9 b10 b11 b12 < μ a1 a2 a3 a4 a5 a6 a7 a8 a9 a10 a11 a12 → W n b1 b2 b3 b4 b5 b6 b7 b8 b9 b10 b11 b12) → W (n + 1) a1 a2 a3 a4 a5 a6 a7 a8 a9 a10 a11 a12) (a1 : A1) (a2 : A2) (a3 : A3) (a4 : A4) (a5 : A5) (a6 : A6) (a7 : A7) (a8 : A8) (a9 : A9) (a10 : A10) (a11 : A11) (a12 : A12) (h : I a1 a2 a3 a4 a5 a6 a7 a8 a9 a10 a11 a12) : ∃ n, W n a1 a2 a3 a4 a5 a6 a7 a8 a9 a10 a11 a12 :=
  loop_m (σ := A1 × A2 × A3 × A4 × A5 × A6 × A7 × A8 × A9 × A10 × A11 × A12) (fun n s => W n s.1 s.2.1 s.2.2.1 s.2.2.2.1 s.2.2.2.2.1 s.2.2.2.2.2.1 s.2.2.2.2.2.2.1 s.2.2.2.2.2.2.2.1 s.2.2.2.2.2.2.2.2.1 s.2.2.2.2.2.2.2.2.2.1 s.2.2.2.2.2.2.2.2.2.2.1 s.2.2.2.2.2.2.2.2.2.2.2) (fun s => I s.1 s.2.1 s.2.2.1 s.2.2.2.1 s.2.2.2.2.1 s.2.2.2.2.2.1 s.2.2.2.2.2.2.1 s.2.2.2.2.2.2.2.1 s.2.2.2.2.2.2.2.2.1 s.2.2.2.2.2.2.2.2.2.1 s.2.2.2.2.2.2.2.2.2.2.1 s.2.2.2.2.2.2.2.2.2.2.2) (fun s => μ s.1 s.2.1 s.2.2.1 s.2.2.2.1 s.2.2.2.2.1 s.2.2.2.2.2.1 s.2.2.2.2.2.2.1 s.2.2.2.2.2.2.2.1 s.2.2.2.2.2.2.2.2.1 s.2.2.2.2.2.2.2.2.2.1 s.2.2.2.2.2.2.2.2.2.2.1 s.2.2.2.2.2.2.2.2.2.2.2) (fun n s hI hk => hs n s.1 s.2.1 s.2.2.1 s.2.2.2.1 s.2.2.2.2.1 s.2.2.2.2.2.1 s.2.2.2.2.2.2.1 s.2.2.2.2.2.2.2.1 s.2.2.2.2.2.2.2.2.1 s.2.2.2.2.2.2.2.2.2.1 s.2.2.2.2.2.2.2.2.2.2.1 s.2.2.2.2.2.2.2.2.2.2.2 hI (fun b1 b2 b3 b4 b5 b6 b7 b8 b9 b10 b11 b12 h9 hm => hk (b1, b2, b3, b4, b5, b6, b7, b8, b9, b10, b11, b12) h9 hm)) (a1, a2, a3, a4, a5, a6, a7, a8, a9, a10, a11, a12) h
theorem lp13 {A1 A2 A3 A4 A5 A6 A7 A8 A9 A10 A11 A12 A13 : Type} (W : Nat → A1 → A2 → A3 → A4 → A5 → A6 → A7 → A8 → A9 → A10 → A11 → A12 → A13 → Prop) (I : A1 → A2 → A3 → A4 → A5 → A6 → A7 → A8 → A9 → A10 → A11 → A12 → A13 → Prop) (μ : A1 → A2 → A3 → A4 → A5 → A6 → A7 → A8 → A9 → A10 → A11 → A12 → A13 → Nat) (hs : ∀ (n : Nat) (a1 : A1) (a2 : A2) (a3 : A3) (a4 : A4) (a5 : A5) (a6 : A6) (a7 : A7) (a8 : A8) (a9 : A9) (a10 : A10) (a11 : A11) (a12 : A12) (a13 : A13), I a1 a2 a3 a4 a5 a6 a7 a8 a9 a10 a11 a12 a13 → (∀ (b1 : A1) (b2 : A2) (b3 : A3) (b4 : A4) (b5 : A5) (b6 : A6) (b7 : A7) (b8 : A8) (b9 : A9) (b10 : A10) (b11 : A11) (b12 : A12) (b13 : A13), I b1 b2 b3 b4 b5 b6 b7 b8 b9 b10 b11 b12 b13 → μ b1 b2 b3 b4 b5 b6 b7 b8 b9 b10 b11 b12 b13 < μ a1 a2 a3 a4 a5 a6 a7 a8 a9 a10 a11 a12 a13 → W n b1 b2 b3 b4 b5 b6 b7 b8 b9 b10 b11 b12 b13) → W (n + 1) a1 a2 a3 a4 a5 a6 a7 a8 a9 a10 a11 a12 a13) (a1 : A1) (a2 : A2) (a3 : A3) (a4 : A4) (a5 : A5) (a6 : A6) (a7 : A7) (a8 : A8) (a9 : A9) (a10 : A10) (a11 : A11) (a12 : A12) (a13 : A13) (h : I a1 a2 a3 a4 a5 a6 a7 a8 a9 a10 a11 a12 a13) : ∃ n, W n a1 a2 a3 a4 a5 a6 a7 a8 a9 a10 a11 a12 a13 :=
  loop_m (σ := A1 × A2 × A3 × A4 × A5 × A6 × A7 × A8 × A9 × A10 × A11 × A12 × A13) (fun n s => W n s.1 s.2.1 s.2.2.1 s.2.2.2.1 s.2.2.2.2.1 s.2.2.2.2.2.1 s.2.2.2.2.2.2.1 s.2.2.2.2.2.2.2.1 s.2.2.2.2.2.2.2.2.1 s.2.2.2.2.2.2.2.2.2.1 s.2.2.2.2.2.2.2.2.2.2.1 s.2.2.2.2.2.2.2.2.2.2.2.1 s.2.2.2.2.2.2.2.2.2.2.2.2) (fun s => I s.1 s.2.1 s.2.2.1 s.2.2.2.1 s.2.2.2.2.1 s.2.2.2.2.2.1 s.2.2.2.2.2.2.1 s.2.2.2.2.2.2.2.1 s.2.2.2.2.2.2.2.2.1 s.2.2.2.2.2.2.2.2.2.1 s.2.2.2.2.2.2.2.2.2.2.1 s.2.2.2.2.2.2.2.2.2.2.2.1 s.2.2.2.2.2.2.2.2.2.2.2.2) (fun s => μ s.1 s.2.1 s.2.2.1 s.2.2.2.1 s.2.2.2.2.1 s.2.2.2.2.2.1 s.2.2.2.2.2.2.1 s.2.2.2.2.2.2.2.1 s.2.2.2.2.2.2.2.2.1 s.2.2.2.2.2.2.2.2.2.1 s.2.2.2.2.2.2.2.2.2.2.1 s.2.2.2.2.2.2.2.2.2.2.2.1 s.2.2.2.2.2.2.2.2.2.2.2.2) (fun n s hI hk => hs n s.1 s.2.1 s.2.2.1 s.2.2.2.1 s.2.2.2.2.1 s.2.2.2.2.2.1 s.2.2.2.2.2.2.1 s.2.2.2.2.2.2.2.1 s.2.2.2.2.2.2.2.2.1 s.2.2.2.2.2.2.2.2.2.1 s.2.2.2.2.2.2.2.2.2.2.1 s.2.2.2.2.2.2.2.2.2.2.2.1 s.2.2.2.2.2.2.2.2.2.2.2.2 hI (fun b1 b2 b3 b4 b5 b6 b7 b8 b9 b10 b11 b12 b13 h9 hm => hk (b1, b2, b3, b4, b5, b6, b7, b8, b9, b10, b11, b12, b13) h9 hm)) (a1, a2, a3, a4, a5, a6, a7, a8, a9, a10, a11, a12, a13) h
theorem lp14 {A1 A2 A3 A4 A5 A6 A7 A8 A9 A10 A11 A12 A13 A14 : Type} (W : Nat → A1 → A2 → A3 → A4 → A5 → A6 → A7 → A8 → A9 → A10 → A11 → A12 → A13 → A14 → Prop) (I : A1 → A2 → A3 → A4 → A5 → A6 → A7 → A8 → A9 → A10 → A11 → A12 → A13 → A14 → Prop) (μ : A1 → A2 → A3 → A4 → A5 → A6 → A7 → A8 → A9 → A10 → A11 → A12 → A13 → A14 → Nat) (hs : ∀ (n : Nat) (a1 : A1) (a2 : A2) (a3 : A3) (a4 : A4) (a5 : A5) (a6 : A6) (a7 : A7) (a8 : A8) (a9 : A9) (a10 : A10) (a11 : A11) (a12 : A12) (a13 : A13) (a14 : A14), I a1 a2 a3 a4 a5 a6 a7 a8 a9 a10 a11 a12 a13 a14 → (∀ (b1 : A1) (b2 : A2) (b3 : A3) (b4 : A4) (b5 : A5) (b6 : A6) (b7 : A7) (b8 : A8) (b9 : A9) (b10 : A10) (b11 : A11) (b12 : A12) (b13 : A13) (b14 : A14), I b1 b2 b3 b4 b5 b6 b7 b8 b9 b10 b11 b12 b13 b14 → μ b1 b2 b3 b4 b5 b6 b7 b8 b9 b10 b11 b12 b13 b14 < μ a1 a2 a3 a4 a5 a6 a7 a8 a9 a10 a11 a12 a13 a14 → W n b1 b2 b3 b4 b5 b6 b7 b8 b9 b10 b11 b12 b13 b14) → W (n + 1) a1 a2 a3 a4 a5 a6 a7 a8 a9 a10 a11 a12 a13 a14) (a1 : A1) (a2 : A2) (a3 : A3) (a4 : A4) (a5 : A5) (a6 : A6) (a7 : A7) (a8 : A8) (a9 : A9) (a10 : A10) (a11 : A11) (a12 : A12) (a13 : A13) (a14 : A14) (h : I a1 a2 a3 a4 a5 a6 a7 a8 a9 a10 a11 a12 a13 a14) : ∃ n, W n a1 a2 a3 a4 a5 a6 a7 a8 a9 a10 a11 a12 a13 a14 :=
  loop_m (σ := A1 × A2 × A3 × A4 × A5 × A6 × A7 × A8 × A9 × A10 × A11 × A12 × A13 × A14) (fun n s => W n s.1 s.2.1 s.2.2.1 s.2.2.2.1 s.2.2.2.2.1 s.2.2.2.2.2.1 s.2.2.2.2.2.2.1 s.2.2.2.2.2.2.2.1 s.2.2.2.2.2.2.2.2.1 s.2.2.2.2.2.2.2.2.2.1 s.2.2.2.2.2.2.2.2.2.2.1 s.2.2.2.2.2.2.2.2.2.2.2.1 s.2.2.2.2.2.2.2.2.2.2.2.2.1 s.2.2.2.2.2.2.2.2.2.2.2.2.2) (fun s => I s.1 s.2.1 s.2.2.1 s.2.2.2.1 s.2.2.2.2.1 s.2.2.2.2.2.1 s.2.2.2.2.2.2.1 s.2.2.2.2.2.2.2.1 s.2.2.2.2.2.2.2.2.1 s.2.2.2.2.2.2.2.2.2.1 s.2.2.2.2.2.2.2.2.2.2.1 s.2.2.2.2.2.2.2.2.2.2.2.1 s.2.2.2.2.2.2.2.2.2.2.2.2.1 s.2.2.2.2.2.2.2.2.2.2.2.2.2) (fun s => μ s.1 s.2.1 s.2.2.1 s.2.2.2.1 s.2.2.2.2.1 s.2.2.2.2.2.1 s.2.2.2.2.2.2.1 s.2.2.2.2.2.2.2.1 s.2.2.2.2.2.2.2.2.1 s.2.2.2.2.2.2.2.2.2.1 s.2.2.2.2.2.2.2.2.2.2.1 s.2.2.2.2.2.2.2.2.2.2.2.1 s.2.2.2.2.2.2.2.2.2.2.2.2.1 s.2.2.2.2.2.2.2.2.2.2.2.2.2) (fun n s hI hk => hs n s.1 s.2.1 s.2.2.1 s.2.2.2.1 s.2.2.2.2.1 s.2.2.2.2.2.1 s.2.2.2.2.2.2.1 s.2.2.2.2.2.2.2.1 s.2.2.2.2.2.2.2.2.1 s.2.2.2.2.2.2.2.2.2.1 s.2.2.2.2.2.2.2.2.2.2.1 s.2.2.2.2.2.2.2.2.2.2.2.1 s.2.2.2.2.2.2.2.2.2.2.2.2.1 s.2.2.2.2.2.2.2.2.2.2.2.2.2 hI (fun b1 b2 b3 b4 b5 b6 b7 b8 b9 b10 b11 b12 b13 b14 h9 hm => hk (b1, b2, b3, b4, b5, b6, b7, b8, b9, b10, b11, b12, b13, b14) h9 hm)) (a1, a2, a3, a4, a5, a6, a7, a8, a9, a10, a11, a12, a13, a14) h
theorem lp15 {A1 A2 A3 A4 A5 A6 A7 A8 A9 A10 A11 A12 A13 A14 A15 : Type} (W : Nat → A1 → A2 → A3 → A4 → A5 → A6 → A7 → A8 → A9 → A10 → A11 → A12 → A13 → A14 → A15 → Prop) (I : A1 → A2 → A3 → A4 → A5 → A6 → A7 → A8 → A9 → A10 → A11 → A12 → A13 → A14 → A15 → Prop) (μ : A1 → A2 → A3 → A4 → A5 → A6 → A7 → A8 → A9 → A10 → A11 → A12 → A13 → A14 → A15 → Nat) (hs : ∀ (n : Nat) (a1 : A1) (a2 : A2) (a3 : A3) (a4 : A4) (a5 : A5) (a6 : A6) (a7 : A7) (a8 : A8) (a9 : A9) (a10 : A10) (a11 : A11) (a12 : A12) (a13 : A13) (a14 : A14) (a15 : A15), I a1 a2 a3 a4 a5 a6 a7 a8 a9 a10 a11 a12 a13 a14 a15 → (∀ (b1 : A1) (b2 : A2) (b3 : A3) (b4 : A4) (b5 : A5) (b6 : A6) (b7 : A7) (b8 : A8) (b9 : A9) (b10 : A10) (b11 : A11) (b12 : A12) (b13 : A13) (b14 : A14) (b15 : A15), I b1 b2 b3 b4 b5 b6 b7 b8 b9 b10 b11 b12 b13 b14 b15 → μ b1 b2 b3 b4 b5 b6 b7 b8 b9 b10 b11 b12 b13 b14 b15 < μ a1 a2 a3 a4 a5 a6 a7 a8 a9 a10 a11 a12 a13 a14 a15 → W n b1 b2 b3 b4 b5 b6 b7 b8 b9 b10 b11 b12 b13 b14 b15) → W (n + 1) a1 a2 a3 a4 a5 a6 a7 a8 a9 a10 a11 a12 a13 a14 a15) (a1 : A1) (a2 : A2) (a3 : A3) (a4 : A4) (a5 : A5) (a6 : A6) (a7 : A7) (a8 : A8) (a9 : A9) (a10 : A10) (a11 : A11) (a12 : A12) (a13 : A13) (a14 : A14) (a15 : A15) (h : I a1 a2 a3 a4 a5 a6 a7 a8 a9 a10 a11 a12 a13 a14 a15) : ∃ n, W n a1 a2 a3 a4 a5 a6 a7 a8 a9 a10 a11 a12 a13 a14 a15 :=
  loop_m (σ := A1 × A2 × A3 × A4 × A5 × A6 × A7 × A8 × A9 × A10 × A11 × A12 × A13 × A14 × A15) (fun n s => W n s.1 s.2.1 s.2.2.1 s.2.2.2.1 s.2.2.2.2.1 s.2.2.2.2.2.1 s.2.2.2.2.2.2.1 s.2.2.2.2.2.2.2.1 s.2.2.2.2.2.2.2.2.1 s.2.2.2.2.2.2.2.2.2.1 s.2.2.2.2.2.2.2.2.2.2.1 s.2.2.2.2.2.2.2.2.2.2.2.1 s.2.2.2.2.2.2.2.2.2.2.2.2.1 s.2.2.2.2.2.2.2.2.2.2.2.2.2.1 s.2.2.2.2.2.2.2.2.2.2.2.2.2.2) (fun s => I s.1 s.2.1 s.2.2.1 s.2.2.2.1 s.2.2.2.2.1 s.2.2.2.2.2.1 s.2.2.2.2.2.2.1 s.2.2.2.2.2.2.2.1 s.2.2.2.2.2.2.2.2.1 s.2.2.2.2.2.2.2.2.2.1 s.2.2.2.2.2.2.2.2.2.2.1 s.2.2.2.2.2.2.2.2.2.2.2.1 s.2.2.2.2.2.2.2.2.2.2.2.2.1 s.2.2.2.2.2.2.2.2.2.2.2.2.2.1 s.2.2.2.2.2.2.2.2.2.2.2.2.2.2) (fun s => μ s.1 s.2.1 s.2.2.1 s.2.2.2.1 s.2.2.2.2.1 s.2.2.2.2.2.1 s.2.2.2.2.2.2.1 s.2.2.2.2.2.2.2.1 s.2.2.2.2.2.2.2.2.1 s.2.2.2.2.2.2.2.2.2.1 s.2.2.2.2.2.2.2.2.2.2.1 s.2.2.2.2.2.2.2.2.2.2.2.1 s.2.2.2.2.2.2.2.2.2.2.2.2.1 s.2.2.2.2.2.2.2.2.2.2.2.2.2.1 s.2.2.2.2.2.2.2.2.2.2.2.2.2.2) (fun n s hI hk => hs n s.1 s.2.1 s.2.2.1 s.2.2.2.1 s.2.2.2.2.1 s.2.2.2.2.2.1 s.2.2.2.2.2.2.1 s.2.2.2.2.2.2.2.1 s.2.2.2.2.2.2.2.2.1 s.2.2.2.2.2.2.2.2.2.1 s.2.2.2.2.2.2.2.2.2.2.1 s.2.2.2.2.2.2.2.2.2.2.2.1 s.2.2.2.2.2.2.2.2.2.2.2.2.1 s.2.2.2.2.2.2.2.2.2.2.2.2.2.1 s.2.2.2.2.2.2.2.2.2.2.2.2.2.2 hI (fun b1 b2 b3 b4 b5 b6 b7 b8 b9 b10 b11 b12 b13 b14 b15 h9 hm => hk (b1, b2, b3, b4, b5, b6, b7, b8, b9, b10, b11, b12, b13, b14, b15) h9 hm)) (a1, a2, a3, a4, a5, a6, a7, a8, a9, a10, a11, a12, a13, a14, a15) h
theorem lp16 {A1 A2 A3 A4 A5 A6 A7 A8 A9 A10 A11 A12 A13 A14 A15 A16 : Type} (W : Nat → A1 → A2 → A3 → A4 → A5 → A6 → A7 → A8 → A9 → A10 → A11 → A12 → A13 → A14 → A15 → A16 → Prop) (I : A1 → A2 → A3 → A4 → A5 → A6 → A7 → A8 → A9 → A10 → A11 → A12 → A13 → A14 → A15 → A16 → Prop) (μ : A1 → A2 → A3 → A4 → A5 → A6 → A7 → A8 → A9 → A10 → A11 → A12 → A13 → A14 → A15 → A16 → Nat) (hs : ∀ (n : Nat) (a1 : A1) (a2 : A2) (a3 : A3) (a4 : A4) (a5 : A5) (a6 : A6) (a7 : A7) (a8 : A8) (a9 : A9) (a10 : A10) (a11 : A11) (a12 : A12) (a13 : A13) (a14 : A14) (a15 : A15) (a16 : A16), I a1 a2 a3 a4 a5 a6 a7 a8 a9 a10 a11 a12 a13 a14 a15 a16 → (∀ (b1 : A1) (b2 : A2) (b3 : A3) (b4 : A4) (b5 : A5) (b6 : A6) (b7 : A7) (b8 : A8) (b9 : A9) (b10 : A10) (b11 : A11) (b12 : A12) (b13 : A13) (b14 : A14) (b15 : A15) (b16 : A16), I b1 b2 b3 b4 b5 b6 b7 b8 b9 b10 b11 b12 b13 b14 b15 b16 → μ b1 b2 b3 b4 b5 b6 b7 b8 b9 b10 b11 b12 b13 b14 b15 b16 < μ a1 a2 a3 a4 a5 a6 a7 a8 a9 a10 a11 a12 a13 a14 a15 a16 → W n b1 b2 b3 b4 b5 b6 b7 b8 b9 b10 b11 b12 b13 b14 b15 b16) → W (n + 1) a1 a2 a3 a4 a5 a6 a7 a8 a9 a10 a11 a12 a13 a14 a15 a16) (a1 : A1) (a2 : A2) (a3 : A3) (a4 : A4) (a5 : A5) (a6 : A6) (a7 : A7) (a8 : A8) (a9 : A9) (a10 : A10) (a11 : A11) (a12 : A12) (a13 : A13) (a14 : A14) (a15 : A15) (a16 : A16) (h : I a1 a2 a3 a4 a5 a6 a7 a8 a9 a10 a11 a12 a13 a14 a15 a16) : ∃ n, W n a1 a2 a3 a4 a5 a6 a7 a8 a9 a10 a11 a12 a13 a14 a15 a16 :=
  loop_m (σ := A1 × A2 × A3 × A4 × A5 × A6 × A7 × A8 × A9 × A10 × A11 × A12 × A13 × A14 × A15 × A16) (fun n s => W n s.1 s.2.1 s.2.2.1 s.2.2.2.1 s.2.2.2.2.1 s.2.2.2.2.2.1 s.2.2.2.2.2.2.1 s.2.2.2.2.2.2.2.1 s.2.2.2.2.2.2.2.2.1 s.2.2.2.2.2.2.2.2.2.1 s.2.2.2.2.2.2.2.2.2.2.1 s.2.2.2.2.2.2.2.2.2.2.2.1 s.2.2.2.2.2.2.2.2.2.2.2.2.1 s.2.2.2.2.2.2.2.2.2.2.2.2.2.1 s.2.2.2.2.2.2.2.2.2.2.2.2.2.2.1 s.2.2.2.2.2.2.2.2.2.2.2.2.2.2.2) (fun s => I s.1 s.2.1 s.2.2.1 s.2.2.2.1 s.2.2.2.2.1 s.2.2.2.2.2.1 s.2.2.2.2.2.2.1 s.2.2.2.2.2.2.2.1 s.2.2.2.2.2.2.2.2.1 s.2.2.2.2.2.2.2.2.2.1 s.2.2.2.2.2.2.2.2.2.2.1 s.2.2.2.2.2.2.2.2.2.2.2.1 s.2.2.2.2.2.2.2.2.2.2.2.2.1 s.2.2.2.2.2.2.2.2.2.2.2.2.2.1 s.2.2.2.2.2.2.2.2.2.2.2.2.2.2.1 s.2.2.2.2.2.2.2.2.2.2.2.2.2.2.2) (fun s => μ s.1 s.2.1 s.2.2.1 s.2.2.2.1 s.2.2.2.2.1 s.2.2.2.2.2.1 s.2.2.2.2.2.2.1 s.2.2.2.2.2.2.2.1 s.2.2.2.2.2.2.2.2.1 s.2.2.2.2.2.2.2.2.2.1 s.2.2.2.2.2.2.2.2.2.2.1 s.2.2.2.2.2.2.2.2.2.2.2.1 s.2.2.2.2.2.2.2.2.2.2.2.2.1 s.2.2.2.2.2.2.2.2.2.2.2.2.2.1 s.2.2.2.2.2.2.2.2.2.2.2.2.2.2.1 s.2.2.2.2.2.2.2.2.2.2.2.2.2.2.2) (fun n s hI hk => hs n s.1 s.2.1 s.2.2.1 s.2.2.2.1 s.2.2.2.2.1 s.2.2.2.2.2.1 s.2.2.2.2.2.2.1 s.2.2.2.2.2.2.2.1 s.2.2.2.2.2.2.2.2.1 s.2.2.2.2.2.2.2.2.2.1 s.2.2.2.2.2.2.2.2.2.2.1 s.2.2.2.2.2.2.2.2.2.2.2.1 s.2.2.2.2.2.2.2.2.2.2.2.2.1 s.2.2.2.2.2.2.2.2.2.2.2.2.2.1 s.2.2.2.2.2.2.2.2.2.2.2.2.2.2.1 s.2.2.2.2.2.2.2.2.2.2.2.2.2.2.2 hI (fun b1 b2 b3 b4 b5 b6 b7 b8 b9 b10 b11 b12 b13 b14 b15 b16 h9 hm => hk (b1, b2, b3, b4, b5, b6, b7, b8, b9, b10, b11, b12, b13, b14, b15, b16) h9 hm)) (a1, a2, a3, a4, a5, a6, a7, a8, a9, a10, a11, a12, a13, a14, a15, a16) h
theorem pk_least (P : Nat → Prop) (h : ∃ k, P k) : ∃ k, P k ∧ ∀ j, j < k → ¬ P j := by
  obtain ⟨k, hk⟩ := h
  induction k using Nat.strongRecOn with
  | ind k ih =>
    by_cases e : ∃ j, j < k ∧ P j
    · obtain ⟨j, hj, pj⟩ := e
      exact ih j hj pj
    · exact ⟨k, hk, fun j hj pj => e ⟨j, hj, pj⟩⟩
theorem rp1 {ρ A1 : Type} (W : Nat → (ρ → Prop) → A1 → Prop) (ok : A1 → Prop) (μ : A1 → Nat) (val : A1 → ρ)
    (hs : ∀ (d : Nat) (post : ρ → Prop) (a1 : A1), ok a1 → post (val a1) → (∀ (post' : ρ → Prop) (b1 : A1), ok b1 → μ b1 < μ a1 → post' (val b1) → W d post' b1) → W (d + 1) post a1) :
    ∀ (d : Nat) (post : ρ → Prop) (a1 : A1), ok a1 → μ a1 < d → post (val a1) → W d post a1 := by
  intro d
  induction d with
  | zero => intro post a1 _ h; omega
  | succ d ih =>
    intro post a1 ho hm hp
    exact hs d post a1 ho hp (fun post' b1 ho' hm' hp' => ih post' b1 ho' (by omega) hp')
theorem rp2 {ρ A1 A2 : Type} (W : Nat → (ρ → Prop) → A1 → A2 → Prop) (ok : A1 → A2 → Prop) (μ : A1 → A2 → Nat) (val : A1 → A2 → ρ)
    (hs : ∀ (d : Nat) (post : ρ → Prop) (a1 : A1) (a2 : A2), ok a1 a2 → post (val a1 a2) → (∀ (post' : ρ → Prop) (b1 : A1) (b2 : A2), ok b1 b2 → μ b1 b2 < μ a1 a2 → post' (val b1 b2) → W d post' b1 b2) → W (d + 1) post a1 a2) :
    ∀ (d : Nat) (post : ρ → Prop) (a1 : A1) (a2 : A2), ok a1 a2 → μ a1 a2 < d → post (val a1 a2) → W d post a1 a2 := by
  intro d
  induction d with
  | zero => intro post a1 a2 _ h; omega
  | succ d ih =>
    intro post a1 a2 ho hm hp
    exact hs d post a1 a2 ho hp (fun post' b1 b2 ho' hm' hp' => ih post' b1 b2 ho' (by omega) hp')
theorem rp3 {ρ A1 A2 A3 : Type} (W : Nat → (ρ → Prop) → A1 → A2 → A3 → Prop) (ok : A1 → A2 → A3 → Prop) (μ : A1 → A2 → A3 → Nat) (val : A1 → A2 → A3 → ρ)
    (hs : ∀ (d : Nat) (post : ρ → Prop) (a1 : A1) (a2 : A2) (a3 : A3), ok a1 a2 a3 → post (val a1 a2 a3) → (∀ (post' : ρ → Prop) (b1 : A1) (b2 : A2) (b3 : A3), ok b1 b2 b3 → μ b1 b2 b3 < μ a1 a2 a3 → post' (val b1 b2 b3) → W d post' b1 b2 b3) → W (d + 1) post a1 a2 a3) :
    ∀ (d : Nat) (post : ρ → Prop) (a1 : A1) (a2 : A2) (a3 : A3), ok a1 a2 a3 → μ a1 a2 a3 < d → post (val a1 a2 a3) → W d post a1 a2 a3 := by
  intro d
  induction d with
  | zero => intro post a1 a2 a3 _ h; omega
  | succ d ih =>
    intro post a1 a2 a3 ho hm hp
    exact hs d post a1 a2 a3 ho hp (fun post' b1 b2 b3 ho' hm' hp' => ih post' b1 b2 b3 ho' (by omega) hp')
theorem rp4 {ρ A1 A2 A3 A4 : Type} (W : Nat → (ρ → Prop) → A1 → A2 → A3 → A4 → Prop) (ok : A1 → A2 → A3 → A4 → Prop) (μ : A1 → A2 → A3 → A4 → Nat) (val : A1 → A2 → A3 → A4 → ρ)
    (hs : ∀ (d : Nat) (post : ρ → Prop) (a1 : A1) (a2 : A2) (a3 : A3) (a4 : A4), ok a1 a2 a3 a4 → post (val a1 a2 a3 a4) → (∀ (post' : ρ → Prop) (b1 : A1) (b2 : A2) (b3 : A3) (b4 : A4), ok b1 b2 b3 b4 → μ b1 b2 b3 b4 < μ a1 a2 a3 a4 → post' (val b1 b2 b3 b4) → W d post' b1 b2 b3 b4) → W (d + 1) post a1 a2 a3 a4) :
    ∀ (d : Nat) (post : ρ → Prop) (a1 : A1) (a2 : A2) (a3 : A3) (a4 : A4), ok a1 a2 a3 a4 → μ a1 a2 a3 a4 < d → post (val a1 a2 a3 a4) → W d post a1 a2 a3 a4 := by
  intro d
  induction d with
  | zero => intro post a1 a2 a3 a4 _ h; omega
  | succ d ih =>
    intro post a1 a2 a3 a4 ho hm hp
    exact hs d post a1 a2 a3 a4 ho hp (fun post' b1 b2 b3 b4 ho' hm' hp' => ih post' b1 b2 b3 b4 ho' (by omega) hp')
theorem rp5 {ρ A1 A2 A3 A4 A5 : Type} (W : Nat → (ρ → Prop) → A1 → A2 → A3 → A4 → A5 → Prop) (ok : A1 → A2 → A3 → A4 → A5 → Prop) (μ : A1 → A2 → A3 → A4 → A5 → Nat) (val : A1 → A2 → A3 → A4 → A5 → ρ)
    (hs : ∀ (d : Nat) (post : ρ → Prop) (a1 : A1) (a2 : A2) (a3 : A3) (a4 : A4) (a5 : A5), ok a1 a2 a3 a4 a5 → post (val a1 a2 a3 a4 a5) → (∀ (post' : ρ → Prop) (b1 : A1) (b2 : A2) (b3 : A3) (b4 : A4) (b5 : A5), ok b1 b2 b3 b4 b5 → μ b1 b2 b3 b4 b5 < μ a1 a2 a3 a4 a5 → post' (val b1 b2 b3 b4 b5) → W d post' b1 b2 b3 b4 b5) → W (d + 1) post a1 a2 a3 a4 a5) :
    ∀ (d : Nat) (post : ρ → Prop) (a1 : A1) (a2 : A2) (a3 : A3) (a4 : A4) (a5 : A5), ok a1 a2 a3 a4 a5 → μ a1 a2 a3 a4 a5 < d → post (val a1 a2 a3 a4 a5) → W d post a1 a2 a3 a4 a5 := by
  intro d
  induction d with
  | zero => intro post a1 a2 a3 a4 a5 _ h; omega
  | succ d ih =>
    intro post a1 a2 a3 a4 a5 ho hm hp
    exact hs d post a1 a2 a3 a4 a5 ho hp (fun post' b1 b2 b3 b4 b5 ho' hm' hp' => ih post' b1 b2 b3 b4 b5 ho' (by omega) hp')
theorem rp6 {ρ A1 A2 A3 A4 A5 A6 : Type} (W : Nat → (ρ → Prop) → A1 → A2 → A3 → A4 → A5 → A6 → Prop) (ok : A1 → A2 → A3 → A4 → A5 → A6 → Prop) (μ : A1 → A2 → A3 → A4 → A5 → A6 → Nat) (val : A1 → A2 → A3 → A4 → A5 → A6 → ρ)
    (hs : ∀ (d : Nat) (post : ρ → Prop) (a1 : A1) (a2 : A2) (a3 : A3) (a4 : A4) (a5 : A5) (a6 : A6), ok a1 a2 a3 a4 a5 a6 → post (val a1 a2 a3 a4 a5 a6) → (∀ (post' : ρ → Prop) (b1 : A1) (b2 : A2) (b3 : A3) (b4 : A4) (b5 : A5) (b6 : A6), ok b1 b2 b3 b4 b5 b6 → μ b1 b2 b3 b4 b5 b6 < μ a1 a2 a3 a4 a5 a6 → post' (val b1 b2 b3 b4 b5 b6) → W d post' b1 b2 b3 b4 b5 b6) → W (d + 1) post a1 a2 a3 a4 a5 a6) :
    ∀ (d : Nat) (post : ρ → Prop) (a1 : A1) (a2 : A2) (a3 : A3) (a4 : A4) (a5 : A5) (a6 : A6), ok a1 a2 a3 a4 a5 a6 → μ a1 a2 a3 a4 a5 a6 < d → post (val a1 a2 a3 a4 a5 a6) → W d post a1 a2 a3 a4 a5 a6 := by
  intro d
  induction d with
  | zero => intro post a1 a2 a3 a4 a5 a6 _ h; omega
  | succ d ih =>
    intro post a1 a2 a3 a4 a5 a6 ho hm hp
    exact hs d post a1 a2 a3 a4 a5 a6 ho hp (fun post' b1 b2 b3 b4 b5 b6 ho' hm' hp' => ih post' b1 b2 b3 b4 b5 b6 ho' (by omega) hp')
theorem rec_p {σ ρ : Type} (W : Nat → (ρ → Prop) → σ → Prop) (ok : σ → Prop) (μ : σ → Nat) (val : σ → ρ)
    (hs : ∀ d s post, ok s → post (val s) → (∀ s' post', ok s' → μ s' < μ s → post' (val s') → W d post' s') → W (d + 1) post s) :
    ∀ d s post, ok s → μ s < d → post (val s) → W d post s := by
  intro d
  induction d with
  | zero => intro s post _ h; omega
  | succ d ih =>
    intro s post ho hm hp
    exact hs d s post ho hp (fun s' post' ho' hm' hp' => ih s' post' ho' (by omega) hp')
theorem rec_q {σ ρ : Type} (W : Nat → (ρ → Prop) → σ → Prop) (ok : σ → Prop) (μ : σ → Nat) (Q : σ → ρ → Prop)
    (hs : ∀ d s post, ok s → (∀ r, Q s r → post r) → (∀ s' post', ok s' → μ s' < μ s → (∀ r, Q s' r → post' r) → W d post' s') → W (d + 1) post s) :
    ∀ d s post, ok s → μ s < d → (∀ r, Q s r → post r) → W d post s := by
  intro d
  induction d with
  | zero => intro s post _ h; omega
  | succ d ih =>
    intro s post ho hm hp
    exact hs d s post ho hp (fun s' post' ho' hm' hp' => ih s' post' ho' (by omega) hp')
def bx_sum (f : Nat → Int32) : Nat → Int32
  | 0 => 0
  | n + 1 => bx_sum f n + f n
theorem ek_u {A : Prop} {B : Nat → Prop} {k N : Nat} (hk : k < N) (h : B k) : (some k = none → A) ∧ (∀ y : Nat, some k = some y → (y < N ∧ B y)) :=
  ⟨fun z => absurd z (Option.some_ne_none k), fun _ e => (by cases e; exact ⟨hk, h⟩)⟩
theorem ek_nu {A : Prop} {B : Nat → Prop} (h : A) : ((none : Option Nat) = none → A) ∧ (∀ y : Nat, (none : Option Nat) = some y → B y) :=
  ⟨fun _ => h, fun _ e => (by cases e)⟩
theorem ek_if {c d A B : Prop} (e : c ↔ d) (f : d → A) (g : ¬ d → B) : (c → A) ∧ (¬ c → B) :=
  ⟨fun z => f (e.mp z), fun z => g (fun y => z (e.mpr y))⟩
theorem ek_v {α : Sort _} {P : α → Prop} {a b : α} (e : a = b) (h : P b) : P a := e ▸ h
theorem co_some {x : Option Nat} {A : Prop} {B : Nat → Prop} (i : Nat) (h : B i) (hx : x = some i := by rfl) : (x = none → A) ∧ (∀ y : Nat, x = some y → B y) := by
  subst hx
  exact ⟨fun e => (nomatch e), fun y e => Option.some.inj e ▸ h⟩
theorem co_none {x : Option Nat} {A : Prop} {B : Nat → Prop} (h : A) (hx : x = none := by rfl) : (x = none → A) ∧ (∀ y : Nat, x = some y → B y) := by
  subst hx
  exact ⟨fun _ => h, fun y e => (nomatch e)⟩
theorem co_any {x : Option Nat} {A : Prop} {B : Nat → Prop} (hn : x = none → A) (hs : ∀ i : Nat, x = some i → B i) : (x = none → A) ∧ (∀ y : Nat, x = some y → B y) := ⟨hn, hs⟩
theorem co_2 {P : Nat → Prop} (h0 : P 0) (h1 : P 1) {i : Nat} (hi : i < 2) : P i :=
  match i, hi with
  | 0, _ => h0
  | 1, _ => h1
theorem co_3 {P : Nat → Prop} (h0 : P 0) (h1 : P 1) (h2 : P 2) {i : Nat} (hi : i < 3) : P i :=
  match i, hi with
  | 0, _ => h0
  | 1, _ => h1
  | 2, _ => h2
theorem co_4 {P : Nat → Prop} (h0 : P 0) (h1 : P 1) (h2 : P 2) (h3 : P 3) {i : Nat} (hi : i < 4) : P i :=
  match i, hi with
  | 0, _ => h0
  | 1, _ => h1
  | 2, _ => h2
  | 3, _ => h3
theorem co_dec {N : Nat} {P : Nat → Prop} [DecidablePred P] (h : (List.range N).all (fun i => decide (P i)) = true) {i : Nat} (hi : i < N) : P i := by
  have := List.all_eq_true.mp h i (List.mem_range.mpr hi)
  exact of_decide_eq_true this
theorem co_tab {α : Type} {l : List α} {d : α} {P : α → Prop} (h : ∀ a, a ∈ l → P a) {i : Nat} (hi : i < l.length) : P (l.getD i d) := by
  rw [List.getD_eq_getElem?_getD, List.getElem?_eq_getElem hi]
  exact h _ (List.getElem_mem hi)
theorem pk_mu {x : Int32} {L : Nat} (h0 : ¬ x < 0) (h : ¬ nI L ≤ x) (hL : L < 2 ^ 31) : ∃ j : Nat, j < L ∧ x = nI j ∧ x + 1 = nI (j + 1) ∧ x.toNatClampNeg = j ∧ L - (x + 1).toNatClampNeg < L - x.toNatClampNeg := by
  obtain ⟨j, hj, rfl⟩ := nI_of h0
  have hl : j < L := Nat.not_le.mp fun q => h (nI_le q hj)
  refine ⟨j, hl, rfl, nI_1 j, nI_clamp hj, ?_⟩
  rw [nI_1, nI_clamp (by omega), nI_clamp hj]
  omega
theorem op_s {α : Type} {r : Option α} {A : Prop} {B : α → Prop} {y : α} (h : r = some y) (b : B y) : (r = none → A) ∧ ∀ z, r = some z → B z :=
  ⟨fun e => (by rw [h] at e; cases e), fun z e => (by rw [h] at e; cases e; exact b)⟩
def l_holds {α : Type} (a : Nat → Option Nat) (LP : List Nat) (p : Nat → α) (c : Nat) (b : Nat → α) : Prop :=
  ∀ j, j < c → ∃ y, a j = some y ∧ y ∈ LP ∧ p y = b j
theorem l_holds_0 {α : Type} {a : Nat → Option Nat} {LP : List Nat} {p b : Nat → α} : l_holds a LP p 0 b := fun j h => absurd h (Nat.not_lt_zero j)
theorem l_in_new (LP : List Nat) (q : Nat) : q ∈ LP ++ [q] := List.mem_append.mpr (Or.inr (List.mem_singleton.mpr rfl))
def l_sum (b : Nat → Int32) : Nat → Int32
  | 0 => 0
  | k + 1 => l_sum b k + b k
theorem sb_shr0 (x : Int32) : x >>> ((0 : Int32) &&& 31) = x := by
  rw [show ((0 : Int32) &&& 31) = 0 by decide]
  simp
theorem sb_shl0 (x : Int32) : x <<< ((0 : Int32) &&& 31) = x := by
  rw [show ((0 : Int32) &&& 31) = 0 by decide]
  simp
theorem sb_cl0 : (0 : Int32).toNatClampNeg = 0 := by decide
theorem sb_m1 {p : Nat} (h : 0 < p) : nI p + (-1) = nI (p - 1) := by
  obtain ⟨q, rfl⟩ : ∃ q, p = q + 1 := ⟨p - 1, by omega⟩
  exact pk_m1 q
def sb_b (c : Nat) : Int32 := (nI c).toInt8.toInt32
theorem sb_byte : ∀ c, c < 256 → sb_b c &&& 255 = nI c ∧ ((nI c).toUInt32 % 65536).toInt32 = nI c ∧ nI c ≤ 255 := by decide +kernel
def sb_Fit (a : Nat → Int32) : Prop := ∀ j, fits .byte (.int (a j)) = true
def sb_Lat (t : Nat → Nat) (n : Nat) (a : Nat → Int32) : Prop := ∀ j, j < n → t j < 256 ∧ a j = sb_b (t j)
theorem sb_fitB (c : Nat) : fits .byte (.int (sb_b c)) = true := pk_fb _
theorem sb_fit0 : sb_Fit (fun _ => 0) := fun _ => by
  show fits .byte (.int 0) = true
  decide
theorem sb_fitU {a : Nat → Int32} {k : Nat} {x : Int32} (h : sb_Fit a) (hx : fits .byte (.int x) = true) : sb_Fit (upd a k x) := by
  intro j
  by_cases e : j = k
  · subst e
    rw [pk_us]
    exact hx
  · rw [pk_un e]
    exact h j
def sb_cat (t : Nat → Nat) (n : Nat) (s : Nat → Nat) : Nat → Nat := fun j => if j < n then t j else s (j - n)
theorem sb_cat_lo {t s : Nat → Nat} {n j : Nat} (h : j < n) : sb_cat t n s j = t j := if_pos h
theorem sb_cat_hi {t s : Nat → Nat} {n j : Nat} : sb_cat t n s (n + j) = s j := by
  show (if n + j < n then t (n + j) else s (n + j - n)) = s j
  rw [if_neg (by omega), Nat.add_sub_cancel_left]
theorem sb_latPut {t s : Nat → Nat} {n w : Nat} {a a' : Nat → Int32} (h : sb_Lat t n a) (hk : ∀ j, j < n → a' j = a j) (hs : ∀ i, i < w → s i < 256 ∧ a' (n + i) = sb_b (s i)) : sb_Lat (sb_cat t n s) (n + w) a' := by
  intro j hj
  by_cases e : j < n
  · rw [sb_cat_lo e, hk j e]
    exact h j e
  · obtain ⟨i, rfl⟩ : ∃ i, j = n + i := ⟨j - n, by omega⟩
    rw [sb_cat_hi]
    exact hs i (by omega)
theorem sb_latKeep {t : Nat → Nat} {n : Nat} {a a' : Nat → Int32} (h : sb_Lat t n a) (hk : ∀ j, j < n → a' j = a j) : sb_Lat t n a' := fun j hj => by
  rw [hk j hj]
  exact h j hj
def sb_cap (q m : Nat) : Nat := if q ≤ m then m else if 2 * m + 2 < q then q else 2 * m + 2
def sb_Room (q m mc ms : Nat) : Prop := q ≤ m ∨ (1 ≤ mc ∧ sb_cap q m ≤ ms ∧ sb_cap q m ≤ 65536)
theorem sb_cap_ge (q m : Nat) : q ≤ sb_cap q m := by
  unfold sb_cap
  split
  · omega
  · split <;> omega
theorem sb_cap_gem (q m : Nat) : m ≤ sb_cap q m := by
  unfold sb_cap
  split
  · omega
  · split <;> omega
theorem sb_cap_le {q m mc ms : Nat} (hm : m ≤ 65536) (hr : sb_Room q m mc ms) : sb_cap q m ≤ 65536 := by
  rcases hr with h | h
  · rw [sb_cap, if_pos h]
    exact hm
  · exact h.2.2
theorem sb_at {P : Int32 → Prop} {x y : Int32} (e : x = y) (h : P y) : P x := e ▸ h
def sb_dg (w : Nat) : Nat := if w < 10 then 1 else if w < 100 then 2 else if w < 1000 then 3 else if w < 10000 then 4 else if w < 100000 then 5 else if w < 1000000 then 6 else if w < 10000000 then 7 else if w < 100000000 then 8 else if w < 1000000000 then 9 else 10
def sb_dec (v : Nat) : Nat → Nat := fun i => 48 + v / 10 ^ (sb_dg v - 1 - i) % 10
theorem sb_dg_in (w : Nat) : 1 ≤ sb_dg w ∧ sb_dg w ≤ 10 := by
  unfold sb_dg
  constructor <;> (repeat' split) <;> omega
theorem sb_dg100 {w : Nat} (h : 100 ≤ w) (hw : w < 2 ^ 31) : sb_dg w = sb_dg (w / 100) + 2 := by
  rw [sb_dg, sb_dg, if_neg (show ¬ w < 10 by omega), if_neg (show ¬ w < 100 by omega)]
  by_cases h3 : w < 1000
  · rw [if_pos h3, if_pos (show w / 100 < 10 by omega)]
  rw [if_neg h3, if_neg (show ¬ w / 100 < 10 by omega)]
  by_cases h4 : w < 10000
  · rw [if_pos h4, if_pos (show w / 100 < 100 by omega)]
  rw [if_neg h4, if_neg (show ¬ w / 100 < 100 by omega)]
  by_cases h5 : w < 100000
  · rw [if_pos h5, if_pos (show w / 100 < 1000 by omega)]
  rw [if_neg h5, if_neg (show ¬ w / 100 < 1000 by omega)]
  by_cases h6 : w < 1000000
  · rw [if_pos h6, if_pos (show w / 100 < 10000 by omega)]
  rw [if_neg h6, if_neg (show ¬ w / 100 < 10000 by omega)]
  by_cases h7 : w < 10000000
  · rw [if_pos h7, if_pos (show w / 100 < 100000 by omega)]
  rw [if_neg h7, if_neg (show ¬ w / 100 < 100000 by omega)]
  by_cases h8 : w < 100000000
  · rw [if_pos h8, if_pos (show w / 100 < 1000000 by omega)]
  rw [if_neg h8, if_neg (show ¬ w / 100 < 1000000 by omega)]
  by_cases h9 : w < 1000000000
  · rw [if_pos h9, if_pos (show w / 100 < 10000000 by omega)]
  rw [if_neg h9, if_neg (show ¬ w / 100 < 10000000 by omega)]
  rw [if_pos (show w / 100 < 100000000 by omega)]
theorem sb_negT {w : Nat} (h : w < 2 ^ 31) : (-nI w).toInt = -(w : Int) := by
  rw [Int32.toInt_neg, nI_toInt h]
  exact Int.bmod_eq_of_le (by omega) (by omega)
theorem sb_nle {a b : Nat} (ha : a < 2 ^ 31) (hb : b < 2 ^ 31) : -nI a ≤ -nI b ↔ b ≤ a := by
  rw [Int32.le_iff_toInt_le, sb_negT ha, sb_negT hb]
  omega
theorem sb_nlt {a b : Nat} (ha : a < 2 ^ 31) (hb : b < 2 ^ 31) : -nI a < -nI b ↔ b < a := by
  rw [Int32.lt_iff_toInt_lt, sb_negT ha, sb_negT hb]
  omega
theorem sb_cmp {A B : Prop} {x : Int32} (v c : Nat) (f : c ≤ v → A) (g : v < c → B) (hv : v < 2 ^ 31) (hx : x = -nI c := by rfl) (hc : c < 2 ^ 31 := by omega) : (-nI v ≤ x → A) ∧ (¬ -nI v ≤ x → B) := by
  subst hx
  rw [sb_nle hv hc]
  exact ⟨f, fun z => g (by omega)⟩
theorem sb_ndiv {w : Nat} (hw : w < 2 ^ 31) : (-nI w) / 100 = -nI (w / 100) := by
  apply Int32.toInt_inj.mp
  have h100 : (100 : Int32).toInt = 100 := by decide
  rw [Int32.toInt_div, sb_negT hw, h100, sb_negT (by omega), Int.neg_tdiv, Int.tdiv_eq_ediv_of_nonneg (by omega), Int.bmod_eq_of_le (by omega) (by omega)]
  omega
theorem sb_nrem {w : Nat} (hw : w < 2 ^ 31) : (-nI (w / 100)) * 100 - (-nI w) = nI (w % 100) := by
  have h := pk_rem (a := w) (d := 100) hw (by decide) (by decide)
  rw [pk_div hw (by decide) (by decide)] at h
  rw [← h]
  show (-nI (w / 100)) * nI 100 - (-nI w) = nI w - nI (w / 100) * nI 100
  rw [Int32.neg_mul, Int32.sub_neg, Int32.add_comm, ← Int32.sub_eq_add_neg]
end
section
/-! rows on bits, shifts and unsigned numbers, to paste: each family out of a closed proof of our own, whole with what it rests on; each by itself clean at Lean in its own claim (generation 39, form 5). Take a family whole -/
/-! ===== Int32 by its bits: bt x i ===== -/
def bt (x : Int32) (i : Nat) : Bool := x.toBitVec.getLsbD i
theorem b_ext {x y : Int32} (h : ∀ i, i < 32 → bt x i = bt y i) : x = y := Int32.toBitVec_inj.mp (BitVec.eq_of_getLsbD_eq (fun i hi => h i hi))
theorem b_or (x y : Int32) (i : Nat) : bt (x ||| y) i = (bt x i || bt y i) := by unfold bt; rw [Int32.toBitVec_or, BitVec.getLsbD_or]
theorem b_and (x y : Int32) (i : Nat) : bt (x &&& y) i = (bt x i && bt y i) := by unfold bt; rw [Int32.toBitVec_and, BitVec.getLsbD_and]
theorem b_xor (x y : Int32) (i : Nat) : bt (x ^^^ y) i = (bt x i ^^ bt y i) := by unfold bt; rw [Int32.toBitVec_xor, BitVec.getLsbD_xor]
theorem b_big {x : Int32} {i : Nat} (h : 32 ≤ i) : bt x i = false := BitVec.getLsbD_of_ge _ _ h
theorem b_255 (i : Nat) : bt 255 i = decide (i < 8) := by
  rcases Nat.lt_or_ge i 32 with h | h
  · exact (by decide +kernel : ∀ i, i < 32 → bt 255 i = decide (i < 8)) i h
  · rw [b_big h, decide_eq_false (by omega)]
theorem b_65535 (i : Nat) : bt 65535 i = decide (i < 16) := by
  rcases Nat.lt_or_ge i 32 with h | h
  · exact (by decide +kernel : ∀ i, i < 32 → bt 65535 i = decide (i < 16)) i h
  · rw [b_big h, decide_eq_false (by omega)]
theorem b_m1 : ∀ i, i < 32 → bt (-1) i = true := by decide +kernel
theorem b_0 (i : Nat) : bt 0 i = false := BitVec.getLsbD_zero
theorem s_l : ∀ n, n < 32 → ((nI n &&& 31).toBitVec.smod 32).toNat = n := by decide +kernel
theorem s_u : ∀ n, n < 32 → (((nI n).toUInt32 &&& Int32.toUInt32 31).toBitVec % 32).toNat = n := by decide +kernel
theorem b_shl (n : Nat) (hn : n < 32) (x : Int32) {i : Nat} (hi : i < 32) : bt (x <<< (nI n &&& 31)) i = (decide (n ≤ i) && bt x (i - n)) := by
  unfold bt
  rw [Int32.toBitVec_shiftLeft]
  show (x.toBitVec <<< ((nI n &&& 31).toBitVec.smod 32).toNat).getLsbD i = _
  rw [s_l n hn, BitVec.getLsbD_shiftLeft]
  rcases Nat.lt_or_ge i n with h | h
  · simp [h, Nat.not_le.mpr h]
  · simp [hi, h, Nat.not_lt.mpr h]
theorem b_ushr (n : Nat) (hn : n < 32) (x : Int32) (i : Nat) : bt ((x.toUInt32 >>> ((nI n).toUInt32 &&& Int32.toUInt32 31)).toInt32) i = bt x (n + i) := by
  show (x.toUInt32 >>> ((nI n).toUInt32 &&& Int32.toUInt32 31)).toBitVec.getLsbD i = x.toUInt32.toBitVec.getLsbD (n + i)
  rw [UInt32.toBitVec_shiftRight]
  show (x.toUInt32.toBitVec >>> (((nI n).toUInt32 &&& Int32.toUInt32 31).toBitVec % 32).toNat).getLsbD i = _
  rw [s_u n hn, BitVec.getLsbD_ushiftRight]
theorem b_sshr (n : Nat) (hn : n < 32) (x : Int32) {i : Nat} (hi : i < 32) : bt (x >>> (nI n &&& 31)) i = if n + i < 32 then bt x (n + i) else bt x 31 := by
  unfold bt
  rw [Int32.toBitVec_shiftRight]
  show (x.toBitVec.sshiftRight ((nI n &&& 31).toBitVec.smod 32).toNat).getLsbD i = _
  rw [s_l n hn, BitVec.getLsbD_sshiftRight, BitVec.msb_eq_getLsbD_last]
  simp [hi]
theorem b_shl8 (x : Int32) {i : Nat} (hi : i < 32) : bt (x <<< ((8 : Int32) &&& 31)) i = (decide (8 ≤ i) && bt x (i - 8)) := b_shl 8 (by omega) x hi
theorem b_shl16 (x : Int32) {i : Nat} (hi : i < 32) : bt (x <<< ((16 : Int32) &&& 31)) i = (decide (16 ≤ i) && bt x (i - 16)) := b_shl 16 (by omega) x hi
theorem b_shl24 (x : Int32) {i : Nat} (hi : i < 32) : bt (x <<< ((24 : Int32) &&& 31)) i = (decide (24 ≤ i) && bt x (i - 24)) := b_shl 24 (by omega) x hi
theorem b_sshr8 (x : Int32) {i : Nat} (hi : i < 32) : bt (x >>> ((8 : Int32) &&& 31)) i = if 8 + i < 32 then bt x (8 + i) else bt x 31 := b_sshr 8 (by omega) x hi
/-! ===== nI under and, xor, >>>, one bit, 65535 ===== -/
theorem nx_and (a b : Nat) : nI a &&& nI b = nI (a &&& b) := by
  apply Int32.toBitVec_inj.1
  show BitVec.ofNat 32 a &&& BitVec.ofNat 32 b = BitVec.ofNat 32 (a &&& b)
  apply BitVec.eq_of_getLsbD_eq
  intro i hi
  simp [hi]
theorem nx_xor (a b : Nat) : nI a ^^^ nI b = nI (a ^^^ b) := by
  apply Int32.toBitVec_inj.1
  show BitVec.ofNat 32 a ^^^ BitVec.ofNat 32 b = BitVec.ofNat 32 (a ^^^ b)
  apply BitVec.eq_of_getLsbD_eq
  intro i hi
  simp [hi]
theorem nx_cnt : ∀ j : Fin 32, (UInt32.ofNat j.val &&& Int32.toUInt32 31).toNat % 32 = j.val := by decide +kernel
theorem nx_ush {k j : Nat} (hk : k < 65536) (hj : j < 32) : ((nI k).toUInt32 >>> ((nI j).toUInt32 &&& Int32.toUInt32 31)).toInt32 = nI (k >>> j) := by
  have hs : k >>> j ≤ k := by
    rw [Nat.shiftRight_eq_div_pow]
    exact Nat.div_le_self _ _
  have e2 : UInt32.ofNat k >>> (UInt32.ofNat j &&& Int32.toUInt32 31) = UInt32.ofNat (k >>> j) := by
    apply UInt32.toNat_inj.1
    have h1 : (UInt32.ofNat k).toNat = k := Nat.mod_eq_of_lt (by omega)
    have h2 : (UInt32.ofNat (k >>> j)).toNat = k >>> j := Nat.mod_eq_of_lt (by omega)
    rw [UInt32.toNat_shiftRight, nx_cnt ⟨j, hj⟩, h1, h2]
  show (UInt32.ofNat k >>> (UInt32.ofNat j &&& Int32.toUInt32 31)).toInt32 = _
  rw [e2]
  rfl
theorem nx_bit {k j : Nat} (hk : k < 65536) (hj : j < 16) : (((nI k).toUInt32 >>> ((nI j).toUInt32 &&& Int32.toUInt32 31)).toInt32 &&& 1) = 0 ↔ k.testBit j = false := by
  rw [nx_ush hk (by omega)]
  show nI (k >>> j) &&& nI 1 = 0 ↔ _
  rw [nx_and, Nat.and_one_is_mod, ← nI_0, nI_eq (by omega) (by omega), Nat.testBit_eq_decide_div_mod_eq, Nat.shiftRight_eq_div_pow, decide_eq_false_iff_not]
  generalize k / 2 ^ j = z
  omega
theorem nx_mod (k : Nat) : nI k &&& 65535 = nI (k % 65536) := by
  show nI k &&& nI 65535 = _
  rw [nx_and, show (65535 : Nat) = 2 ^ 16 - 1 from rfl, Nat.and_two_pow_sub_one_eq_mod]
theorem nx_m16 {k : Nat} (h : k < 65536) : nI k &&& 65535 = nI k := by rw [nx_mod, Nat.mod_eq_of_lt h]
theorem nx_mask (x : Int32) : ∃ k, k < 65536 ∧ x &&& 65535 = nI k := by
  have e : x = nI x.toBitVec.toNat := by
    apply Int32.toBitVec_inj.1
    show x.toBitVec = BitVec.ofNat 32 x.toBitVec.toNat
    simp
  refine ⟨x.toBitVec.toNat % 65536, Nat.mod_lt _ (by omega), ?_⟩
  rw [← nx_mod, ← e]
/-! ===== Int32 as a set of bits: test, set ===== -/
def nf_M (m : Int32) : Nat := 4294967296 - m.toBitVec.toNat
theorem nf_sh : ∀ l, l < 32 → ((1 : Int32) <<< (nI l &&& 31)).toBitVec = BitVec.twoPow 32 l := by decide +kernel
theorem nf_sl : ∀ l, l < 32 → (((nI l).toUInt32 &&& Int32.toUInt32 31).toBitVec % 32).toNat = l := by decide +kernel
theorem nf_tp : ∀ l, l < 32 → BitVec.twoPow 32 l ≠ 0#32 := by decide +kernel
theorem nf_bit (m : Int32) (l : Nat) (hl : l < 32) : ((m.toUInt32 >>> ((nI l).toUInt32 &&& Int32.toUInt32 31)).toInt32 &&& 1) = 0 ↔ (m &&& ((1 : Int32) <<< (nI l &&& 31))) = 0 := by
  have e : ((m.toUInt32 >>> ((nI l).toUInt32 &&& Int32.toUInt32 31)).toInt32).toBitVec = m.toBitVec >>> l := by
    show m.toBitVec >>> (((nI l).toUInt32 &&& Int32.toUInt32 31).toBitVec % 32) = m.toBitVec >>> l
    rw [BitVec.ushiftRight_eq', nf_sl l hl]
  rw [← Int32.toBitVec_inj, ← Int32.toBitVec_inj, Int32.toBitVec_and, Int32.toBitVec_and, nf_sh l hl, e, BitVec.and_twoPow]
  show (m.toBitVec >>> l &&& 1#32) = 0#32 ↔ _ = 0#32
  rw [BitVec.and_one_eq_setWidth_ofBool_getLsbD, BitVec.getLsbD_ushiftRight, Nat.add_zero]
  cases hb : m.toBitVec.getLsbD l
  · exact ⟨fun _ => by simp, fun _ => by decide⟩
  · exact ⟨fun z => absurd z (by decide), fun z => absurd ((if_pos rfl).symm.trans z) (nf_tp l hl)⟩
theorem nf_gr (m k : Int32) (h : m &&& k = 0) (hk : k ≠ 0) : nf_M (m ||| k) < nf_M m := by
  have hm := m.toBitVec.isLt
  have hm' := (m ||| k).toBitVec.isLt
  have h1 : m.toBitVec.toNat ≤ (m ||| k).toBitVec.toNat := by
    rw [Int32.toBitVec_or, BitVec.toNat_or]
    exact Nat.left_le_or
  have h2 : m.toBitVec.toNat ≠ (m ||| k).toBitVec.toNat := by
    intro e
    have e2 : m = m ||| k := Int32.toBitVec_inj.mp (BitVec.eq_of_toNat_eq e)
    apply hk
    apply Int32.toBitVec_inj.mp
    show k.toBitVec = 0#32
    apply BitVec.eq_of_getLsbD_eq
    intro i hi
    have a : m.toBitVec.getLsbD i = (m.toBitVec.getLsbD i || k.toBitVec.getLsbD i) := by rw [← BitVec.getLsbD_or, ← Int32.toBitVec_or, ← e2]
    have b : (m.toBitVec.getLsbD i && k.toBitVec.getLsbD i) = false := by
      rw [← BitVec.getLsbD_and, ← Int32.toBitVec_and, h]
      exact BitVec.getLsbD_zero
    rw [BitVec.getLsbD_zero]
    revert a b
    cases m.toBitVec.getLsbD i <;> cases k.toBitVec.getLsbD i <;> simp
  unfold nf_M
  omega
/-! ===== a byte read unsigned ===== -/
theorem bp_b (x : Int32) : x.toInt8.toInt32 &&& 255 = x &&& 255 := by
  apply Int32.toBitVec_inj.mp
  rw [Int32.toBitVec_and, Int32.toBitVec_and, Int8.toBitVec_toInt32, Int32.toBitVec_toInt8]
  apply BitVec.eq_of_getLsbD_eq
  intro i hi
  rw [BitVec.getLsbD_and, BitVec.getLsbD_and]
  have hm : ∀ i < 32, 8 ≤ i → (255 : Int32).toBitVec.getLsbD i = false := by decide
  rcases Nat.lt_or_ge i 8 with z | z
  · rw [BitVec.getLsbD_signExtend, BitVec.getLsbD_signExtend, if_pos z, if_pos hi]
    simp only [z, hi, decide_true, Bool.true_and]
  · rw [hm i hi z]; simp
/-! ===== the char cast and 65535 ===== -/
theorem em_w (v : Int32) : ∃ w : Nat, w < 65536 ∧ (v.toUInt32 % 65536).toInt32 = nI w ∧ v &&& 65535 = nI w := by
  have hr := lw_u16_r v
  have h0 : (0 : Int32).toInt = 0 := by decide
  obtain ⟨w, h1, h2⟩ := nI_of (x := lw_u16 v) (by rw [Int32.lt_iff_toInt_lt]; omega)
  have h3 : (v.toUInt32 % 65536).toInt32 = nI w := h2
  rw [h2, nI_toInt h1] at hr
  exact ⟨w, by omega, h3, by rw [← lg_i2c_mask, ← lg_i2c_nf, h3]⟩
/-! ===== Int64 as a set of bits: test, set, clear ===== -/
theorem ts_nf {x : Bool} (h : ¬ x = false) : x = true := by cases x <;> first | rfl | exact absurd rfl h
theorem ts_nt {x : Bool} (h : ¬ x = true) : x = false := by cases x <;> first | rfl | exact absurd rfl h
theorem ts_bit {w : Int64} {s : UInt64} {j : Nat} (hj : j < 64) (hs : s.toNat = j) : ((w.toUInt64 >>> s).toInt64 &&& 1) = 0 ↔ w.toBitVec.getLsbD j = false := by
  have e : (w.toUInt64 >>> s).toInt64.toBitVec = w.toBitVec >>> j := by
    apply BitVec.eq_of_toNat_eq
    show (w.toUInt64 >>> s).toNat = _
    rw [UInt64.toNat_shiftRight, hs, Nat.mod_eq_of_lt hj, BitVec.toNat_ushiftRight]
    rfl
  rw [← Int64.toBitVec_inj, Int64.toBitVec_and, e]
  show w.toBitVec >>> j &&& 1#64 = 0#64 ↔ _
  constructor
  · intro h
    have t := congrArg (fun x => x.getLsbD 0) h
    simpa using t
  · intro h
    apply BitVec.eq_of_getLsbD_eq
    intro i hi
    cases i with
    | zero => simp [h]
    | succ i => simp
theorem ts_or {w m : Int64} {j : Nat} (hj : j < 64) (hm : m.toBitVec = BitVec.twoPow 64 j) : (w ||| m) = w ↔ w.toBitVec.getLsbD j = true := by
  rw [← Int64.toBitVec_inj, Int64.toBitVec_or, hm]
  constructor
  · intro h
    have t := congrArg (fun x => x.getLsbD j) h
    simp only [BitVec.getLsbD_or, BitVec.getLsbD_twoPow] at t
    simpa [hj] using t.symm
  · intro h
    apply BitVec.eq_of_getLsbD_eq
    intro i hi
    rw [BitVec.getLsbD_or, BitVec.getLsbD_twoPow]
    by_cases e : j = i
    · subst e; rw [h, Bool.true_or]
    · simp [e]
theorem ts_and {w m : Int64} {j : Nat} (hj : j < 64) (hm : m.toBitVec = BitVec.twoPow 64 j) : (w &&& (m ^^^ (-1))) = w ↔ w.toBitVec.getLsbD j = false := by
  have ha : (-1 : Int64).toBitVec = BitVec.allOnes 64 := by decide
  rw [← Int64.toBitVec_inj, Int64.toBitVec_and, Int64.toBitVec_xor, hm, ha]
  constructor
  · intro h
    have t := congrArg (fun x => x.getLsbD j) h
    simp only [BitVec.getLsbD_and, BitVec.getLsbD_xor, BitVec.getLsbD_twoPow, BitVec.getLsbD_allOnes] at t
    simpa [hj] using t.symm
  · intro h
    apply BitVec.eq_of_getLsbD_eq
    intro i hi
    rw [BitVec.getLsbD_and, BitVec.getLsbD_xor, BitVec.getLsbD_twoPow, BitVec.getLsbD_allOnes]
    by_cases e : j = i
    · subst e; rw [h, Bool.false_and]
    · simp [e, hi]
/-! ===== lN n to 2^64: shifts, and, or, masks, one bit ===== -/
theorem wb_tb (n : Nat) : (lN n).toBitVec = BitVec.ofNat 64 n := rfl
theorem wb_inj {a b : Int64} (h : a.toBitVec = b.toBitVec) : a = b := Int64.toBitVec_inj.mp h
theorem wb_tn {n : Nat} (h : n < 2 ^ 64) : (lN n).toBitVec.toNat = n := by rw [wb_tb, BitVec.toNat_ofNat, Nat.mod_eq_of_lt h]
theorem wb_of (x : Int64) : ∃ n, n < 2 ^ 64 ∧ x = lN n := ⟨x.toBitVec.toNat, x.toBitVec.isLt, wb_inj (by rw [wb_tb]; simp)⟩
theorem wb_of32 (x : Int32) : ∃ n, n < 2 ^ 32 ∧ x = nI n := ⟨x.toBitVec.toNat, x.toBitVec.isLt, Int32.toBitVec_inj.mp (by show _ = BitVec.ofNat 32 _; simp)⟩
theorem wb_c : ∀ k, k < 64 → ((nI k).toInt64 &&& 63) = lN k := by decide +kernel
theorem wb_cu : ∀ k, k < 64 → ((nI k).toInt64.toUInt64 &&& Int64.toUInt64 63) = UInt64.ofNat k := by decide +kernel
theorem wb_sm : ∀ k, k < 64 → (BitVec.ofNat 64 k).smod 64 = BitVec.ofNat 64 k := by decide +kernel
theorem wb_pw {a b : Nat} (h : a ≤ b) : 2 ^ b = 2 ^ a * 2 ^ (b - a) := by rw [← Nat.pow_add]; congr 1; omega
theorem wb_lt2 {a b : Nat} (h : a < b) : 2 ^ a < 2 ^ b := Nat.pow_lt_pow_right (by decide) h
theorem wb_mod (n : Nat) : lN n = lN (n % 2 ^ 64) := wb_inj (by rw [wb_tb, wb_tb]; apply BitVec.eq_of_toNat_eq; rw [BitVec.toNat_ofNat, BitVec.toNat_ofNat, Nat.mod_mod])
theorem wb_shr {n k : Nat} (hn : n < 2 ^ 64) (hk : k < 64) : ((lN n).toUInt64 >>> ((nI k).toInt64.toUInt64 &&& Int64.toUInt64 63)).toInt64 = lN (n / 2 ^ k) := by
  rw [wb_cu k hk]
  apply wb_inj
  apply BitVec.eq_of_toNat_eq
  show ((lN n).toUInt64 >>> UInt64.ofNat k).toNat = (BitVec.ofNat 64 _).toNat
  have h1 : (UInt64.ofNat k).toNat = k := by
    show (BitVec.ofNat 64 k).toNat = k
    rw [BitVec.toNat_ofNat, Nat.mod_eq_of_lt (by omega)]
  have h2 : (lN n).toUInt64.toNat = n := wb_tn hn
  rw [UInt64.toNat_shiftRight, h1, h2, Nat.mod_eq_of_lt hk, Nat.shiftRight_eq_div_pow, BitVec.toNat_ofNat, Nat.mod_eq_of_lt (Nat.lt_of_le_of_lt (Nat.div_le_self _ _) hn)]
theorem wb_shl (n : Nat) {k : Nat} (hk : k < 64) : lN n <<< ((nI k).toInt64 &&& 63) = lN (n * 2 ^ k) := by
  rw [wb_c k hk]
  apply wb_inj
  rw [Int64.toBitVec_shiftLeft, wb_tb, wb_tb, wb_tb, wb_sm k hk]
  apply BitVec.eq_of_toNat_eq
  rw [BitVec.shiftLeft_eq', BitVec.toNat_shiftLeft, BitVec.toNat_ofNat, BitVec.toNat_ofNat, BitVec.toNat_ofNat, Nat.mod_eq_of_lt (show k < 2 ^ 64 by omega), Nat.shiftLeft_eq, Nat.mul_mod, Nat.mod_mod, ← Nat.mul_mod]
theorem wb_and {a b : Nat} (ha : a < 2 ^ 64) (hb : b < 2 ^ 64) : lN a &&& lN b = lN (a &&& b) := by
  apply wb_inj
  rw [Int64.toBitVec_and, wb_tb, wb_tb, wb_tb]
  apply BitVec.eq_of_toNat_eq
  rw [BitVec.toNat_and, BitVec.toNat_ofNat, BitVec.toNat_ofNat, BitVec.toNat_ofNat, Nat.mod_eq_of_lt ha, Nat.mod_eq_of_lt hb, Nat.mod_eq_of_lt (Nat.and_lt_two_pow _ hb)]
theorem wb_or {a b : Nat} (ha : a < 2 ^ 64) (hb : b < 2 ^ 64) : lN a ||| lN b = lN (a ||| b) := by
  apply wb_inj
  rw [Int64.toBitVec_or, wb_tb, wb_tb, wb_tb]
  apply BitVec.eq_of_toNat_eq
  rw [BitVec.toNat_or, BitVec.toNat_ofNat, BitVec.toNat_ofNat, BitVec.toNat_ofNat, Nat.mod_eq_of_lt ha, Nat.mod_eq_of_lt hb, Nat.mod_eq_of_lt (Nat.or_lt_two_pow ha hb)]
theorem wb_mask {n k : Nat} (hn : n < 2 ^ 64) (hk : k < 64) : lN n &&& lN (2 ^ k - 1) = lN (n % 2 ^ k) := by
  rw [wb_and hn (by have := wb_lt2 hk; omega), Nat.and_two_pow_sub_one_eq_mod]
theorem wb_a1 {n : Nat} (hn : n < 2 ^ 64) : lN n &&& 1 = lN (n % 2) := wb_mask (k := 1) hn (by decide)
theorem wb_bit {n k : Nat} (hn : n < 2 ^ 64) (hk : k < 64) : ((lN n).toUInt64 >>> ((nI k).toInt64.toUInt64 &&& Int64.toUInt64 63)).toInt64 &&& 1 = lN (n / 2 ^ k % 2) := by
  rw [wb_shr hn hk, wb_a1 (Nat.lt_of_le_of_lt (Nat.div_le_self _ _) hn)]
theorem wb_xor {q k : Nat} (hk : k < 63) (h : 2 ^ k ≤ q) (h2 : q < 2 ^ (k + 1)) : lN q ^^^ lN (2 ^ k) = lN (q - 2 ^ k) := by
  obtain ⟨r, rfl⟩ : ∃ r, q = 2 ^ k + r := ⟨q - 2 ^ k, by omega⟩
  have hr : r < 2 ^ k := by rw [Nat.pow_succ] at h2; omega
  have hx : (2 ^ k + r) ^^^ 2 ^ k = r := by
    apply Nat.eq_of_testBit_eq
    intro i
    rw [Nat.testBit_xor, Nat.testBit_two_pow]
    rcases Nat.lt_trichotomy i k with h | h | h
    · rw [Nat.testBit_two_pow_add_gt h]
      simp [show ¬ k = i by omega]
    · subst h
      rw [Nat.testBit_two_pow_add_eq]
      simp
    · have a1 : 2 ^ (k + 1) ≤ 2 ^ i := Nat.pow_le_pow_right (by decide) h
      rw [Nat.testBit_lt_two_pow (show 2 ^ k + r < 2 ^ i by omega), Nat.testBit_lt_two_pow (show r < 2 ^ i by omega)]
      simp [show ¬ k = i by omega]
  have b1 := wb_lt2 (show k + 1 < 64 by omega)
  have b2 := wb_lt2 (show k < 64 by omega)
  apply wb_inj
  rw [Int64.toBitVec_xor, wb_tb, wb_tb, wb_tb]
  apply BitVec.eq_of_toNat_eq
  rw [BitVec.toNat_xor, BitVec.toNat_ofNat, BitVec.toNat_ofNat, BitVec.toNat_ofNat, Nat.mod_eq_of_lt (by omega : 2 ^ k + r < 2 ^ 64), Nat.mod_eq_of_lt b2, hx, Nat.add_sub_cancel_left, Nat.mod_eq_of_lt (by omega)]
/-! ===== lN: masks, 'or' of parts that don't overlap is a sum ===== -/
theorem u_tn {n : Nat} (h : n < 2 ^ 64) : (UInt64.ofNat n).toNat = n := Nat.mod_eq_of_lt h
theorem g_and {a b c : Nat} (ha : a < 2 ^ 64) (hb : b < 2 ^ 64) (hc : a &&& b = c) : lN a &&& lN b = lN c := by
  subst hc
  have h : UInt64.ofNat a &&& UInt64.ofNat b = UInt64.ofNat (a &&& b) := UInt64.toNat_inj.mp (by rw [UInt64.toNat_and, u_tn ha, u_tn hb, u_tn (Nat.and_lt_two_pow a hb)])
  have h2 := congrArg UInt64.toInt64 h
  exact h2
theorem g_and1 {a : Nat} (ha : a < 2 ^ 64) : lN a &&& 1 = lN (a % 2) := g_and (b := 1) ha (by decide) (Nat.and_two_pow_sub_one_eq_mod a 1)
theorem g_mask {a s p : Nat} (hp : 2 ^ s = p) (hs : s < 64) (ha : a < 2 ^ 64) : lN a &&& lN (p - 1) = lN (a % p) := by
  subst hp
  have := Nat.pow_lt_pow_right (show 1 < 2 by decide) hs
  exact g_and ha (by omega) (Nat.and_two_pow_sub_one_eq_mod a s)
theorem g_or {k p a b : Nat} (hp : 2 ^ k = p) (ha : a < p) (h : b * p + a < 2 ^ 64) : lN (b * p) ||| lN a = lN (b * p + a) := by
  subst hp
  have h1 : b * 2 ^ k ||| a = b * 2 ^ k + a := by rw [← Nat.shiftLeft_eq, Nat.shiftLeft_add_eq_or_of_lt ha]
  have h3 : UInt64.ofNat (b * 2 ^ k) ||| UInt64.ofNat a = UInt64.ofNat (b * 2 ^ k + a) := UInt64.toNat_inj.mp (by rw [UInt64.toNat_or, u_tn (by omega), u_tn (by omega), u_tn h, h1])
  have h2 := congrArg UInt64.toInt64 h3
  exact h2
theorem g_or' {k p a b : Nat} (hp : 2 ^ k = p) (ha : a < p) (h : a + b * p < 2 ^ 64) : lN a ||| lN (b * p) = lN (a + b * p) := by
  rw [Int64.or_comm, g_or hp ha (by omega), Nat.add_comm]
theorem g_ushr {a k p : Nat} {y : UInt64} (hy : y = UInt64.ofNat k) (hk : k < 64) (hp : 2 ^ k = p) (ha : a < 2 ^ 64) : ((lN a).toUInt64 >>> y).toInt64 = lN (a / p) := by
  subst hy hp
  have h : UInt64.ofNat a >>> UInt64.ofNat k = UInt64.ofNat (a / 2 ^ k) := UInt64.toNat_inj.mp (by rw [UInt64.toNat_shiftRight, u_tn ha, u_tn (by omega), u_tn (Nat.lt_of_le_of_lt (Nat.div_le_self _ _) ha), Nat.mod_eq_of_lt hk, Nat.shiftRight_eq_div_pow])
  have h2 := congrArg UInt64.toInt64 h
  exact h2
theorem g_shl {a k p : Nat} {y : Int64} (hy : y.toBitVec.smod 64 = BitVec.ofNat 64 k) (hk : k < 64) (hp : 2 ^ k = p) (ha : a < 2 ^ 64) : lN a <<< y = lN (a * p) := by
  subst hp
  apply Int64.toBitVec_inj.mp
  rw [Int64.toBitVec_shiftLeft, hy]
  apply BitVec.eq_of_toNat_eq
  have hb : (lN a).toBitVec.toNat = a := Nat.mod_eq_of_lt ha
  have hk' : (BitVec.ofNat 64 k).toNat = k := Nat.mod_eq_of_lt (by omega)
  have h : ((lN a).toBitVec <<< BitVec.ofNat 64 k).toNat = (a * 2 ^ k) % 2 ^ 64 := by simp only [BitVec.shiftLeft_eq', BitVec.toNat_shiftLeft, hb, hk', Nat.shiftLeft_eq]
  exact h
/-! ===== lN to 2^62 under >> and >>> ===== -/
theorem pf_lI {a : Nat} (h : a < 2 ^ 63) : (lN a).toInt = (a : Int) := lg_ofNat_toInt h
theorem pf_shr {a d : Nat} {D : Int64} (hD : (D.toBitVec.smod 64).toNat = d) (h : a < 2 ^ 62) : lN a >>> D = lN (a / 2 ^ d) := by
  have hd : a / 2 ^ d ≤ a := Nat.div_le_self _ _
  apply Int64.toInt_inj.mp
  have e : (lN a >>> D).toInt = (lN a).toInt >>> d := by
    rw [← hD]
    exact BitVec.toInt_sshiftRight ..
  rw [e, Int.shiftRight_eq_div_pow, pf_lI (by omega), pf_lI (by omega)]
  rfl
theorem pf_ushr {a d : Nat} {D : UInt64} (hD : D.toNat % 64 = d) (h : a < 2 ^ 62) : ((lN a).toUInt64 >>> D).toInt64 = lN (a / 2 ^ d) := by
  have hd : a / 2 ^ d ≤ a := Nat.div_le_self _ _
  have e : (lN a).toUInt64 >>> D = UInt64.ofNat (a / 2 ^ d) := UInt64.toNat_inj.mp (by
    rw [UInt64.toNat_shiftRight, hD, Nat.shiftRight_eq_div_pow, UInt64.toNat_ofNat']
    show (UInt64.ofNat a).toNat / 2 ^ d = _
    rw [UInt64.toNat_ofNat', Nat.mod_eq_of_lt (by omega), Nat.mod_eq_of_lt (by omega)])
  rw [e]
  rfl
theorem pf_andw (x : Int64) : ∃ m, m < 2 ^ 32 ∧ x &&& 4294967295 = lN m := ⟨x.toBitVec.toNat % 2 ^ 32, Nat.mod_lt _ (by decide), Int64.toBitVec_inj.mp (BitVec.eq_of_toNat_eq (by
  show (x.toBitVec &&& 4294967295#64).toNat = (BitVec.ofNat 64 (x.toBitVec.toNat % 2 ^ 32)).toNat
  rw [BitVec.toNat_and, show (4294967295#64).toNat = 2 ^ 32 - 1 from by decide, Nat.and_two_pow_sub_one_eq_mod, BitVec.toNat_ofNat]
  omega))⟩
/-! ===== Int64 as an unsigned number: uN x ===== -/
def uN (x : Int64) : Nat := x.toUInt64.toNat
theorem uN_lt (x : Int64) : uN x < 18446744073709551616 := x.toUInt64.toNat_lt
theorem uN_inj {x y : Int64} (h : uN x = uN y) : x = y := congrArg UInt64.toInt64 (UInt64.toNat_inj.mp h)
theorem uN_add (x y : Int64) : uN (x + y) = (uN x + uN y) % 18446744073709551616 := by
  show (x.toUInt64 + y.toUInt64).toNat = _
  exact UInt64.toNat_add _ _
theorem uN_mul (x y : Int64) : uN (x * y) = (uN x * uN y) % 18446744073709551616 := by
  show (x.toUInt64 * y.toUInt64).toNat = _
  exact UInt64.toNat_mul _ _
theorem uN_shl (x : Int64) : uN (x <<< ((1 : Int32).toInt64 &&& 63)) = (2 * uN x) % 18446744073709551616 := by
  have h : (((1 : Int32).toInt64 &&& 63).toBitVec.smod 64).toNat = 1 := by decide
  show (x.toBitVec <<< (((1 : Int32).toInt64 &&& 63).toBitVec.smod 64).toNat).toNat = _
  rw [h, BitVec.toNat_shiftLeft, Nat.shiftLeft_eq, Nat.mul_comm]
  rfl
theorem uN_shr (x : Int64) (s : UInt64) : uN (x.toUInt64 >>> s).toInt64 = uN x / 2 ^ (s.toNat % 64) := by
  show (x.toUInt64 >>> s).toNat = _
  rw [UInt64.toNat_shiftRight, Nat.shiftRight_eq_div_pow]
  rfl
theorem uN_s32 (x : Int64) : uN (x.toUInt64 >>> ((32 : Int32).toInt64.toUInt64 &&& Int64.toUInt64 63)).toInt64 = uN x / 4294967296 := by
  have h : ((32 : Int32).toInt64.toUInt64 &&& Int64.toUInt64 63).toNat % 64 = 32 := by decide
  rw [uN_shr, h]
theorem uN_s63 (x : Int64) : uN (x.toUInt64 >>> ((63 : Int32).toInt64.toUInt64 &&& Int64.toUInt64 63)).toInt64 = uN x / 9223372036854775808 := by
  have h : ((63 : Int32).toInt64.toUInt64 &&& Int64.toUInt64 63).toNat % 64 = 63 := by decide
  rw [uN_shr, h]
theorem uN_lo (x : Int64) : uN (x &&& 4294967295) = uN x % 4294967296 := by
  show (x.toUInt64 &&& Int64.toUInt64 4294967295).toNat = _
  rw [UInt64.toNat_and]
  exact Nat.and_two_pow_sub_one_eq_mod _ 32
theorem uN_bit (x : Int64) : (x &&& 1) = 0 ↔ uN x % 2 = 0 := by
  have h : uN (x &&& 1) = uN x % 2 := by
    show (x.toUInt64 &&& Int64.toUInt64 1).toNat = _
    rw [UInt64.toNat_and]
    exact Nat.and_two_pow_sub_one_eq_mod _ 1
  rw [← h]
  exact ⟨fun z => by rw [z]; rfl, fun z => uN_inj (z.trans rfl)⟩
theorem uN_or {x y : Int64} (hy : uN y < 2) : uN ((x <<< ((1 : Int32).toInt64 &&& 63)) ||| y) = (2 * uN x) % 18446744073709551616 + uN y := by
  have h1 : uN ((x <<< ((1 : Int32).toInt64 &&& 63)) ||| y) = uN (x <<< ((1 : Int32).toInt64 &&& 63)) ||| uN y := UInt64.toNat_or _ _
  have h2 : (2 * uN x) % 18446744073709551616 = 2 ^ 1 * (uN x % 9223372036854775808) := by omega
  rw [h1, uN_shl, h2]
  exact (Nat.two_pow_add_eq_or_of_lt (i := 1) hy _).symm
theorem nat_xor {a : Nat} (h : a < 18446744073709551616) : a ^^^ 2 ^ 63 = (a + 9223372036854775808) % 18446744073709551616 := by
  have h1 : (a ^^^ 2 ^ 63) % 2 ^ 63 = a % 2 ^ 63 := by rw [Nat.xor_mod_two_pow, Nat.mod_self, Nat.xor_zero]
  have h2 : (a ^^^ 2 ^ 63) / 2 ^ 63 = (a / 2 ^ 63) ^^^ 1 := by rw [Nat.xor_div_two_pow, Nat.div_self (Nat.two_pow_pos 63)]
  have h3 : a / 2 ^ 63 = 0 ∨ a / 2 ^ 63 = 1 := by omega
  generalize a ^^^ 2 ^ 63 = t at h1 h2
  rcases h3 with h3 | h3
  · rw [h3] at h2
    have h2 : t / 2 ^ 63 = 1 := h2
    omega
  · rw [h3] at h2
    have h2 : t / 2 ^ 63 = 0 := h2
    omega
theorem uN_xor (x : Int64) : uN (x ^^^ (-9223372036854775808)) = (uN x + 9223372036854775808) % 18446744073709551616 := by
  rw [← nat_xor (uN_lt x)]
  exact UInt64.toNat_xor _ _
theorem uN_int (x : Int64) : x.toInt = if 2 * uN x < 18446744073709551616 then (uN x : Int) else (uN x : Int) - 18446744073709551616 := BitVec.toInt_eq_toNat_cond _
theorem uN_le (x y : Int64) : (x ^^^ (-9223372036854775808)) ≤ (y ^^^ (-9223372036854775808)) ↔ uN x ≤ uN y := by
  have hx := uN_lt x
  have hy := uN_lt y
  rw [Int64.le_iff_toInt_le, uN_int, uN_int, uN_xor, uN_xor]
  omega
theorem uN_sk (x : Int64) {k : Nat} (hk : k < 64) : uN (x.toUInt64 >>> ((nI k).toInt64.toUInt64 &&& Int64.toUInt64 63)).toInt64 = uN x / 2 ^ k := by
  have h : ((nI k).toInt64.toUInt64 &&& Int64.toUInt64 63).toNat % 64 = k := by
    rw [nI_l (by omega), UInt64.toNat_and]
    have e : (lN k).toUInt64.toNat = k % 2 ^ 64 := rfl
    have e2 : (Int64.toUInt64 63).toNat = 2 ^ 6 - 1 := by decide
    rw [e, e2, Nat.and_two_pow_sub_one_eq_mod]
    omega
  rw [uN_shr, h]
/-! ===== unsigned comparison by xor with the least ===== -/
theorem lN_bv (n : Nat) : (lN n).toBitVec = BitVec.ofNat 64 n := rfl
theorem lN_nat {n : Nat} (h : n < 2 ^ 64) : (lN n).toBitVec.toNat = n := by rw [lN_bv, BitVec.toNat_ofNat]; exact Nat.mod_eq_of_lt h
theorem lN_xor (a b : Nat) : lN a ^^^ lN b = lN (a ^^^ b) := by
  apply Int64.toBitVec_inj.mp; rw [Int64.toBitVec_xor, lN_bv, lN_bv, lN_bv]; apply BitVec.eq_of_getLsbD_eq; intro i hi; simp [BitVec.getLsbD_ofNat, Nat.testBit_xor, hi]
theorem lN_ti {m : Nat} (h : m < 2 ^ 64) : (lN m).toInt = if m < 2 ^ 63 then (m : Int) else (m : Int) - 2 ^ 64 := by
  have c := BitVec.toInt_eq_toNat_cond (lN m).toBitVec
  rw [lN_nat h] at c
  show (lN m).toBitVec.toInt = _
  rw [c]
  split <;> split <;> omega
theorem xor63 {x : Nat} (h : x < 2 ^ 63) : x ^^^ 2 ^ 63 = 2 ^ 63 + x := by
  apply Nat.eq_of_testBit_eq
  intro i
  rw [Nat.testBit_xor, Nat.testBit_two_pow]
  rcases Nat.lt_trichotomy i 63 with z | z | z
  · rw [Nat.testBit_two_pow_add_gt z, decide_eq_false (by omega)]; simp
  · subst z; rw [Nat.testBit_two_pow_add_eq]; simp
  · have hp : 2 ^ 64 ≤ 2 ^ i := Nat.pow_le_pow_right (by decide) z
    rw [Nat.testBit_lt_two_pow (show x < 2 ^ i by omega), Nat.testBit_lt_two_pow (show 2 ^ 63 + x < 2 ^ i by omega), decide_eq_false (by omega)]; rfl
theorem xorS {a : Nat} (h : a < 2 ^ 64) : (lN a ^^^ (-9223372036854775808)).toInt = (a : Int) - 2 ^ 63 := by
  rw [show (-9223372036854775808 : Int64) = lN (2 ^ 63) from by decide +kernel, lN_xor]
  rcases Nat.lt_or_ge a (2 ^ 63) with z | z
  · rw [xor63 z, lN_ti (by omega), if_neg (by omega)]; omega
  · obtain ⟨x, rfl⟩ : ∃ x, a = 2 ^ 63 + x := ⟨a - 2 ^ 63, by omega⟩
    rw [← xor63 (by omega), Nat.xor_assoc, Nat.xor_self, Nat.xor_zero, lN_ti (by omega), if_pos (by omega), xor63 (by omega)]; omega
theorem ultL {a b : Nat} (ha : a < 2 ^ 64) (hb : b < 2 ^ 64) : ((lN b ^^^ (-9223372036854775808)) ≤ (lN a ^^^ (-9223372036854775808))) ↔ b ≤ a := by
  rw [Int64.le_iff_toInt_le, xorS ha, xorS hb]; omega
/-! ===== Int64 masks of n low bits ===== -/
theorem cr_bits (W U M : BitVec 64) : ((W &&& U) &&& (U &&& (M ^^^ BitVec.allOnes 64))) = 0#64 ↔ (W &&& U) &&& M = W &&& U := by
  constructor
  · intro h
    apply BitVec.eq_of_getLsbD_eq
    intro i hi
    have e := congrArg (fun x => BitVec.getLsbD x i) h
    simp only [BitVec.getLsbD_and, BitVec.getLsbD_xor, BitVec.getLsbD_allOnes, BitVec.getLsbD_zero, hi, decide_true] at e ⊢
    revert e
    cases W.getLsbD i <;> cases U.getLsbD i <;> cases M.getLsbD i <;> decide
  · intro h
    apply BitVec.eq_of_getLsbD_eq
    intro i hi
    have e := congrArg (fun x => BitVec.getLsbD x i) h
    simp only [BitVec.getLsbD_and, BitVec.getLsbD_xor, BitVec.getLsbD_allOnes, BitVec.getLsbD_zero, hi, decide_true] at e ⊢
    revert e
    cases W.getLsbD i <;> cases U.getLsbD i <;> cases M.getLsbD i <;> decide
theorem cr_mask (w U m : Int64) (n : Nat) (hm : m.toBitVec.toNat = 2 ^ n - 1) : ((w &&& U) &&& (U &&& (m ^^^ (-1)))) = 0 ↔ (w &&& U).toBitVec.toNat < 2 ^ n := by
  have e0 : (-1 : Int64).toBitVec = BitVec.allOnes 64 := by decide
  have z0 : (0 : Int64).toBitVec = 0#64 := by decide
  rw [← Int64.toBitVec_inj, z0, Int64.toBitVec_and, Int64.toBitVec_and, Int64.toBitVec_and, Int64.toBitVec_xor, e0, cr_bits]
  generalize w.toBitVec &&& U.toBitVec = T
  rw [← BitVec.toNat_inj, BitVec.toNat_and, hm, Nat.and_two_pow_sub_one_eq_mod]
  constructor
  · intro h
    have t := Nat.mod_lt T.toNat (Nat.two_pow_pos n)
    rw [h] at t
    exact t
  · exact Nat.mod_eq_of_lt
theorem cr_shr (t : Int64) (x : UInt64) (n : Nat) (hx : x.toNat % 64 = n) : (t.toUInt64 >>> x).toInt64 = 0 ↔ t.toBitVec.toNat < 2 ^ n := by
  rw [← Int64.toBitVec_inj, ← BitVec.toNat_inj]
  show (t.toUInt64 >>> x).toNat = 0 ↔ t.toUInt64.toNat < 2 ^ n
  rw [UInt64.toNat_shiftRight, hx, Nat.shiftRight_eq_div_pow]
  constructor
  · intro h
    have d : t.toUInt64.toNat / 2 ^ n < 1 := by
      rw [h]
      decide
    have e := (Nat.div_lt_iff_lt_mul (Nat.two_pow_pos n)).mp d
    rw [Nat.one_mul] at e
    exact e
  · exact Nat.div_eq_of_lt
theorem cr_amt (s : Int64) : ∃ n, n < 64 ∧ s &&& 63 = lN n ∧ (s.toUInt64 &&& Int64.toUInt64 63).toNat % 64 = n := by
  have e : (s.toUInt64 &&& Int64.toUInt64 63).toNat = s.toUInt64.toNat % 2 ^ 6 := by
    rw [UInt64.toNat_and, show (Int64.toUInt64 63).toNat = 2 ^ 6 - 1 from by decide, Nat.and_two_pow_sub_one_eq_mod]
  refine ⟨s.toUInt64.toNat % 2 ^ 6, by omega, ?_, by omega⟩
  rw [← Int64.toBitVec_inj, ← BitVec.toNat_inj]
  show (s.toUInt64 &&& Int64.toUInt64 63).toNat = (BitVec.ofNat 64 (s.toUInt64.toNat % 2 ^ 6)).toNat
  rw [e, BitVec.toNat_ofNat]
  omega
end
section
abbrev qc_E : Type := Int32 × Int32 × Int32
abbrev qc_O : Type := Option qc_E
abbrev qc_G : Type := Nat → Nat → qc_O
def qc_rd (a b c : Int32) : qc_O := if a = 0 then none else some (a, b, c)
def qc_nwE (x y : qc_E) : Bool := decide (y.2.1 < x.2.1 ∨ (y.2.1 = x.2.1 ∧ (y.1 < x.1 ∨ (y.1 = x.1 ∧ y.2.2 < x.2.2))))
def qc_nw : qc_O → qc_O → Bool
  | none, _ => false
  | some _, none => true
  | some x, some y => qc_nwE x y
def qc_mx (a b : qc_O) : qc_O := if qc_nw b a = true then b else a
def qc_b (b : Bool) : Int32 := if b = true then 1 else 0
theorem qc_rd0 {a b c : Int32} (h : a = 0) : qc_rd a b c = none := if_pos h
theorem qc_rd1 {a b c : Int32} (h : ¬ a = 0) : qc_rd a b c = some (a, b, c) := if_neg h
theorem qc_rd_none {a b c : Int32} (h : qc_rd a b c = none) : a = 0 := by
  by_cases z : a = 0
  · exact z
  · rw [qc_rd1 z] at h; cases h
theorem qc_rd_some {a b c : Int32} {e : qc_E} (h : qc_rd a b c = some e) : ¬ a = 0 ∧ a = e.1 ∧ b = e.2.1 ∧ c = e.2.2 := by
  by_cases z : a = 0
  · rw [qc_rd0 z] at h; cases h
  · rw [qc_rd1 z] at h; cases h; exact ⟨z, rfl, rfl, rfl⟩
theorem qc_nwE_iff {x y : qc_E} : qc_nwE x y = true ↔ (y.2.1.toInt < x.2.1.toInt ∨ (y.2.1.toInt = x.2.1.toInt ∧ (y.1.toInt < x.1.toInt ∨ (y.1.toInt = x.1.toInt ∧ y.2.2.toInt < x.2.2.toInt)))) := by
  unfold qc_nwE
  rw [decide_eq_true_iff]
  simp only [Int32.lt_iff_toInt_lt, ← Int32.toInt_inj]
theorem qc_nwE_f {x y : qc_E} : qc_nwE x y = false ↔ ¬ (y.2.1.toInt < x.2.1.toInt ∨ (y.2.1.toInt = x.2.1.toInt ∧ (y.1.toInt < x.1.toInt ∨ (y.1.toInt = x.1.toInt ∧ y.2.2.toInt < x.2.2.toInt)))) := by
  rw [← qc_nwE_iff, Bool.not_eq_true]
theorem qc_nw_irr (a : qc_O) : qc_nw a a = false := by
  cases a with
  | none => rfl
  | some x =>
    show qc_nwE x x = false
    rw [qc_nwE_f]
    omega
theorem qc_nw_asym {a b : qc_O} (h : qc_nw a b = true) : qc_nw b a = false := by
  cases a with
  | none => cases h
  | some x =>
    cases b with
    | none => rfl
    | some y =>
      have h' : qc_nwE x y = true := h
      show qc_nwE y x = false
      rw [qc_nwE_iff] at h'
      rw [qc_nwE_f]
      omega
theorem qc_nw_trans {a b c : qc_O} (h1 : qc_nw a b = true) (h2 : qc_nw b c = true) : qc_nw a c = true := by
  cases a with
  | none => cases h1
  | some x =>
    cases b with
    | none => cases h2
    | some y =>
      cases c with
      | none => rfl
      | some z =>
        have h1' : qc_nwE x y = true := h1
        have h2' : qc_nwE y z = true := h2
        show qc_nwE x z = true
        rw [qc_nwE_iff] at h1' h2' ⊢
        omega
theorem qc_nw_tot {a b : qc_O} (h1 : qc_nw a b = false) (h2 : qc_nw b a = false) : a = b := by
  cases a with
  | none =>
    cases b with
    | none => rfl
    | some y => cases h2
  | some x =>
    cases b with
    | none => cases h1
    | some y =>
      have h1' : qc_nwE x y = false := h1
      have h2' : qc_nwE y x = false := h2
      rw [qc_nwE_f] at h1' h2'
      obtain ⟨a1, a2, a3⟩ := x
      obtain ⟨b1, b2, b3⟩ := y
      dsimp only at h1' h2'
      have e1 : a1 = b1 := Int32.toInt_inj.mp (by omega)
      have e2 : a2 = b2 := Int32.toInt_inj.mp (by omega)
      have e3 : a3 = b3 := Int32.toInt_inj.mp (by omega)
      rw [e1, e2, e3]
theorem qc_mx_t {a b : qc_O} (h : qc_nw b a = true) : qc_mx a b = b := if_pos h
theorem qc_mx_f {a b : qc_O} (h : qc_nw b a = false) : qc_mx a b = a := if_neg (by rw [h]; exact Bool.false_ne_true)
theorem qc_mx_self (a : qc_O) : qc_mx a a = a := qc_mx_f (qc_nw_irr a)
theorem qc_mx_comm (a b : qc_O) : qc_mx a b = qc_mx b a := by
  cases h1 : qc_nw b a with
  | true => rw [qc_mx_t h1, qc_mx_f (qc_nw_asym h1)]
  | false =>
    cases h2 : qc_nw a b with
    | true => rw [qc_mx_f h1, qc_mx_t h2]
    | false => rw [qc_mx_f h1, qc_mx_f h2]; exact qc_nw_tot h2 h1
theorem qc_mx_assoc (a b c : qc_O) : qc_mx (qc_mx a b) c = qc_mx a (qc_mx b c) := by
  cases h1 : qc_nw b a with
  | true =>
    cases h2 : qc_nw c b with
    | true => rw [qc_mx_t h1, qc_mx_t h2, qc_mx_t (qc_nw_trans h2 h1)]
    | false => rw [qc_mx_t h1, qc_mx_f h2, qc_mx_t h1]
  | false =>
    cases h2 : qc_nw c b with
    | true => rw [qc_mx_f h1, qc_mx_t h2]
    | false =>
      rw [qc_mx_f h1, qc_mx_f h2, qc_mx_f h1]
      apply qc_mx_f
      cases h3 : qc_nw c a with
      | false => rfl
      | true =>
        cases h4 : qc_nw a b with
        | true => rw [qc_nw_trans h3 h4] at h2; exact h2
        | false => rw [qc_nw_tot h4 h1] at h3; rw [h3] at h2; exact h2
theorem qc_mx_nl (a : qc_O) : qc_mx none a = a := by cases a <;> rfl
theorem qc_mx_nr (a : qc_O) : qc_mx a none = a := qc_mx_f rfl
theorem qc_mx_abs (a b : qc_O) : qc_mx a (qc_mx a b) = qc_mx a b := by rw [← qc_mx_assoc, qc_mx_self]
theorem qc_mx_left (a b c : qc_O) : qc_mx a (qc_mx b c) = qc_mx b (qc_mx a c) := by rw [← qc_mx_assoc, qc_mx_comm a b, qc_mx_assoc]
theorem qc_mx_or (a b : qc_O) : qc_mx a b = a ∨ qc_mx a b = b := by
  cases h : qc_nw b a with
  | true => exact Or.inr (qc_mx_t h)
  | false => exact Or.inl (qc_mx_f h)
theorem qc_mx_none {a b : qc_O} (h : qc_mx a b = none) : a = none ∧ b = none := by
  cases a with
  | none => rw [qc_mx_nl] at h; exact ⟨rfl, h⟩
  | some x =>
    cases b with
    | none => cases h
    | some y => rcases qc_mx_or (some x) (some y) with e | e <;> rw [e] at h <;> cases h
def qc_ok (k : Nat) (o : qc_O) : Prop := ∀ e : qc_E, o = some e → (e.1 = 1 ∨ e.1 = 2) ∧ (64 ≤ k → e.1 = 1) ∧ ((e.1 = 2 ∨ 64 ≤ k) → e.2.2 = 0)
theorem qc_ok_none {k : Nat} : qc_ok k none := fun _ h => nomatch h
theorem qc_ok_mx {k : Nat} {a b : qc_O} (ha : qc_ok k a) (hb : qc_ok k b) : qc_ok k (qc_mx a b) := by
  rcases qc_mx_or a b with e | e <;> rw [e] <;> assumption
def qc_set (G : qc_G) (n k : Nat) (o : qc_O) : qc_G := fun n' k' => if n' = n ∧ k' = k then o else G n' k'
theorem qc_set_s {G : qc_G} {n k : Nat} {o : qc_O} : qc_set G n k o n k = o := if_pos ⟨rfl, rfl⟩
theorem qc_set_n {G : qc_G} {n k : Nat} {o : qc_O} {n' k' : Nat} (h : ¬ (n' = n ∧ k' = k)) : qc_set G n k o n' k' = G n' k' := if_neg h
theorem qc_set_id (G : qc_G) (n k : Nat) : qc_set G n k (G n k) = G := by
  funext n' k'
  by_cases h : n' = n ∧ k' = k
  · rw [h.1, h.2, qc_set_s]
  · rw [qc_set_n h]
def qc_pt (k : Nat) : Nat := if k < 64 then k / 8 else k - 64
theorem qc_pt_lo {k : Nat} (h : k < 64) : qc_pt k = k / 8 := if_pos h
theorem qc_pt_hi {k : Nat} (h : 64 ≤ k) : qc_pt k = k - 64 := if_neg (by omega)
theorem qc_pt_lt {k : Nat} (h : k < 72) : qc_pt k < 8 := by
  rcases Nat.lt_or_ge k 64 with z | z
  · rw [qc_pt_lo z]; omega
  · rw [qc_pt_hi z]; omega
def qc_WF (G : qc_G) : Prop := ∀ n, n < 8 → ∀ k, k < 72 → qc_ok k (G n k)
theorem qc_WF_set {G : qc_G} {n k : Nat} {o : qc_O} (h : qc_WF G) (ho : qc_ok k o) : qc_WF (qc_set G n k o) := by
  intro n' hn' k' hk'
  by_cases z : n' = n ∧ k' = k
  · rw [z.1, z.2, qc_set_s]; exact ho
  · rw [qc_set_n z]; exact h n' hn' k' hk'
def qc_en (g : Nat → qc_O) : Nat → Nat
  | 0 => 0
  | K + 1 => qc_en g K + (if g K = none then 0 else 1)
theorem qc_en_le (g : Nat → qc_O) : ∀ K, qc_en g K ≤ K
  | 0 => Nat.le_refl 0
  | K + 1 => by
    have := qc_en_le g K
    show qc_en g K + (if g K = none then 0 else 1) ≤ K + 1
    split <;> omega
def qc_ask (up : Nat → Int32) (p : Nat) : Nat → Nat → Nat → List Nat
  | 0, _, _ => []
  | _ + 1, _, 0 => []
  | d + 1, i, b + 1 => if up ((p + i) % 4) = 0 then qc_ask up p d (i + 1) (b + 1) else ((p + i) % 4) :: qc_ask up p d (i + 1) b
theorem qc_ask_0 (up : Nat → Int32) (p i b : Nat) : qc_ask up p 0 i b = [] := rfl
theorem qc_ask_b (up : Nat → Int32) (p d i : Nat) : qc_ask up p d i 0 = [] := by cases d <;> rfl
theorem qc_ask_dn {up : Nat → Int32} {p d i b : Nat} (h : up ((p + i) % 4) = 0) : qc_ask up p (d + 1) i b = qc_ask up p d (i + 1) b := by
  cases b with
  | zero => rw [qc_ask_b, qc_ask_b]
  | succ b => exact if_pos h
theorem qc_ask_up {up : Nat → Int32} {p d i b : Nat} (h : ¬ up ((p + i) % 4) = 0) : qc_ask up p (d + 1) i (b + 1) = ((p + i) % 4) :: qc_ask up p d (i + 1) b := if_neg h
theorem qc_ask_lt {up : Nat → Int32} {p : Nat} : ∀ (d i b : Nat) (n : Nat), n ∈ qc_ask up p d i b → n < 4
  | 0, _, _, n, h => by cases h
  | d + 1, i, 0, n, h => by cases h
  | d + 1, i, b + 1, n, h => by
    by_cases z : up ((p + i) % 4) = 0
    · rw [qc_ask_dn z] at h; exact qc_ask_lt d (i + 1) (b + 1) n h
    · rw [qc_ask_up z] at h
      rcases List.mem_cons.mp h with e | e
      · rw [e]; exact Nat.mod_lt _ (by decide)
      · exact qc_ask_lt d (i + 1) b n e
theorem qc_ask_len {up : Nat → Int32} {p : Nat} : ∀ (d i b : Nat), (qc_ask up p d i b).length ≤ b ∧ qc_ask up p d i (qc_ask up p d i b).length = qc_ask up p d i b
  | 0, _, b => ⟨Nat.zero_le b, rfl⟩
  | d + 1, i, 0 => ⟨Nat.le_refl 0, rfl⟩
  | d + 1, i, b + 1 => by
    by_cases z : up ((p + i) % 4) = 0
    · rw [qc_ask_dn z, qc_ask_dn z]
      exact qc_ask_len d (i + 1) (b + 1)
    · rw [qc_ask_up z, List.length_cons, qc_ask_up z]
      have ih := qc_ask_len (up := up) (p := p) d (i + 1) b
      exact ⟨by omega, by rw [ih.2]⟩
def qc_fm (G : qc_G) (k : Nat) : List Nat → qc_O → qc_O
  | [], m => m
  | n :: A, m => qc_fm G k A (qc_mx m (G n k))
theorem qc_fm_ge (G : qc_G) (k : Nat) : ∀ (A : List Nat) (m : qc_O), qc_mx m (qc_fm G k A m) = qc_fm G k A m ∧ ∀ n, n ∈ A → qc_mx (G n k) (qc_fm G k A m) = qc_fm G k A m
  | [], m => ⟨qc_mx_self m, fun n h => nomatch h⟩
  | n :: A, m => by
    have ih := qc_fm_ge G k A (qc_mx m (G n k))
    show qc_mx m (qc_fm G k A (qc_mx m (G n k))) = qc_fm G k A (qc_mx m (G n k)) ∧ ∀ j, j ∈ n :: A → qc_mx (G j k) (qc_fm G k A (qc_mx m (G n k))) = qc_fm G k A (qc_mx m (G n k))
    generalize qc_fm G k A (qc_mx m (G n k)) = M at ih
    refine ⟨?_, fun j hj => ?_⟩
    · rw [← ih.1, ← qc_mx_assoc, qc_mx_abs]
    · rcases List.mem_cons.mp hj with e | e
      · rw [e, ← ih.1, ← qc_mx_assoc, qc_mx_comm m, qc_mx_abs]
      · exact ih.2 j e
theorem qc_fm_ok {G : qc_G} {k : Nat} : ∀ {A : List Nat} {m : qc_O}, (∀ n, n ∈ A → qc_ok k (G n k)) → qc_ok k m → qc_ok k (qc_fm G k A m)
  | [], m, _, hm => hm
  | n :: A, m, h, hm => qc_fm_ok (A := A) (fun j hj => h j (List.mem_cons_of_mem n hj)) (qc_ok_mx hm (h n List.mem_cons_self))
theorem qc_fm_cg {G G' : qc_G} {k : Nat} : ∀ {A : List Nat} {m : qc_O}, (∀ n, n ∈ A → G n k = G' n k) → qc_fm G k A m = qc_fm G' k A m
  | [], m, _ => rfl
  | n :: A, m, h => by
    show qc_fm G k A (qc_mx m (G n k)) = qc_fm G' k A (qc_mx m (G' n k))
    rw [h n List.mem_cons_self]
    exact qc_fm_cg (fun j hj => h j (List.mem_cons_of_mem n hj))
theorem qc_fm_const {G : qc_G} {k : Nat} {M : qc_O} : ∀ {A : List Nat} {m : qc_O}, (∀ n, n ∈ A → G n k = M) → qc_mx m M = M → A ≠ [] → qc_fm G k A m = M
  | [], m, _, _, h => absurd rfl h
  | [n], m, h, hm, _ => by
    show qc_mx m (G n k) = M
    rw [h n List.mem_cons_self, hm]
  | n :: n2 :: A, m, h, hm, _ => by
    show qc_fm G k (n2 :: A) (qc_mx m (G n k)) = M
    rw [h n List.mem_cons_self, hm]
    exact qc_fm_const (fun j hj => h j (List.mem_cons_of_mem n hj)) (qc_mx_self M) (by simp)
def qc_st (G : qc_G) (A : List Nat) (S : Nat → Bool) : qc_G := fun n k => if n ∈ A ∧ S k = true then qc_fm G k A none else G n k
theorem qc_st_t {G : qc_G} {A : List Nat} {S : Nat → Bool} {n k : Nat} (h : n ∈ A) (hk : S k = true) : qc_st G A S n k = qc_fm G k A none := if_pos ⟨h, hk⟩
theorem qc_st_f {G : qc_G} {A : List Nat} {S : Nat → Bool} {n k : Nat} (h : ¬ (n ∈ A ∧ S k = true)) : qc_st G A S n k = G n k := if_neg h
theorem qc_st_fm {G : qc_G} {A : List Nat} {S : Nat → Bool} {k : Nat} : qc_fm (qc_st G A S) k A none = qc_fm G k A none := by
  by_cases hk : S k = true
  · by_cases hA : A = []
    · rw [hA]; rfl
    · exact qc_fm_const (fun n hn => qc_st_t hn hk) (qc_mx_nl _) hA
  · exact qc_fm_cg (fun n hn => qc_st_f (fun z => hk z.2))
theorem qc_st_st {G : qc_G} {A : List Nat} {S T : Nat → Bool} : qc_st (qc_st G A S) A T = qc_st G A (fun k => S k || T k) := by
  funext n k
  by_cases h : n ∈ A ∧ T k = true
  · rw [qc_st_t h.1 h.2, qc_st_fm, qc_st_t h.1 (by show (S k || T k) = true; rw [h.2, Bool.or_true])]
  · rw [qc_st_f h]
    by_cases h2 : n ∈ A ∧ S k = true
    · rw [qc_st_t h2.1 h2.2, qc_st_t h2.1 (by show (S k || T k) = true; rw [h2.2, Bool.true_or])]
    · rw [qc_st_f h2, qc_st_f]
      intro z
      have z2 : (S k || T k) = true := z.2
      rcases Bool.or_eq_true _ _ |>.mp z2 with e | e
      · exact h2 ⟨z.1, e⟩
      · exact h ⟨z.1, e⟩
theorem qc_st_cg {G : qc_G} {A : List Nat} {S T : Nat → Bool} (h : ∀ k, S k = T k) : qc_st G A S = qc_st G A T := by
  have : S = T := funext h
  rw [this]
theorem qc_WF_st {G : qc_G} {A : List Nat} {S : Nat → Bool} (h : qc_WF G) (hA : ∀ n, n ∈ A → n < 4) : qc_WF (qc_st G A S) := by
  intro n hn k hk
  by_cases z : n ∈ A ∧ S k = true
  · rw [qc_st_t z.1 z.2]
    exact qc_fm_ok (fun j hj => h j (by have := hA j hj; omega) k hk) qc_ok_none
  · rw [qc_st_f z]; exact h n hn k hk
def qc_one (k : Nat) : Nat → Bool := fun k' => decide (k' = k)
def qc_s2 (k : Nat) (m : qc_O) : List Nat → qc_G → qc_G
  | [], G => G
  | n :: A, G => qc_s2 k m A (qc_set G n k (qc_mx (G n k) m))
theorem qc_s2_none (k : Nat) : ∀ (A : List Nat) (G : qc_G), qc_s2 k none A G = G
  | [], _ => rfl
  | n :: A, G => by
    show qc_s2 k none A (qc_set G n k (qc_mx (G n k) none)) = G
    rw [qc_mx_nr, qc_set_id]
    exact qc_s2_none k A G
theorem qc_s2_at {k : Nat} {m : qc_O} : ∀ (A : List Nat) (G : qc_G), (∀ n, n ∈ A → qc_mx (G n k) m = m) → ∀ n' k', qc_s2 k m A G n' k' = if n' ∈ A ∧ k' = k then m else G n' k'
  | [], G, _, n', k' => by
    rw [if_neg (by intro z; cases z.1)]
    rfl
  | n :: A, G, h, n', k' => by
    have hn := h n List.mem_cons_self
    show qc_s2 k m A (qc_set G n k (qc_mx (G n k) m)) n' k' = _
    rw [hn]
    have h2 : ∀ j, j ∈ A → qc_mx (qc_set G n k m j k) m = m := by
      intro j hj
      by_cases z : j = n
      · rw [z, qc_set_s, qc_mx_self]
      · rw [qc_set_n (fun y => z y.1)]; exact h j (List.mem_cons_of_mem n hj)
    rw [qc_s2_at A (qc_set G n k m) h2 n' k']
    by_cases z : n' ∈ A ∧ k' = k
    · rw [if_pos z, if_pos ⟨List.mem_cons_of_mem n z.1, z.2⟩]
    · rw [if_neg z]
      by_cases y : n' = n ∧ k' = k
      · rw [y.1, y.2, qc_set_s, if_pos ⟨List.mem_cons_self, rfl⟩]
      · rw [qc_set_n y, if_neg]
        intro w
        rcases List.mem_cons.mp w.1 with e | e
        · exact y ⟨e, w.2⟩
        · exact z ⟨e, w.2⟩
theorem qc_s2_st (G : qc_G) (k : Nat) (A : List Nat) : qc_s2 k (qc_fm G k A none) A G = qc_st G A (qc_one k) := by
  funext n' k'
  rw [qc_s2_at A G (fun n hn => (qc_fm_ge G k A none).2 n hn)]
  by_cases z : n' ∈ A ∧ k' = k
  · rw [if_pos z, z.2, qc_st_t z.1 (decide_eq_true rfl)]
  · rw [if_neg z, qc_st_f (fun y => z ⟨y.1, of_decide_eq_true y.2⟩)]
def qc_rn (k : Nat) : List Nat → qc_G → qc_O → qc_G
  | [], G, _ => G
  | n :: A, G, b => qc_rn k A (qc_set G n k (qc_mx (G n k) b)) (qc_mx (G n k) b)
def qc_rb (k : Nat) : List Nat → qc_G → qc_O → qc_O
  | [], _, b => b
  | n :: A, G, b => qc_rb k A (qc_set G n k (qc_mx (G n k) b)) (qc_mx (G n k) b)
theorem qc_rn_1 {k : Nat} {G0 : qc_G} : ∀ (A : List Nat) (G : qc_G) (b : qc_O), (∀ n, qc_mx (G n k) b = qc_mx (G0 n k) b) →
    qc_rb k A G b = qc_fm G0 k A b ∧ (∀ n' k', ¬ (n' ∈ A ∧ k' = k) → qc_rn k A G b n' k' = G n' k') ∧ (∀ n, qc_mx (qc_rn k A G b n k) (qc_rb k A G b) = qc_mx (G0 n k) (qc_rb k A G b))
  | [], G, b, h => ⟨rfl, fun _ _ _ => rfl, h⟩
  | n :: A, G, b, h => by
    have hn := h n
    have h2 : ∀ j, qc_mx (qc_set G n k (qc_mx (G n k) b) j k) (qc_mx (G n k) b) = qc_mx (G0 j k) (qc_mx (G n k) b) := by
      intro j
      by_cases z : j = n
      · rw [z, qc_set_s, qc_mx_self, hn, qc_mx_abs]
      · rw [qc_set_n (fun y => z y.1), qc_mx_left, h j, qc_mx_left]
    have ih := qc_rn_1 A (qc_set G n k (qc_mx (G n k) b)) (qc_mx (G n k) b) h2
    refine ⟨?_, ?_, ih.2.2⟩
    · refine ih.1.trans ?_
      show qc_fm G0 k A (qc_mx (G n k) b) = qc_fm G0 k A (qc_mx b (G0 n k))
      rw [hn, qc_mx_comm]
    · intro n' k' z
      refine (ih.2.1 n' k' (fun y => z ⟨List.mem_cons_of_mem n y.1, y.2⟩)).trans ?_
      exact qc_set_n (fun y => z ⟨y.1 ▸ List.mem_cons_self, y.2⟩)
theorem qc_rn_2 {k : Nat} {M : qc_O} : ∀ (A : List Nat) (G : qc_G), (∀ n, n ∈ A → qc_mx (G n k) M = M) → qc_rb k A G M = M ∧ qc_rn k A G M = qc_s2 k M A G
  | [], G, _ => ⟨rfl, rfl⟩
  | n :: A, G, h => by
    have hn := h n List.mem_cons_self
    have h2 : ∀ j, j ∈ A → qc_mx (qc_set G n k M j k) M = M := by
      intro j hj
      by_cases z : j = n
      · rw [z, qc_set_s, qc_mx_self]
      · rw [qc_set_n (fun y => z y.1)]; exact h j (List.mem_cons_of_mem n hj)
    have ih := qc_rn_2 A (qc_set G n k M) h2
    show qc_rb k A (qc_set G n k (qc_mx (G n k) M)) (qc_mx (G n k) M) = M ∧ qc_rn k A (qc_set G n k (qc_mx (G n k) M)) (qc_mx (G n k) M) = qc_s2 k M A (qc_set G n k (qc_mx (G n k) M))
    rw [hn]
    exact ih
theorem qc_rn_both (G : qc_G) (k : Nat) (A : List Nat) : qc_rb k A (qc_rn k A G none) (qc_rb k A G none) = qc_fm G k A none ∧ qc_rn k A (qc_rn k A G none) (qc_rb k A G none) = qc_st G A (qc_one k) := by
  obtain ⟨hb, h12, h13⟩ := qc_rn_1 (k := k) (G0 := G) A G none (fun _ => rfl)
  have hM := qc_fm_ge G k A none
  rw [hb] at h13 ⊢
  have h2 : ∀ n, n ∈ A → qc_mx (qc_rn k A G none n k) (qc_fm G k A none) = qc_fm G k A none := fun n hn => (h13 n).trans (hM.2 n hn)
  have h3 := qc_rn_2 A (qc_rn k A G none) h2
  refine ⟨h3.1, h3.2.trans ?_⟩
  funext n' k'
  rw [qc_s2_at A _ h2]
  by_cases z : n' ∈ A ∧ k' = k
  · rw [if_pos z, z.2, qc_st_t z.1 (decide_eq_true rfl)]
  · rw [if_neg z, qc_st_f (fun y => z ⟨y.1, of_decide_eq_true y.2⟩)]
    exact h12 n' k' z
end
section
theorem qc_72 (n k : Nat) : 72 * nI n + nI k = nI (72 * n + k) := by
  rw [show (72 : Int32) = nI 72 from rfl, pk_mul, nI_add]
theorem qc_72r (n k : Nat) : nI n * 72 + nI k = nI (72 * n + k) := by
  rw [show (72 : Int32) = nI 72 from rfl, pk_mul, nI_add, Nat.mul_comm]
theorem qc_72z (n : Nat) : 72 * nI n = nI (72 * n) := by
  rw [show (72 : Int32) = nI 72 from rfl, pk_mul]
theorem qc_144 (n : Nat) : 144 * nI n = nI (144 * n) := by
  rw [show (144 : Int32) = nI 144 from rfl, pk_mul]
theorem qc_4 (a b : Nat) : 4 * nI a + nI b = nI (4 * a + b) := by
  rw [show (4 : Int32) = nI 4 from rfl, pk_mul, nI_add]
theorem qc_4m (a b : Nat) : 4 * nI a + nI (b + 1) - 1 = nI (4 * a + b) := by
  rw [qc_4, ← Nat.add_assoc, nI_pred]
theorem qc_nb {j : Nat} (h : j < 128) : (nI j).toInt8.toInt32 = nI j :=
  lg_i2b_small (by rw [nI_toInt (by omega)]; omega) (by rw [nI_toInt (by omega)]; omega)
theorem qc_vb {j : Nat} (h : j < 128) : vp_nar .byte (nI j) = nI j := by rw [vp_nar_byte, qc_nb h]
theorem qc_vbb {j : Nat} (h : j < 128) : vp_nar .byte (nI j).toInt8.toInt32 = nI j := by rw [qc_nb h, qc_vb h]
theorem qc_ns {j : Nat} (h : j < 32768) : (nI j).toInt16.toInt32 = nI j :=
  lg_i2s_small (by rw [nI_toInt (by omega)]; omega) (by rw [nI_toInt (by omega)]; omega)
theorem qc_vss {j : Nat} (h : j < 32768) : vp_nar .short (nI j).toInt16.toInt32 = nI j := by rw [qc_ns h, vp_nar_short, qc_ns h]
theorem qc_kb {x : Int32} (h : x = 0 ∨ x = 1 ∨ x = 2) : vp_nar .byte x.toInt8.toInt32 = x ∧ vp_nar .byte x = x := by
  rcases h with h | h | h
  · rw [h]; exact ⟨qc_vbb (j := 0) (by decide), qc_vb (j := 0) (by decide)⟩
  · rw [h]; exact ⟨qc_vbb (j := 1) (by decide), qc_vb (j := 1) (by decide)⟩
  · rw [h]; exact ⟨qc_vbb (j := 2) (by decide), qc_vb (j := 2) (by decide)⟩
theorem qc_bo0 : vp_nar .boolean 0 = 0 := rfl
theorem qc_bo1 : vp_nar .boolean 1 = 1 := rfl
theorem qc_by0 : vp_nar .byte 0 = 0 := rfl
theorem qc_cl {n : Nat} (h : n < 10000) : (nI n).toNatClampNeg = n := nI_clamp (by omega)
theorem qc_in {n N : Nat} (h : n < N) (hN : N < 10000) : vp_in (nI n) N := vp_in_nI h (by omega)
theorem qc_mod4 (a b : Nat) : (nI a + nI b) &&& 3 = nI ((a + b) % 4) := by
  rw [nI_add, pk_and _ 2 (by decide)]
  show nI ((a + b) % 2 ^ 32 % 4) = _
  congr 1
  omega
theorem qc_rem4 {a b : Nat} (h : a + b < 10000) : (nI a + nI b) - (nI a + nI b) / 4 * 4 = nI ((a + b) % 4) := by
  rw [nI_add]
  exact pk_rem (d := 4) (by omega) (by decide) (by decide)
theorem qc_rem12 {a b : Nat} (h : a + b < 10000) : (nI a + nI b) - (nI a + nI b) / 12 * 12 = nI ((a + b) % 12) := by
  rw [nI_add]
  exact pk_rem (d := 12) (by omega) (by decide) (by decide)
theorem qc_rem12' {a : Nat} (h : a < 9000) : (nI a + 1) - (nI a + 1) / 12 * 12 = nI ((a + 1) % 12) := qc_rem12 (a := a) (b := 1) (by omega)
theorem qc_shr3 {a : Nat} (h : a < 10000) : ((nI a).toUInt32 >>> ((3 : Int32).toUInt32 &&& Int32.toUInt32 31)).toInt32 = nI (a / 8) :=
  pk_ushrN (by omega) 3 3 (by decide)
theorem qc_shr1 {a : Nat} (h : a < 10000) : ((nI a).toUInt32 >>> ((1 : Int32).toUInt32 &&& Int32.toUInt32 31)).toInt32 = nI (a / 2) :=
  pk_ushrN (by omega) 1 1 (by decide)
theorem qc_div8 {a : Nat} (h : a < 10000) : nI a / 8 = nI (a / 8) := pk_div (d := 8) (by omega) (by decide) (by decide)
theorem qc_and7 {a : Nat} (h : a < 10000) : nI a &&& 7 = nI (a % 8) := pk_andN (by omega) 3 (by decide)
theorem qc_lev (L : Int32) : (∃ l : Nat, 1 ≤ l ∧ l ≤ 3 ∧ L = nI l) ∨ ((L - 1 < 0 ∨ 3 ≤ L - 1) ∧ (L < 1 ∨ ¬ L ≤ 3)) := by
  have e1 : (1 : Int32).toInt = 1 := by decide
  have e3 : (3 : Int32).toInt = 3 := by decide
  have e0 : (0 : Int32).toInt = 0 := by decide
  have hl := L.le_toInt
  have hu := L.toInt_lt
  by_cases h : 1 ≤ L.toInt ∧ L.toInt ≤ 3
  · refine Or.inl ⟨L.toInt.toNat, by omega, by omega, ?_⟩
    apply Int32.toInt_inj.mp
    rw [nI_toInt (by omega)]
    omega
  · refine Or.inr ⟨?_, ?_⟩
    · rw [Int32.lt_iff_toInt_lt, Int32.le_iff_toInt_le, Int32.toInt_sub, e1, e0, e3]
      by_cases hm : L.toInt = -2147483648
      · rw [hm]; right; decide
      · rw [Int.bmod_eq_of_le (by omega) (by omega)]; omega
    · rw [Int32.lt_iff_toInt_lt, Int32.le_iff_toInt_le, e1, e3]; omega
theorem qc_tr : ∀ j, j < 72 → ((1 : Int64) <<< ((nI j).toInt64 &&& 63)).toBitVec = BitVec.twoPow 64 (j % 64) := by decide +kernel
theorem qc_sh : ∀ j, j < 72 → ((nI j).toInt64.toUInt64 &&& Int64.toUInt64 63).toNat = j % 64 := by decide +kernel
theorem qc_fl {w : Int64} {k : Nat} (hk : k < 72) : ((w.toUInt64 >>> ((nI k).toInt64.toUInt64 &&& Int64.toUInt64 63)).toInt64 &&& 1) = 0 ↔ w.toBitVec.getLsbD (k % 64) = false :=
  ts_bit (Nat.mod_lt _ (by decide)) (qc_sh k hk)
theorem qc_btn {w : Nat} (h : w < 2 ^ 32) (i : Nat) : bt (nI w) i = w.testBit i := by
  unfold bt
  show (nI w).toBitVec.getLsbD i = _
  rw [show (nI w).toBitVec = BitVec.ofNat 32 w from rfl, BitVec.getLsbD_ofNat]
  rcases Nat.lt_or_ge i 32 with z | z
  · rw [decide_eq_true z, Bool.true_and]
  · rw [decide_eq_false (by omega), Bool.false_and]
    refine (Nat.testBit_lt_two_pow ?_).symm
    exact Nat.lt_of_lt_of_le h (Nat.pow_le_pow_right (by decide) z)
theorem qc_255 (i : Nat) : Nat.testBit 255 i = decide (i < 8) := by
  rw [← qc_btn (by decide)]
  exact b_255 i
theorem qc_clr {w P : Nat} (hw : w < 256) (hP : P < 256) : nI w &&& (nI P ^^^ (-1)) = nI (w &&& (255 ^^^ P)) := by
  have h8 : w &&& (255 ^^^ P) < 2 ^ 32 := Nat.lt_of_le_of_lt Nat.and_le_left (by omega)
  apply b_ext
  intro i hi
  rw [b_and, b_xor, b_m1 i hi, qc_btn (by omega), qc_btn (by omega), qc_btn h8, Nat.testBit_and, Nat.testBit_xor, qc_255]
  rcases Nat.lt_or_ge i 8 with z | z
  · rw [decide_eq_true z]; cases w.testBit i <;> cases P.testBit i <;> rfl
  · rw [Nat.testBit_lt_two_pow (x := w) (i := i) (Nat.lt_of_lt_of_le hw (Nat.pow_le_pow_right (n := 2) (by decide) z))]
    rfl
theorem qc_clr_lt {w P : Nat} (hw : w < 256) : w &&& (255 ^^^ P) < 256 := Nat.lt_of_le_of_lt Nat.and_le_left hw
theorem qc_clr_bit {w P q : Nat} (h : (w &&& (255 ^^^ P)).testBit q = true) : w.testBit q = true ∧ (q < 8 → P.testBit q = false) := by
  rw [Nat.testBit_and, Nat.testBit_xor, qc_255, Bool.and_eq_true] at h
  refine ⟨h.1, fun hq => ?_⟩
  have h2 := h.2
  rw [decide_eq_true hq] at h2
  cases hP : P.testBit q with
  | false => rfl
  | true => rw [hP] at h2; cases h2
theorem qc_1sh : ∀ p, p < 8 → (1 : Int32) <<< (nI p &&& 31) = nI (2 ^ p) := by decide +kernel
theorem qc_pw {p : Nat} (h : p < 8) : 2 ^ p < 256 := Nat.lt_of_lt_of_le (Nat.pow_lt_pow_right (by decide) h) (by decide)
theorem qc_or {a b : Nat} (ha : a < 256) (hb : b < 256) : nI a ||| nI b = nI (a ||| b) := by
  have hab : a ||| b < 2 ^ 8 := Nat.or_lt_two_pow (by omega) (by omega)
  apply b_ext
  intro i hi
  rw [b_or, qc_btn (by omega), qc_btn (by omega), qc_btn (by omega), Nat.testBit_or]
theorem qc_or_lt {a b : Nat} (ha : a < 256) (hb : b < 256) : a ||| b < 256 := Nat.or_lt_two_pow (n := 8) (by omega) (by omega)
theorem qc_pw_bit {p q : Nat} : (2 ^ p).testBit q = decide (p = q) := Nat.testBit_two_pow
end
section
def qc_at (rd rs rv : Nat → Int32) (p : Nat) : qc_E := (if rd p = 0 then 1 else 2, rs p, rv p)
def qc_cn (rk rd rs rv : Nat → Int32) (k lo : Nat) : Nat → qc_O
  | 0 => none
  | d + 1 => if rk (lo + d) = nI k then some (qc_at rd rs rv (lo + d)) else qc_cn rk rd rs rv k lo d
section
variable {rk rs rv rd re : Nat → Int32} {rf : Nat → Int64} {rr : Nat → Int32}
variable {rk1 rs1 rv1 rd1 re1 : Nat → Int32} {rf1 : Nat → Int64} {rr1 : Nat → Int32}
theorem qc_cn_t {k lo d : Nat} (h : rk (lo + d) = nI k) : qc_cn rk rd rs rv k lo (d + 1) = some (qc_at rd rs rv (lo + d)) := if_pos h
theorem qc_cn_f {k lo d : Nat} (h : ¬ rk (lo + d) = nI k) : qc_cn rk rd rs rv k lo (d + 1) = qc_cn rk rd rs rv k lo d := if_neg h
theorem qc_cn_skip {k lo d : Nat} : ∀ t, (∀ p, lo + d ≤ p → p < lo + (d + t) → ¬ rk p = nI k) → qc_cn rk rd rs rv k lo (d + t) = qc_cn rk rd rs rv k lo d
  | 0, _ => rfl
  | t + 1, h => by
    rw [← Nat.add_assoc, qc_cn_f (h (lo + (d + t)) (by omega) (by omega))]
    exact qc_cn_skip t (fun p h1 h2 => h p h1 (by omega))
theorem qc_cn_hit {k lo d p : Nat} (hlo : lo ≤ p) (hp : p < lo + d) (hk : rk p = nI k) (hn : ∀ q, p < q → q < lo + d → ¬ rk q = nI k) : qc_cn rk rd rs rv k lo d = some (qc_at rd rs rv p) := by
  obtain ⟨a, rfl⟩ : ∃ a, p = lo + a := ⟨p - lo, by omega⟩
  obtain ⟨t, rfl⟩ : ∃ t, d = a + 1 + t := ⟨d - (a + 1), by omega⟩
  rw [qc_cn_skip t (fun q h1 h2 => hn q (by omega) h2), qc_cn_t hk]
theorem qc_cn_cg {k lo : Nat} : ∀ d, (∀ p, lo ≤ p → p < lo + d → rk1 p = rk p ∧ rd1 p = rd p ∧ rs1 p = rs p ∧ rv1 p = rv p) → qc_cn rk1 rd1 rs1 rv1 k lo d = qc_cn rk rd rs rv k lo d
  | 0, _ => rfl
  | d + 1, h => by
    have e := h (lo + d) (by omega) (by omega)
    have ih := qc_cn_cg (k := k) d (fun p h1 h2 => h p h1 (by omega))
    by_cases z : rk (lo + d) = nI k
    · rw [qc_cn_t z, qc_cn_t (e.1.trans z)]
      unfold qc_at
      rw [e.2.1, e.2.2.1, e.2.2.2]
    · rw [qc_cn_f z, qc_cn_f (fun y => z (e.1.symm.trans y)), ih]
end
def qc_rA (n : Nat) (rr : Nat → Int32) (m : Nat) (E : Nat → Nat) : Prop := rr n = nI m ∧ m ≤ 4 ∧ E 0 = 144 * n ∧ E m ≤ 144 * n + 144
def qc_rB (n : Nat) (re : Nat → Int32) (m : Nat) (E : Nat → Nat) : Prop := ∀ r, r < m → E r ≤ E (r + 1) ∧ re (4 * n + r) = nI (E (r + 1))
def qc_rC (n : Nat) (rk : Nat → Int32) (rf : Nat → Int64) (m : Nat) (E : Nat → Nat) : Prop := ∀ r, r < m → ∀ p, E r ≤ p → p < E (r + 1) → ∃ j, j < 72 ∧ rk p = nI j ∧ (rf (4 * n + r)).toBitVec.getLsbD (j % 64) = true
def qc_rD (rk : Nat → Int32) (m : Nat) (E : Nat → Nat) : Prop := ∀ r, r < m → ∀ p q, E r ≤ p → p < q → q < E (r + 1) → rk p < rk q
def qc_run (n : Nat) (rk : Nat → Int32) (re : Nat → Int32) (rf : Nat → Int64) (rr : Nat → Int32) (m : Nat) (E : Nat → Nat) : Prop :=
  qc_rA n rr m E ∧ qc_rB n re m E ∧ qc_rC n rk rf m E ∧ qc_rD rk m E
def qc_RN (n : Nat) (rk rs rv rd re : Nat → Int32) (rf : Nat → Int64) (rr : Nat → Int32) (g : Nat → qc_O) : Prop :=
  ∃ (m : Nat) (E : Nat → Nat), qc_run n rk re rf rr m E ∧ ∀ k, k < 72 → g k = qc_cn rk rd rs rv k (144 * n) (E m - 144 * n)
def qc_fr (n : Nat) (rk rs rv rd re : Nat → Int32) (rf : Nat → Int64) (rr : Nat → Int32) (rk1 rs1 rv1 rd1 re1 : Nat → Int32) (rf1 : Nat → Int64) (rr1 : Nat → Int32) : Prop :=
  (∀ p, (p < 144 * n ∨ 144 * n + 144 ≤ p) → rk1 p = rk p ∧ rd1 p = rd p ∧ rs1 p = rs p ∧ rv1 p = rv p) ∧
  (∀ i, (i < 4 * n ∨ 4 * n + 4 ≤ i) → re1 i = re i ∧ rf1 i = rf i) ∧ (∀ i, i ≠ n → rr1 i = rr i)
def qc_uE (E : Nat → Nat) (m v : Nat) : Nat → Nat := fun r => if r = m then v else E r
theorem qc_uEs {E : Nat → Nat} {m v : Nat} : qc_uE E m v m = v := if_pos rfl
theorem qc_uEn {E : Nat → Nat} {m v r : Nat} (h : r ≠ m) : qc_uE E m v r = E r := if_neg h
section
variable {n : Nat} {rk rs rv rd re : Nat → Int32} {rf : Nat → Int64} {rr : Nat → Int32}
variable {rk1 rs1 rv1 rd1 re1 : Nat → Int32} {rf1 : Nat → Int64} {rr1 : Nat → Int32}
variable {rk2 rs2 rv2 rd2 re2 : Nat → Int32} {rf2 : Nat → Int64} {rr2 : Nat → Int32}
theorem qc_fr_r : qc_fr n rk rs rv rd re rf rr rk rs rv rd re rf rr := ⟨fun _ _ => ⟨rfl, rfl, rfl, rfl⟩, fun _ _ => ⟨rfl, rfl⟩, fun _ _ => rfl⟩
theorem qc_fr_t (h1 : qc_fr n rk rs rv rd re rf rr rk1 rs1 rv1 rd1 re1 rf1 rr1) (h2 : qc_fr n rk1 rs1 rv1 rd1 re1 rf1 rr1 rk2 rs2 rv2 rd2 re2 rf2 rr2) : qc_fr n rk rs rv rd re rf rr rk2 rs2 rv2 rd2 re2 rf2 rr2 := by
  refine ⟨fun p hp => ?_, fun i hi => ?_, fun i hi => ?_⟩
  · have a := h1.1 p hp
    have b := h2.1 p hp
    exact ⟨b.1.trans a.1, b.2.1.trans a.2.1, b.2.2.1.trans a.2.2.1, b.2.2.2.trans a.2.2.2⟩
  · have a := h1.2.1 i hi
    have b := h2.2.1 i hi
    exact ⟨b.1.trans a.1, b.2.trans a.2⟩
  · exact (h2.2.2 i hi).trans (h1.2.2 i hi)
theorem qc_mono {re : Nat → Int32} {m : Nat} {E : Nat → Nat} (h : qc_rB n re m E) : ∀ d r, r + d ≤ m → E r ≤ E (r + d)
  | 0, r, _ => Nat.le_refl _
  | d + 1, r, hd => Nat.le_trans (qc_mono h d r (by omega)) (h (r + d) (by omega)).1
theorem qc_mono' {re : Nat → Int32} {m : Nat} {E : Nat → Nat} (h : qc_rB n re m E) {r s : Nat} (h1 : r ≤ s) (h2 : s ≤ m) : E r ≤ E s := by
  obtain ⟨d, rfl⟩ : ∃ d, s = r + d := ⟨s - r, by omega⟩
  exact qc_mono h d r h2
theorem qc_which {E : Nat → Nat} {p : Nat} : ∀ m, E 0 ≤ p → p < E m → ∃ r, r < m ∧ E r ≤ p ∧ p < E (r + 1)
  | 0, h1, h2 => by omega
  | m + 1, h1, h2 => by
    rcases Nat.lt_or_ge p (E m) with z | z
    · obtain ⟨r, a, b⟩ := qc_which m h1 z
      exact ⟨r, by omega, b⟩
    · exact ⟨m, by omega, z, h2⟩
theorem qc_run_key {m : Nat} {E : Nat → Nat} (h : qc_run n rk re rf rr m E) {p : Nat} (h1 : 144 * n ≤ p) (h2 : p < E m) : ∃ j, j < 72 ∧ rk p = nI j := by
  obtain ⟨r, a, b, c⟩ := qc_which m (by rw [h.1.2.2.1]; exact h1) h2
  obtain ⟨j, hj, e, _⟩ := h.2.2.1 r a p b c
  exact ⟨j, hj, e⟩
theorem qc_RN_fr {n' : Nat} {g : Nat → qc_O} (hf : qc_fr n rk rs rv rd re rf rr rk1 rs1 rv1 rd1 re1 rf1 rr1) (hn : n' ≠ n) (h : qc_RN n' rk rs rv rd re rf rr g) : qc_RN n' rk1 rs1 rv1 rd1 re1 rf1 rr1 g := by
  obtain ⟨m, E, ⟨hA, hB, hC, hD⟩, hg⟩ := h
  have hE : ∀ r, r ≤ m → 144 * n' ≤ E r ∧ E r ≤ 144 * n' + 144 := by
    intro r hr
    have a := qc_mono' hB (Nat.zero_le r) hr
    have b := qc_mono' hB hr (Nat.le_refl m)
    have c := hA.2.2.1
    have d := hA.2.2.2
    exact ⟨by omega, by omega⟩
  have hk : ∀ p, 144 * n' ≤ p → p < 144 * n' + 144 → rk1 p = rk p ∧ rd1 p = rd p ∧ rs1 p = rs p ∧ rv1 p = rv p := fun p a b => hf.1 p (by omega)
  refine ⟨m, E, ⟨⟨(hf.2.2 n' hn).trans hA.1, hA.2⟩, ?_, ?_, ?_⟩, ?_⟩
  · intro r hr
    have := hA.2.1
    exact ⟨(hB r hr).1, (hf.2.1 (4 * n' + r) (by omega)).1.trans (hB r hr).2⟩
  · intro r hr p h1 h2
    obtain ⟨j, hj, e, f⟩ := hC r hr p h1 h2
    have := hA.2.1
    have q1 := hE r (by omega)
    have q2 := hE (r + 1) (by omega)
    refine ⟨j, hj, (hk p (by omega) (by omega)).1.trans e, ?_⟩
    rw [(hf.2.1 (4 * n' + r) (by omega)).2]
    exact f
  · intro r hr p q h1 h2 h3
    have q1 := hE r (by omega)
    have q2 := hE (r + 1) (by omega)
    rw [(hk p (by omega) (by omega)).1, (hk q (by omega) (by omega)).1]
    exact hD r hr p q h1 h2 h3
  · intro k hk'
    rw [hg k hk']
    have q := hE m (Nat.le_refl m)
    exact (qc_cn_cg _ (fun p a b => hk p a (by omega))).symm
theorem qc_run_new {m : Nat} {E : Nat → Nat} (h : qc_run n rk re rf rr m E) (hm : m < 4) :
    qc_run n rk (upd re (4 * n + m) (nI (E m))) (vp_updL rf (4 * n + m) 0) (upd rr n (nI (m + 1))) (m + 1) (qc_uE E (m + 1) (E m)) := by
  obtain ⟨hA, hB, hC, hD⟩ := h
  refine ⟨⟨pk_us, by omega, ?_, ?_⟩, ?_, ?_, ?_⟩
  · rw [qc_uEn (by omega)]; exact hA.2.2.1
  · rw [qc_uEs]; exact hA.2.2.2
  · intro r hr
    rw [qc_uEn (show r ≠ m + 1 by omega)]
    by_cases z : r = m
    · rw [z, qc_uEs, pk_us]; exact ⟨Nat.le_refl _, rfl⟩
    · rw [qc_uEn (show r + 1 ≠ m + 1 by omega), pk_un (show 4 * n + r ≠ 4 * n + m by omega)]
      exact hB r (by omega)
  · intro r hr p h1 h2
    rw [qc_uEn (show r ≠ m + 1 by omega)] at h1
    by_cases z : r = m
    · rw [z, qc_uEs] at h2; rw [z] at h1; omega
    · rw [qc_uEn (show r + 1 ≠ m + 1 by omega)] at h2
      rw [pk_uLn (show 4 * n + r ≠ 4 * n + m by omega)]
      exact hC r (by omega) p h1 h2
  · intro r hr p q h1 h2 h3
    rw [qc_uEn (show r ≠ m + 1 by omega)] at h1
    by_cases z : r = m
    · rw [z, qc_uEs] at h3; rw [z] at h1; omega
    · rw [qc_uEn (show r + 1 ≠ m + 1 by omega)] at h3
      exact hD r (by omega) p q h1 h2 h3
theorem qc_run_app {m : Nat} {E : Nat → Nat} {j : Nat} (h : qc_run n rk re rf rr (m + 1) E) (hE : E (m + 1) < 144 * n + 144) (hj : j < 72)
    (ho : ∀ p, E m ≤ p → p < E (m + 1) → rk p < nI j) :
    qc_run n (upd rk (E (m + 1)) (nI j)) (upd re (4 * n + m) (nI (E (m + 1) + 1))) (vp_updL rf (4 * n + m) (rf (4 * n + m) ||| ((1 : Int64) <<< ((nI j).toInt64 &&& 63)))) rr (m + 1) (qc_uE E (m + 1) (E (m + 1) + 1)) := by
  obtain ⟨hA, hB, hC, hD⟩ := h
  have hm1 := qc_mono' hB (show m ≤ m + 1 by omega) (Nat.le_refl _)
  have hlow : ∀ r, r < m → E (r + 1) ≤ E (m + 1) := fun r hr => qc_mono' hB (by omega) (Nat.le_refl _)
  refine ⟨⟨hA.1, hA.2.1, ?_, ?_⟩, ?_, ?_, ?_⟩
  · rw [qc_uEn (by omega)]; exact hA.2.2.1
  · rw [qc_uEs]; omega
  · intro r hr
    rw [qc_uEn (show r ≠ m + 1 by omega)]
    by_cases z : r = m
    · rw [z, qc_uEs, pk_us]; exact ⟨by omega, rfl⟩
    · rw [qc_uEn (show r + 1 ≠ m + 1 by omega), pk_un (show 4 * n + r ≠ 4 * n + m by omega)]
      exact hB r (by omega)
  · intro r hr p h1 h2
    rw [qc_uEn (show r ≠ m + 1 by omega)] at h1
    by_cases z : r = m
    · subst z
      rw [qc_uEs] at h2
      rw [pk_uLs]
      by_cases y : p = E (r + 1)
      · refine ⟨j, hj, by rw [y, pk_us], ?_⟩
        rw [Int64.toBitVec_or, BitVec.getLsbD_or, qc_tr j hj, BitVec.getLsbD_twoPow]
        simp [Nat.mod_lt j (show 0 < 64 by decide)]
      · obtain ⟨i, hi, e, f⟩ := hC r (by omega) p h1 (by omega)
        refine ⟨i, hi, by rw [pk_un y]; exact e, ?_⟩
        rw [Int64.toBitVec_or, BitVec.getLsbD_or, f, Bool.true_or]
    · rw [qc_uEn (show r + 1 ≠ m + 1 by omega)] at h2
      rw [pk_uLn (show 4 * n + r ≠ 4 * n + m by omega)]
      have := hlow r (by omega)
      rw [pk_un (show p ≠ E (m + 1) by omega)]
      exact hC r (by omega) p h1 h2
  · intro r hr p q h1 h2 h3
    rw [qc_uEn (show r ≠ m + 1 by omega)] at h1
    by_cases z : r = m
    · subst z
      rw [qc_uEs] at h3
      rw [pk_un (show p ≠ E (r + 1) by omega)]
      by_cases y : q = E (r + 1)
      · rw [y, pk_us]; exact ho p h1 (by omega)
      · rw [pk_un y]; exact hD r (by omega) p q h1 h2 (by omega)
    · rw [qc_uEn (show r + 1 ≠ m + 1 by omega)] at h3
      have := hlow r (by omega)
      rw [pk_un (show p ≠ E (m + 1) by omega), pk_un (show q ≠ E (m + 1) by omega)]
      exact hD r (by omega) p q h1 h2 h3
theorem qc_cn_app {e j k : Nat} {x s v : Int32} (hlo : 144 * n ≤ e) (hj : j < 72) (hk : k < 72) (hx : x = 1 ∨ x = 2) :
    qc_cn (upd rk e (nI j)) (upd rd e (if x = 2 then 1 else 0)) (upd rs e s) (upd rv e v) k (144 * n) (e + 1 - 144 * n) = if k = j then some (x, s, v) else qc_cn rk rd rs rv k (144 * n) (e - 144 * n) := by
  have e1 : e + 1 - 144 * n = (e - 144 * n) + 1 := by omega
  have e2 : 144 * n + (e - 144 * n) = e := by omega
  rw [e1]
  by_cases z : k = j
  · rw [if_pos z, z, qc_cn_t (by rw [e2, pk_us]), e2]
    unfold qc_at
    rw [pk_us, pk_us, pk_us]
    rcases hx with hx | hx
    · rw [hx]; rfl
    · rw [hx]; rfl
  · rw [if_neg z, qc_cn_f]
    · exact qc_cn_cg _ (fun p a b => ⟨pk_un (by omega), pk_un (by omega), pk_un (by omega), pk_un (by omega)⟩)
    · rw [e2, pk_us, nI_eq (by omega) (by omega)]
      exact fun y => z y.symm
theorem qc_fr_app {m e j : Nat} {x s v a : Int32} {w : Int64} {b : Int32} (hm : m < 4) (h1 : 144 * n ≤ e) (h2 : e < 144 * n + 144) :
    qc_fr n rk rs rv rd re rf rr (upd rk e a) (upd rs e s) (upd rv e v) (upd rd e x) (upd re (4 * n + m) b) (vp_updL rf (4 * n + m) w) rr :=
  ⟨fun p hp => ⟨pk_un (by omega), pk_un (by omega), pk_un (by omega), pk_un (by omega)⟩, fun i hi => ⟨pk_un (by omega), pk_uLn (by omega)⟩, fun _ _ => rfl⟩
theorem qc_fr_new {m : Nat} {a b : Int32} {w : Int64} (hm : m < 4) : qc_fr n rk rs rv rd re rf rr rk rs rv rd (upd re (4 * n + m) a) (vp_updL rf (4 * n + m) w) (upd rr n b) :=
  ⟨fun p hp => ⟨rfl, rfl, rfl, rfl⟩, fun i hi => ⟨pk_un (by omega), pk_uLn (by omega)⟩, fun _ hi => pk_un hi⟩
theorem qc_fr_rr {b : Int32} : qc_fr n rk rs rv rd re rf rr rk rs rv rd re rf (upd rr n b) :=
  ⟨fun p hp => ⟨rfl, rfl, rfl, rfl⟩, fun i hi => ⟨rfl, rfl⟩, fun _ hi => pk_un hi⟩
end
end
section
def qc_ct (a : Nat → Int32) (lo : Nat) : Nat → Nat
  | 0 => 0
  | K + 1 => qc_ct a lo K + (if a (lo + K) = 0 then 0 else 1)
def qc_xM (mk ms mv mc : Nat → Int32) (G : qc_G) : Prop :=
  ∀ n, n < 4 → (∀ k, k < 72 → G n k = (qc_rd (mk (72 * n + k)) (ms (72 * n + k)) (mv (72 * n + k))).or (G (4 + n) k)) ∧ mc n = nI (qc_ct mk (72 * n) 72)
def qc_xR (rk rs rv rd re : Nat → Int32) (rf : Nat → Int64) (rr : Nat → Int32) (G : qc_G) : Prop := ∀ n, n < 4 → qc_RN n rk rs rv rd re rf rr (G (4 + n))
def qc_ag (ag : Nat → Int32) (φ : Nat → Nat → Nat → Prop) : Prop :=
  ∀ a, a < 4 → ∀ b, b < 4 → ∃ w, w < 256 ∧ ag (4 * a + b) = nI w ∧ ∀ q, q < 8 → w.testBit q = true → φ a b q
def qc_xA (ag : Nat → Int32) (G : qc_G) : Prop := qc_ag ag (fun a b q => ∀ k, k < 72 → qc_pt k = q → G a k = G b k)
def qc_XS (mk ms mv mc : Nat → Int32) (rk rs rv rd re : Nat → Int32) (rf : Nat → Int64) (rr : Nat → Int32) (ag : Nat → Int32) (G : qc_G) : Prop :=
  qc_xM mk ms mv mc G ∧ qc_xR rk rs rv rd re rf rr G ∧ qc_xA ag G ∧ qc_WF G
theorem qc_lt1 {a b : Nat} (ha : a < 10000) (hb : b < 10000) : nI b - 1 < nI a ↔ b ≤ a := by
  rw [Int32.lt_iff_toInt_lt, show nI b - 1 = nI b - nI 1 from rfl, pk_sub_toInt (by omega) (by omega), nI_toInt (by omega)]
  omega
theorem qc_m1 (r : Nat) : nI r + (-1) = nI r - 1 := (Int32.sub_eq_add_neg _ _).symm
theorem qc_12 (x : Int32) : ¬ (if x = 0 then (1 : Int32) else 2) = 0 := by split <;> decide
section
variable {kh fk fs fv zf zc : Int32} {up mk ms mv mc rk rs rv rd re : Nat → Int32} {rf : Nat → Int64} {rr gk gs gv ag qN qK qD qS qV : Nat → Int32}
theorem xs_bad1 {post : Int32 → Prop} {x c : Int32} (h : x < 0 ∨ (0 ≤ x ∧ ¬ x < c)) (hc : 0 ≤ c) (hp : post 1) : wpX_bad post x c := by
  rcases h with h | h
  · have h0 : ¬ 0 ≤ x := Int32.not_le.mpr h
    have h1 : x < c := Int32.lt_of_lt_of_le h hc
    exact br_f h0 (br_t h1 ⟨rfl, hp⟩)
  · exact br_t h.1 (br_f h.2 ⟨rfl, hp⟩)
theorem xs_bad0 {post : Int32 → Prop} {j c : Nat} (h : j < c) (hc : c < 10000) (hp : post 0) : wpX_bad post (nI j) (nI c) :=
  br_t (nI_pos' (by omega)) (br_t (nI_lt h (by omega)) ⟨rfl, hp⟩)
theorem xs_badL {post : Int32 → Prop} {L : Int32} (h : L - 1 < 0 ∨ 3 ≤ L - 1) (hp : post 1) : wpX_bad post (L - 1) 3 := by
  refine xs_bad1 ?_ (by decide) hp
  rcases h with h | h
  · exact Or.inl h
  · exact Or.inr ⟨Int32.le_trans (by decide) h, Int32.not_lt.mpr h⟩
theorem xs_badL0 {post : Int32 → Prop} {l : Nat} (h1 : 1 ≤ l) (h3 : l ≤ 3) (hp : post 0) : wpX_bad post (nI l - 1) 3 := by
  obtain ⟨a, rfl⟩ : ∃ a, l = a + 1 := ⟨l - 1, by omega⟩
  rw [nI_pred]
  exact xs_bad0 (c := 3) (by omega) (by decide) hp
theorem xs_badP {post : Int32 → Prop} {x : Int32} {c : Nat} (hc : c < 10000) (h : x < 0 ∨ nI c ≤ x) (hp : post 1) : wpX_bad post x (nI c) := by
  refine xs_bad1 ?_ (nI_pos' (by omega)) hp
  rcases h with h | h
  · exact Or.inl h
  · exact Or.inr ⟨Int32.le_trans (nI_pos' (by omega)) h, Int32.not_lt.mpr h⟩
theorem xs_part {post : Int32 → Prop} {k : Nat} (hk : k < 72) (hp : post (nI (qc_pt k))) : wpX_partitionOf post (nI k) := by
  rcases Nat.lt_or_ge k 64 with z | z
  · refine br_f (nI_ge (b := 64) z (by decide)) ?_
    rw [qc_shr3 (by omega), ← qc_pt_lo z]
    exact hp
  · refine br_t (nI_le (a := 64) z (by omega)) ?_
    rw [qc_and7 (by omega), show k % 8 = qc_pt k by rw [qc_pt_hi z]; omega]
    exact hp
theorem xs_newer {post : Int32 → Prop} {a b c a' b' c' : Int32} (hp : post (qc_b (qc_nw (qc_rd a b c) (qc_rd a' b' c')))) : wpX_newer post a b c a' b' c' := by
  by_cases h' : a' = 0
  · refine br_t h' ?_
    rw [qc_rd0 h'] at hp
    by_cases h : a = 0
    · rw [qc_rd0 h] at hp; exact br_t h hp
    · rw [qc_rd1 h] at hp; exact br_f h hp
  · refine br_f h' ?_
    rw [qc_rd1 h'] at hp
    by_cases h : a = 0
    · rw [qc_rd0 h] at hp
      exact br_t h (br_t h hp)
    · refine br_f h ?_
      rw [qc_rd1 h] at hp
      have hp' : post (qc_b (qc_nwE (a, b, c) (a', b', c'))) := hp
      have ht : qc_nwE (a, b, c) (a', b', c') = true → post 1 := fun e => by rw [e] at hp'; exact hp'
      have hf : qc_nwE (a, b, c) (a', b', c') = false → post 0 := fun e => by rw [e] at hp'; exact hp'
      rw [qc_nwE_iff] at ht
      rw [qc_nwE_f] at hf
      dsimp only at ht hf
      refine br_c (fun e1 => br_c (fun e2 => ht ?_) (fun e2 => br_c (fun e3 => br_c (fun e4 => hf ?_) (fun e4 => ht ?_)) (fun e3 => hf ?_))) (fun e1 => br_c (fun e2 => hf ?_) (fun e2 => ht ?_))
      all_goals simp only [Int32.lt_iff_toInt_lt, Int32.le_iff_toInt_le, ← Int32.toInt_inj] at *
      all_goals omega
theorem xs_sr83 {post : SX → Prop} {p : Nat} {z : Int32} (hp : p < 576) (h : post (kh, z, rs p, rv p, zf, zc, up, mk, ms, mv, mc, rk, rs, rv, rd, re, rf, rr, gk, gs, gv, ag, qN, qK, qD, qS, qV)) : wX_searchRun_83 post (nI p) z kh fk fs fv zf zc up mk ms mv mc rk rs rv rd re rf rr gk gs gv ag qN qK qD qS qV :=
  ⟨qc_in hp (by decide), nm_r (congrArg rs (qc_cl (by omega))) ⟨qc_in hp (by decide), nm_r (congrArg rv (qc_cl (by omega))) h⟩⟩
theorem xs_sr40 {post : SX → Prop} {k lo hi : Nat} (hk : k < 72) (hhi : hi ≤ 576)
    (hasc : ∀ p q, lo ≤ p → p < q → q < hi → rk p < rk q)
    (hf : ∀ p, lo ≤ p → p < hi → rk p = nI k → post (kh, if rd p = 0 then 1 else 2, rs p, rv p, zf, zc, up, mk, ms, mv, mc, rk, rs, rv, rd, re, rf, rr, gk, gs, gv, ag, qN, qK, qD, qS, qV))
    (hz : (∀ p, lo ≤ p → p < hi → ¬ rk p = nI k) → post (kh, fk, fs, fv, zf, zc, up, mk, ms, mv, mc, rk, rs, rv, rd, re, rf, rr, gk, gs, gv, ag, qN, qK, qD, qS, qV)) :
    ∀ (d a b n : Nat), b - a ≤ d → d < n → lo ≤ a → a ≤ hi → b ≤ hi → (∀ p, lo ≤ p → p < hi → rk p = nI k → a ≤ p ∧ p < b) → wX_searchRun_40 post (nI k) kh fk fs fv zf zc up mk ms mv mc rk rs rv rd re rf rr gk gs gv ag qN qK qD qS qV n (nI a) (nI b - 1) := by
  intro d
  induction d with
  | zero =>
    intro a b n hd hn ha ha' hb hin
    obtain ⟨n', rfl⟩ : ∃ n', n = n' + 1 := ⟨n - 1, by omega⟩
    refine br_t ((qc_lt1 (by omega) (by omega)).mpr (by omega)) (hz ?_)
    intro p h1 h2 h3
    have := hin p h1 h2 h3
    omega
  | succ d ih =>
    intro a b n hd hn ha ha' hb hin
    obtain ⟨n', rfl⟩ : ∃ n', n = n' + 1 := ⟨n - 1, by omega⟩
    rcases Nat.lt_or_ge a b with hab | hab
    · have hm1 : a ≤ (a + (b - 1)) / 2 := by omega
      have hm2 : (a + (b - 1)) / 2 < b := by omega
      refine br_f (fun z => absurd ((qc_lt1 (by omega) (by omega)).mp z) (by omega)) (nm_r (e' := nI ((a + (b - 1)) / 2)) ?_ ?_)
      · rw [show nI b - 1 = nI (b - 1) from pk_sub (b := 1) (by omega), nI_add, qc_shr1 (by omega)]
      · generalize (a + (b - 1)) / 2 = mid at hm1 hm2
        rw [qc_cl (n := mid) (by omega)]
        refine ⟨qc_in (by omega) (by decide), br_c (fun e => ⟨qc_in (by omega) (by decide), br_c (fun e0 => ?_) (fun e0 => ?_)⟩) (fun e => ⟨qc_in (by omega) (by decide), br_c (fun e1 => ?_) (fun e1 => ?_)⟩)⟩
        · have h := hf mid (by omega) (by omega) e
          rw [if_pos e0] at h
          exact xs_sr83 (by omega) h
        · have h := hf mid (by omega) (by omega) e
          rw [if_neg e0] at h
          exact xs_sr83 (by omega) h
        · refine nm_e (ih a mid n' (by omega) (by omega) ha ha' (by omega) ?_)
          intro p h1 h2 h3
          have h4 := hin p h1 h2 h3
          refine ⟨h4.1, Nat.lt_of_not_le fun z => ?_⟩
          rcases Nat.lt_or_ge mid p with y | y
          · have h5 := hasc mid p (by omega) y h2
            rw [h3] at h5
            exact Int32.not_lt.mpr e1 h5
          · have : p = mid := by omega
            rw [this] at h3
            exact e h3
        · refine nm_r (nI_1 mid) (ih (mid + 1) b n' (by omega) (by omega) (by omega) (by omega) hb ?_)
          intro p h1 h2 h3
          have h4 := hin p h1 h2 h3
          refine ⟨Nat.lt_of_not_le fun z => ?_, h4.2⟩
          rcases Nat.lt_or_ge p mid with y | y
          · have h5 := hasc p mid h1 y (by omega)
            rw [h3] at h5
            exact e1 (Int32.le_of_lt h5)
          · have : p = mid := by omega
            rw [this] at h3
            exact e h3
    · refine br_t ((qc_lt1 (by omega) (by omega)).mpr (by omega)) (hz ?_)
      intro p h1 h2 h3
      have := hin p h1 h2 h3
      omega
theorem qc_Eb {n m : Nat} {E : Nat → Nat} (h : qc_run n rk re rf rr m E) {r : Nat} (hr : r ≤ m) : 144 * n ≤ E r ∧ E r ≤ 144 * n + 144 := by
  have a := qc_mono' h.2.1 (Nat.zero_le r) hr
  have b := qc_mono' h.2.1 hr (Nat.le_refl m)
  have c := h.1.2.2.1
  have d := h.1.2.2.2
  exact ⟨by omega, by omega⟩
theorem xs_sr24 {post : SX → Prop} {n m r k : Nat} {E : Nat → Nat} (h : qc_run n rk re rf rr m E) (hn : n < 4) (hr : r < m) (hk : k < 72)
    (hf : ∀ p, E r ≤ p → p < E (r + 1) → rk p = nI k → post (kh, if rd p = 0 then 1 else 2, rs p, rv p, zf, zc, up, mk, ms, mv, mc, rk, rs, rv, rd, re, rf, rr, gk, gs, gv, ag, qN, qK, qD, qS, qV))
    (hz : (∀ p, E r ≤ p → p < E (r + 1) → ¬ rk p = nI k) → post (kh, fk, fs, fv, zf, zc, up, mk, ms, mv, mc, rk, rs, rv, rd, re, rf, rr, gk, gs, gv, ag, qN, qK, qD, qS, qV)) : wX_searchRun_24 post (nI n) (nI r) (nI k) (nI (E r)) kh fk fs fv zf zc up mk ms mv mc rk rs rv rd re rf rr gk gs gv ag qN qK qD qS qV := by
  have hm := h.1.2.1
  have b1 := qc_Eb h (r := r) (by omega)
  have b2 := qc_Eb h (r := r + 1) (by omega)
  have b3 := (h.2.1 r hr).1
  unfold wX_searchRun_24
  rw [qc_4, qc_cl (n := 4 * n + r) (by omega)]
  refine ⟨qc_in (by omega) (by decide), nm_r (e' := nI (E (r + 1)) - 1) (by rw [(h.2.1 r hr).2]) ⟨600, ?_⟩⟩
  exact xs_sr40 (lo := E r) (hi := E (r + 1)) hk (by omega) (h.2.2.2 r hr) hf hz 599 (E r) (E (r + 1)) 600 (by omega) (by omega) (Nat.le_refl _) b3 (Nat.le_refl _) (fun p h1 h2 _ => ⟨h1, h2⟩)
theorem xs_searchRun {post : SX → Prop} {n m r k : Nat} {E : Nat → Nat} (h : qc_run n rk re rf rr m E) (hn : n < 4) (hr : r < m) (hk : k < 72)
    (hf : ∀ p, E r ≤ p → p < E (r + 1) → rk p = nI k → post (kh, if rd p = 0 then 1 else 2, rs p, rv p, zf, zc, up, mk, ms, mv, mc, rk, rs, rv, rd, re, rf, rr, gk, gs, gv, ag, qN, qK, qD, qS, qV))
    (hz : (∀ p, E r ≤ p → p < E (r + 1) → ¬ rk p = nI k) → post (kh, fk, fs, fv, zf, zc, up, mk, ms, mv, mc, rk, rs, rv, rd, re, rf, rr, gk, gs, gv, ag, qN, qK, qD, qS, qV)) : wpX_searchRun post (kh, fk, fs, fv, zf, zc, up, mk, ms, mv, mc, rk, rs, rv, rd, re, rf, rr, gk, gs, gv, ag, qN, qK, qD, qS, qV) (nI n) (nI r) (nI k) := by
  have hm := h.1.2.1
  have key := xs_sr24 (post := post) h hn hr hk hf hz
  unfold wpX_searchRun
  cases r with
  | zero =>
    refine br_t rfl ?_
    rw [qc_144, ← h.1.2.2.1]
    exact key
  | succ r =>
    refine br_f (nI_ne0 (by omega) (by omega)) ?_
    rw [qc_4m, qc_cl (n := 4 * n + r) (by omega), (h.2.1 r (by omega)).2]
    exact ⟨qc_in (by omega) (by decide), key⟩
theorem xs_s55 {post : SX → Prop} {n m k : Nat} {E : Nat → Nat} (h : qc_run n rk re rf rr m E) (hn : n < 4) (hk : k < 72) :
    ∀ (r f : Nat) (fs fv : Int32), r ≤ m → r + 1 < f → (∀ a b c, qc_rd a b c = qc_cn rk rd rs rv k (144 * n) (E r - 144 * n) → post (kh, a, b, c, zf, zc, up, mk, ms, mv, mc, rk, rs, rv, rd, re, rf, rr, gk, gs, gv, ag, qN, qK, qD, qS, qV)) →
      wX_search_55 post (nI n) (nI k) f (nI r - 1) kh 0 fs fv zf zc up mk ms mv mc rk rs rv rd re rf rr gk gs gv ag qN qK qD qS qV := by
  have hm := h.1.2.1
  intro r
  induction r with
  | zero =>
    intro f fs fv hr hf hp
    obtain ⟨f', rfl⟩ : ∃ f', f = f' + 1 := ⟨f - 1, by omega⟩
    refine br_t (by decide) (hp 0 fs fv ?_)
    rw [h.1.2.2.1, Nat.sub_self]
    rfl
  | succ r ih =>
    intro f fs fv hr hf hp
    obtain ⟨f', rfl⟩ : ∃ f', f = f' + 1 + 1 := ⟨f - 2, by omega⟩
    have b1 := qc_Eb h (r := r) (by omega)
    have b2 := qc_Eb h (r := r + 1) (by omega)
    have b3 := (h.2.1 r (by omega)).1
    have skip : (∀ p, E r ≤ p → p < E (r + 1) → ¬ rk p = nI k) → qc_cn rk rd rs rv k (144 * n) (E (r + 1) - 144 * n) = qc_cn rk rd rs rv k (144 * n) (E r - 144 * n) := by
      intro z
      obtain ⟨t, ht⟩ : ∃ t, E (r + 1) - 144 * n = (E r - 144 * n) + t := ⟨E (r + 1) - E r, by omega⟩
      rw [ht]
      exact qc_cn_skip t (fun p h1 h2 => z p (by omega) (by omega))
    rw [nI_pred]
    refine br_f (nI_pos (by omega)) (br_t rfl ?_)
    rw [qc_4, qc_cl (n := 4 * n + r) (by omega)]
    refine ⟨qc_in (by omega) (by decide), br_c (fun hb => ?_) (fun hb => ?_)⟩
    · refine nm_r (qc_m1 r) (ih (f' + 1) fs fv (by omega) (by omega) ?_)
      intro a b c e
      refine hp a b c (e.trans (skip ?_).symm)
      intro p h1 h2 h3
      obtain ⟨j, hj, e1, e2⟩ := h.2.2.1 r (by omega) p h1 h2
      have : j = k := (nI_eq (by omega) (by omega)).mp (e1.symm.trans h3)
      rw [this] at e2
      rw [(qc_fl hk).mp hb] at e2
      cases e2
    · refine xs_searchRun h hn (by omega) hk (fun p h1 h2 h3 => ?_) (fun hz => ?_)
      · have H : post (kh, if rd p = 0 then 1 else 2, rs p, rv p, zf, zc, up, mk, ms, mv, mc, rk, rs, rv, rd, re, rf, rr, gk, gs, gv, ag, qN, qK, qD, qS, qV) := by
          apply hp
          rw [qc_rd1 (qc_12 _)]
          refine (qc_cn_hit (by omega) (by omega) h3 ?_).symm
          intro q h4 h5 h6
          have h7 := h.2.2.2 r (by omega) p q h1 h4 (by omega)
          rw [h3, h6] at h7
          exact Int32.lt_irrefl h7
        refine nm_r (qc_m1 r) ?_
        exact br_c (fun _ => H) (fun _ => br_f (qc_12 _) H)
      · refine nm_r (qc_m1 r) (ih (f' + 1) fs fv (by omega) (by omega) ?_)
        intro a b c e
        exact hp a b c (e.trans (skip hz).symm)
theorem xs_search {post : SX → Prop} {n k : Nat} {G : qc_G} (hM : qc_xM mk ms mv mc G) (hR : qc_xR rk rs rv rd re rf rr G) (hn : n < 4) (hk : k < 72)
    (h : ∀ a b c, qc_rd a b c = G n k → post (kh, a, b, c, zf, zc, up, mk, ms, mv, mc, rk, rs, rv, rd, re, rf, rr, gk, gs, gv, ag, qN, qK, qD, qS, qV)) : wpX_search post (kh, fk, fs, fv, zf, zc, up, mk, ms, mv, mc, rk, rs, rv, rd, re, rf, rr, gk, gs, gv, ag, qN, qK, qD, qS, qV) (nI n) (nI k) := by
  obtain ⟨m, E, hr, hg⟩ := hR n hn
  have hV := (hM n hn).1 k hk
  unfold wpX_search
  refine nm_r (qc_72 n k) ?_
  rw [qc_cl (n := 72 * n + k) (by omega)]
  refine ⟨qc_in (by omega) (by decide), nm_e (br_c (fun h0 => ?_) (fun h0 => ?_))⟩
  · rw [qc_cl (n := n) (by omega)]
    refine ⟨qc_in (by omega) (by decide), nm_r (e' := nI m - 1) (by rw [hr.1.1]) ⟨m + 2, ?_⟩⟩
    rw [h0]
    refine xs_s55 hr hn hk m (m + 2) fs fv (Nat.le_refl m) (by omega) ?_
    intro a b c e
    apply h
    rw [e, hV, qc_rd0 h0, Option.none_or]
    exact (hg k hk).symm
  · refine ⟨qc_in (by omega) (by decide), nm_e ⟨qc_in (by omega) (by decide), nm_e (h _ _ _ ?_)⟩⟩
    rw [hV, qc_rd1 h0, Option.some_or]
end
end
section
theorem qc_ct_cg {a a' : Nat → Int32} {lo : Nat} : ∀ K, (∀ p, lo ≤ p → p < lo + K → a' p = a p) → qc_ct a' lo K = qc_ct a lo K
  | 0, _ => rfl
  | K + 1, h => by
    show qc_ct a' lo K + (if a' (lo + K) = 0 then 0 else 1) = qc_ct a lo K + (if a (lo + K) = 0 then 0 else 1)
    rw [qc_ct_cg K (fun p h1 h2 => h p h1 (by omega)), h (lo + K) (by omega) (by omega)]
theorem qc_ct_le (a : Nat → Int32) (lo : Nat) : ∀ K, qc_ct a lo K ≤ K
  | 0 => Nat.le_refl 0
  | K + 1 => by
    have := qc_ct_le a lo K
    show qc_ct a lo K + (if a (lo + K) = 0 then 0 else 1) ≤ K + 1
    split <;> omega
theorem qc_ct_0 {a : Nat → Int32} {lo : Nat} : ∀ K, (∀ p, lo ≤ p → p < lo + K → a p = 0) → qc_ct a lo K = 0
  | 0, _ => rfl
  | K + 1, h => by
    show qc_ct a lo K + (if a (lo + K) = 0 then 0 else 1) = 0
    rw [qc_ct_0 K (fun p h1 h2 => h p h1 (by omega)), h (lo + K) (by omega) (by omega)]
    rfl
theorem qc_ct_z {a : Nat → Int32} {lo : Nat} : ∀ K, qc_ct a lo K = 0 → ∀ p, lo ≤ p → p < lo + K → a p = 0
  | 0, _, p, h1, h2 => by omega
  | K + 1, h, p, h1, h2 => by
    have h' : qc_ct a lo K + (if a (lo + K) = 0 then 0 else 1) = 0 := h
    by_cases z : a (lo + K) = 0
    · rcases Nat.lt_or_ge p (lo + K) with y | y
      · exact qc_ct_z K (by omega) p h1 y
      · have : p = lo + K := by omega
        rw [this]; exact z
    · rw [if_neg z] at h'; omega
theorem qc_ct_upd {a : Nat → Int32} {lo k : Nat} {x : Int32} (hx : ¬ x = 0) : ∀ K, k < K → qc_ct (upd a (lo + k) x) lo K + (if a (lo + k) = 0 then 0 else 1) = qc_ct a lo K + 1
  | 0, h => by omega
  | K + 1, h => by
    show qc_ct (upd a (lo + k) x) lo K + (if upd a (lo + k) x (lo + K) = 0 then 0 else 1) + _ = qc_ct a lo K + (if a (lo + K) = 0 then 0 else 1) + 1
    by_cases z : k = K
    · rw [z, pk_us, if_neg hx, qc_ct_cg (a := a) K (fun p h1 h2 => pk_un (by omega))]
      omega
    · rw [pk_un (show lo + K ≠ lo + k by omega)]
      have := qc_ct_upd (a := a) (lo := lo) hx K (show k < K by omega)
      omega
theorem qc_ag_w {ag : Nat → Int32} {φ ψ : Nat → Nat → Nat → Prop} (h : qc_ag ag φ) (w : ∀ a b q, a < 4 → b < 4 → q < 8 → φ a b q → ψ a b q) : qc_ag ag ψ := by
  intro a ha b hb
  obtain ⟨x, h1, h2, h3⟩ := h a ha b hb
  exact ⟨x, h1, h2, fun q hq hb' => w a b q ha hb hq (h3 q hq hb')⟩
theorem qc_ag_clr {ag : Nat → Int32} {φ : Nat → Nat → Nat → Prop} {a b P : Nat} (h : qc_ag ag φ) (ha : a < 4) (hb : b < 4) (hP : P < 256) :
    qc_ag (upd ag (4 * a + b) (vp_nar .short ((ag (4 * a + b) &&& (nI P ^^^ (-1))).toInt16.toInt32))) (fun a' b' q => φ a' b' q ∧ (a' = a ∧ b' = b → P.testBit q = false)) := by
  intro a' ha' b' hb'
  obtain ⟨w, h1, h2, h3⟩ := h a' ha' b' hb'
  by_cases z : a' = a ∧ b' = b
  · obtain ⟨rfl, rfl⟩ := z
    have h4 := qc_clr_lt (P := P) h1
    refine ⟨w &&& (255 ^^^ P), h4, ?_, ?_⟩
    · rw [pk_us, h2, qc_clr h1 hP, qc_vss (by omega)]
    · intro q hq hb2
      have h5 := qc_clr_bit hb2
      exact ⟨h3 q hq h5.1, fun _ => h5.2 hq⟩
  · refine ⟨w, h1, ?_, fun q hq hb2 => ⟨h3 q hq hb2, fun y => absurd y z⟩⟩
    rw [pk_un (by omega)]
    exact h2
section
variable {kh fk fs fv zf zc : Int32} {up mk ms mv mc rk rs rv rd re : Nat → Int32} {rf : Nat → Int64} {rr gk gs gv ag qN qK qD qS qV : Nat → Int32}
theorem xs_ch2 {post : SX → Prop} {nd P : Nat} {φ : Nat → Nat → Nat → Prop} (hn : nd < 4) (hP : P < 256)
    (hp : ∀ ag', qc_ag ag' (fun a b q => φ a b q ∧ ((a = nd ∧ b < 4 ∨ b = nd ∧ a < 4) → P.testBit q = false)) → post (kh, fk, fs, fv, zf, zc, up, mk, ms, mv, mc, rk, rs, rv, rd, re, rf, rr, gk, gs, gv, ag', qN, qK, qD, qS, qV)) :
    ∀ (d i f : Nat) (ag : Nat → Int32), i + d = 4 → d < f → qc_ag ag (fun a b q => φ a b q ∧ ((a = nd ∧ b < i ∨ b = nd ∧ a < i) → P.testBit q = false)) →
      wX_changed_2 post (nI nd) (nI P) kh fk fs fv zf zc f (nI i) up mk ms mv mc rk rs rv rd re rf rr gk gs gv ag qN qK qD qS qV := by
  intro d
  induction d with
  | zero =>
    intro i f ag hi hf h
    obtain ⟨f', rfl⟩ : ∃ f', f = f' + 1 := ⟨f - 1, by omega⟩
    have : i = 4 := by omega
    subst this
    exact br_t (Int32.le_refl _) (hp ag h)
  | succ d ih =>
    intro i f ag hi hf h
    obtain ⟨f', rfl⟩ : ∃ f', f = f' + 1 := ⟨f - 1, by omega⟩
    refine br_f (nI_ge (b := 4) (by omega) (by decide)) ?_
    rw [qc_4 nd i, qc_4 i nd, qc_cl (n := 4 * nd + i) (by omega), qc_cl (n := 4 * i + nd) (by omega)]
    refine ⟨qc_in (by omega) (by decide), qc_in (by omega) (by decide), nm_e ⟨qc_in (by omega) (by decide), qc_in (by omega) (by decide), nm_e (nm_r (nI_1 i) (ih (i + 1) f' _ (by omega) (by omega) ?_))⟩⟩
    refine qc_ag_w (qc_ag_clr (qc_ag_clr h hn (show i < 4 by omega) hP) (show i < 4 by omega) hn hP) ?_
    intro a b q ha hb hq hh
    refine ⟨hh.1.1.1, ?_⟩
    intro z
    rcases z with z | z
    · rcases Nat.lt_or_ge b i with y | y
      · exact hh.1.1.2 (Or.inl ⟨z.1, y⟩)
      · exact hh.1.2 ⟨z.1, by omega⟩
    · rcases Nat.lt_or_ge a i with y | y
      · exact hh.1.1.2 (Or.inr ⟨z.1, y⟩)
      · exact hh.2 ⟨by omega, z.1⟩
theorem xs_changed {post : SX → Prop} {nd P : Nat} {φ : Nat → Nat → Nat → Prop} (hn : nd < 4) (hP : P < 256) (h : qc_ag ag φ)
    (hp : ∀ ag', qc_ag ag' (fun a b q => φ a b q ∧ ((a = nd ∨ b = nd) → P.testBit q = false)) → post (kh, fk, fs, fv, zf, zc, up, mk, ms, mv, mc, rk, rs, rv, rd, re, rf, rr, gk, gs, gv, ag', qN, qK, qD, qS, qV)) : wpX_changed post (kh, fk, fs, fv, zf, zc, up, mk, ms, mv, mc, rk, rs, rv, rd, re, rf, rr, gk, gs, gv, ag, qN, qK, qD, qS, qV) (nI nd) (nI P) := by
  unfold wpX_changed
  refine ⟨5, xs_ch2 (φ := φ) hn hP ?_ 4 0 5 ag (by omega) (by omega) ?_⟩
  · intro ag' h'
    refine hp ag' (qc_ag_w h' ?_)
    intro a b q ha hb hq hh
    refine ⟨hh.1, fun z => hh.2 ?_⟩
    rcases z with z | z
    · exact Or.inl ⟨z, hb⟩
    · exact Or.inr ⟨z, ha⟩
  · refine qc_ag_w h ?_
    intro a b q ha hb hq hh
    exact ⟨hh, fun z => by omega⟩
theorem qc_xR_set {n k : Nat} {o : qc_O} {G : qc_G} (hn : n < 4) (h : qc_xR rk rs rv rd re rf rr G) : qc_xR rk rs rv rd re rf rr (qc_set G n k o) := by
  intro n' hn'
  have e : qc_set G n k o (4 + n') = G (4 + n') := by
    funext k'
    exact qc_set_n (fun z => by omega)
  rw [e]
  exact h n' hn'
theorem qc_xM_set {n k : Nat} {x s v : Int32} {G : qc_G} {mc1 : Nat → Int32} (hM : qc_xM mk ms mv mc G) (hn : n < 4) (hk : k < 72) (hx : ¬ x = 0)
    (hc : mc1 = if mk (72 * n + k) = 0 then upd mc n (nI (qc_ct mk (72 * n) 72 + 1)) else mc) :
    qc_xM (upd mk (72 * n + k) x) (upd ms (72 * n + k) s) (upd mv (72 * n + k) v) mc1 (qc_set G n k (some (x, s, v))) := by
  intro n' hn'
  obtain ⟨h1, h2⟩ := hM n' hn'
  constructor
  · intro k' hk'
    rw [qc_set_n (G := G) (n' := 4 + n') (show ¬ (4 + n' = n ∧ k' = k) by omega)]
    by_cases z : n' = n ∧ k' = k
    · obtain ⟨rfl, rfl⟩ := z
      rw [qc_set_s, pk_us, pk_us, pk_us, qc_rd1 hx, Option.some_or]
    · rw [qc_set_n z, pk_un (by omega), pk_un (by omega), pk_un (by omega)]
      exact h1 k' hk'
  · by_cases z : n' = n
    · subst z
      have e := qc_ct_upd (a := mk) (lo := 72 * n') hx 72 hk
      by_cases y : mk (72 * n' + k) = 0
      · rw [if_pos y] at hc e
        rw [hc, pk_us]
        congr 1
        omega
      · rw [if_neg y] at hc e
        rw [hc, h2]
        congr 1
        omega
    · rw [qc_ct_cg 72 (fun p a b => pk_un (by omega))]
      by_cases y : mk (72 * n + k) = 0
      · rw [if_pos y] at hc
        rw [hc, pk_un z, h2]
      · rw [if_neg y] at hc
        rw [hc, h2]
theorem xs_take60 {post : Int32 → SX → Prop} {n k : Nat} {x s v : Int32} {φ : Nat → Nat → Nat → Prop} (hn : n < 4) (hk : k < 72) (hx : x = 0 ∨ x = 1 ∨ x = 2) (h : qc_ag ag φ)
    (hp : ∀ ag', qc_ag ag' (fun a b q => φ a b q ∧ ((a = n ∨ b = n) → (2 ^ qc_pt k).testBit q = false)) → post 1 (kh, fk, fs, fv, zf, zc, up, upd mk (72 * n + k) x, upd ms (72 * n + k) s, upd mv (72 * n + k) v, mc, rk, rs, rv, rd, re, rf, rr, gk, gs, gv, ag', qN, qK, qD, qS, qV)) :
    wX_take_60 post (nI n) (nI k) x s v (nI (72 * n + k)) kh fk fs fv zf zc up mk ms mv mc rk rs rv rd re rf rr gk gs gv ag qN qK qD qS qV := by
  have hpt := qc_pt_lt hk
  unfold wX_take_60
  rw [qc_cl (n := 72 * n + k) (by omega), (qc_kb hx).1]
  refine ⟨qc_in (by omega) (by decide), nm_e ⟨qc_in (by omega) (by decide), nm_e ⟨qc_in (by omega) (by decide), nm_e (xs_part hk ?_)⟩⟩⟩
  rw [qc_1sh _ hpt]
  exact xs_changed hn (qc_pw hpt) h hp
theorem xs_take {post : Int32 → SX → Prop} {n k : Nat} {x s v : Int32} {o : qc_O} {G : qc_G} (hS : qc_XS mk ms mv mc rk rs rv rd re rf rr ag G) (hn : n < 4) (hk : k < 72) (ho : qc_rd x s v = o) (hok : qc_ok k o)
    (h : ∀ (a b c : Int32) (mk1 ms1 mv1 mc1 ag1 : Nat → Int32), qc_XS mk1 ms1 mv1 mc1 rk rs rv rd re rf rr ag1 (qc_set G n k (qc_mx (G n k) o)) → post (qc_b (qc_nw o (G n k))) (kh, a, b, c, zf, zc, up, mk1, ms1, mv1, mc1, rk, rs, rv, rd, re, rf, rr, gk, gs, gv, ag1, qN, qK, qD, qS, qV)) :
    wpX_take post (kh, fk, fs, fv, zf, zc, up, mk, ms, mv, mc, rk, rs, rv, rd, re, rf, rr, gk, gs, gv, ag, qN, qK, qD, qS, qV) (nI n) (nI k) x s v := by
  obtain ⟨hM, hR, hA, hW⟩ := hS
  unfold wpX_take
  refine xs_search hM hR hn hk (fun a b c e => ?_)
  refine xs_newer ?_
  rw [ho, e]
  cases hnw : qc_nw o (G n k) with
  | false =>
    have h' := h a b c mk ms mv mc ag (by rw [qc_mx_f hnw, qc_set_id]; exact ⟨hM, hR, hA, hW⟩)
    rw [hnw] at h'
    exact br_t rfl h'
  | true =>
    have hx : ¬ x = 0 := by
      intro z
      rw [qc_rd0 z] at ho
      rw [← ho] at hnw
      cases hnw
    rw [qc_rd1 hx] at ho
    subst ho
    have hx3 : x = 0 ∨ x = 1 ∨ x = 2 := by
      rcases (hok (x, s, v) rfl).1 with z | z
      · exact Or.inr (Or.inl z)
      · exact Or.inr (Or.inr z)
    rw [qc_mx_t hnw] at h
    rw [hnw] at h
    have key : ∀ mc1, (mc1 = if mk (72 * n + k) = 0 then upd mc n (nI (qc_ct mk (72 * n) 72 + 1)) else mc) → wX_take_60 post (nI n) (nI k) x s v (nI (72 * n + k)) kh a b c zf zc up mk ms mv mc1 rk rs rv rd re rf rr gk gs gv ag qN qK qD qS qV := by
      intro mc1 hc
      refine xs_take60 hn hk hx3 hA ?_
      intro ag' hag
      refine h a b c _ _ _ _ _ ⟨qc_xM_set hM hn hk hx hc, qc_xR_set hn hR, ?_, qc_WF_set hW hok⟩
      refine qc_ag_w hag ?_
      intro i j q hi hj hq hh k' hk' hpt
      by_cases y : k' = k
      · have hne : ¬ (i = n ∨ j = n) := by
          intro z
          have := hh.2 z
          rw [qc_pw_bit, ← y, hpt, decide_eq_true rfl] at this
          cases this
        rw [qc_set_n (fun z => hne (Or.inl z.1)), qc_set_n (fun z => hne (Or.inr z.1))]
        exact hh.1 k' hk' hpt
      · rw [qc_set_n (fun z => y z.2), qc_set_n (fun z => y z.2)]
        exact hh.1 k' hk' hpt
    refine br_f (by decide) (nm_r (qc_72 n k) ?_)
    rw [qc_cl (n := 72 * n + k) (by omega), qc_cl (n := n) (by omega)]
    refine ⟨qc_in (by omega) (by decide), br_c (fun h0 => ⟨qc_in (by omega) (by decide), qc_in (by omega) (by decide), nm_r (e' := upd mc n (nI (qc_ct mk (72 * n) 72 + 1))) ?_ (key _ (if_pos h0).symm)⟩) (fun h0 => key _ (if_neg h0).symm)⟩
    have hle := qc_ct_le mk (72 * n) 72
    rw [(hM n hn).2, nI_1, qc_vbb (by omega)]
end
end
section
section
variable {kh fk fs fv zf zc : Int32} {up mk ms mv mc rk rs rv rd re : Nat → Int32} {rf : Nat → Int64} {rr gk gs gv ag qN qK qD qS qV : Nat → Int32}
theorem xs_en4 {post : Int32 → SX → Prop} {n : Nat} {G : qc_G} (hM : qc_xM mk ms mv mc G) (hR : qc_xR rk rs rv rd re rf rr G) (hn : n < 4)
    (hp : ∀ a b c, post (nI (qc_en (G n) 64)) (kh, a, b, c, zf, zc, up, mk, ms, mv, mc, rk, rs, rv, rd, re, rf, rr, gk, gs, gv, ag, qN, qK, qD, qS, qV)) :
    ∀ (d i f : Nat) (fk fs fv : Int32), i + d = 64 → d < f → wX_entries_4 post (nI n) f (nI (qc_en (G n) i)) (nI i) kh fk fs fv zf zc up mk ms mv mc rk rs rv rd re rf rr gk gs gv ag qN qK qD qS qV := by
  intro d
  induction d with
  | zero =>
    intro i f fk fs fv hi hf
    obtain ⟨f', rfl⟩ : ∃ f', f = f' + 1 := ⟨f - 1, by omega⟩
    have : i = 64 := by omega
    subst this
    exact br_t (Int32.le_refl _) (hp fk fs fv)
  | succ d ih =>
    intro i f fk fs fv hi hf
    obtain ⟨f', rfl⟩ : ∃ f', f = f' + 1 := ⟨f - 1, by omega⟩
    refine br_f (nI_ge (b := 64) (by omega) (by decide)) ?_
    refine xs_search hM hR hn (show i < 72 by omega) (fun a b c e => ?_)
    refine br_c (fun h0 => nm_r (e' := nI (qc_en (G n) (i + 1))) ?_ (nm_r (nI_1 i) (ih (i + 1) f' a b c (by omega) (by omega)))) (fun h0 => nm_r (e' := nI (qc_en (G n) (i + 1))) ?_ (nm_r (nI_1 i) (ih (i + 1) f' a b c (by omega) (by omega))))
    · rw [qc_rd0 h0] at e
      show nI (qc_en (G n) i) + 0 = nI (qc_en (G n) i + (if G n i = none then 0 else 1))
      rw [if_pos e.symm, Int32.add_zero, Nat.add_zero]
    · rw [qc_rd1 h0] at e
      show nI (qc_en (G n) i) + 1 = nI (qc_en (G n) i + (if G n i = none then 0 else 1))
      rw [← e, if_neg (by simp), nI_1]
theorem xs_entries {post : Int32 → SX → Prop} {n : Nat} {G : qc_G} (hM : qc_xM mk ms mv mc G) (hR : qc_xR rk rs rv rd re rf rr G) (hn : n < 4)
    (hp : ∀ a b c, post (nI (qc_en (G n) 64)) (kh, a, b, c, zf, zc, up, mk, ms, mv, mc, rk, rs, rv, rd, re, rf, rr, gk, gs, gv, ag, qN, qK, qD, qS, qV)) : wpX_entries post (kh, fk, fs, fv, zf, zc, up, mk, ms, mv, mc, rk, rs, rv, rd, re, rf, rr, gk, gs, gv, ag, qN, qK, qD, qS, qV) (nI n) := by
  unfold wpX_entries
  exact ⟨65, xs_en4 hM hR hn hp 64 0 65 fk fs fv (by omega) (by omega)⟩
theorem xs_nr48 {post : SX → Prop} {i e : Nat} (hi : i < 16) (he : e < 577) (hp : post (kh, fk, fs, fv, zf, zc, up, mk, ms, mv, mc, rk, rs, rv, rd, upd re i (nI e), vp_updL rf i 0, rr, gk, gs, gv, ag, qN, qK, qD, qS, qV)) : wX_newRun_48 post (nI i) (nI e) (nI i) kh fk fs fv zf zc up mk ms mv mc rk rs rv rd re rf rr gk gs gv ag qN qK qD qS qV := by
  unfold wX_newRun_48
  rw [qc_cl (n := i) (by omega), qc_vss (by omega)]
  exact ⟨qc_in hi (by decide), nm_e ⟨qc_in hi (by decide), nm_e hp⟩⟩
theorem xs_newRun {post : SX → Prop} {n m : Nat} {E : Nat → Nat} (h : qc_run n rk re rf rr m E) (hn : n < 4) (hm : m < 4)
    (hp : post (kh, fk, fs, fv, zf, zc, up, mk, ms, mv, mc, rk, rs, rv, rd, upd re (4 * n + m) (nI (E m)), vp_updL rf (4 * n + m) 0, upd rr n (nI (m + 1)), gk, gs, gv, ag, qN, qK, qD, qS, qV)) : wpX_newRun post (kh, fk, fs, fv, zf, zc, up, mk, ms, mv, mc, rk, rs, rv, rd, re, rf, rr, gk, gs, gv, ag, qN, qK, qD, qS, qV) (nI n) := by
  have hE := qc_Eb h (r := m) (Nat.le_refl m)
  unfold wpX_newRun
  dsimp only
  rw [qc_cl (n := n) (by omega), h.1.1]
  refine ⟨qc_in hn (by decide), qc_in hn (by decide), nm_r (e' := upd rr n (nI (m + 1))) (by rw [nI_1, qc_vbb (by omega)]) (nm_r (qc_4 n m) ⟨qc_in hn (by decide), ?_⟩)⟩
  rw [pk_us]
  cases m with
  | zero =>
    refine br_t rfl ?_
    rw [qc_144, ← h.1.2.2.1]
    exact xs_nr48 (by omega) (by omega) hp
  | succ m =>
    refine br_f (fun z => absurd ((nI_eq (b := 1) (by omega) (by decide)).mp z) (by omega)) ?_
    rw [← Nat.add_assoc, nI_pred, qc_cl (n := 4 * n + m) (by omega), (h.2.1 m (by omega)).2]
    exact ⟨qc_in (by omega) (by decide), xs_nr48 (by omega) (by omega) hp⟩
theorem xs_app54 {post : SX → Prop} {i e j : Nat} {z s v : Int32} (hi : i < 16) (he : e < 576) (hz : z = 0 ∨ z = 1)
    (hp : post (kh, fk, fs, fv, zf, zc, up, mk, ms, mv, mc, rk, upd rs e s, upd rv e v, upd rd e z, re, vp_updL rf i (rf i ||| ((1 : Int64) <<< ((nI j).toInt64 &&& 63))), rr, gk, gs, gv, ag, qN, qK, qD, qS, qV)) : wX_append_54 post (nI j) s v (nI i) (nI e) z (nI e) kh fk fs fv zf zc up mk ms mv mc rk rs rv rd re rf rr gk gs gv ag qN qK qD qS qV := by
  have hzz : vp_nar .boolean z = z := by rcases hz with hz | hz <;> rw [hz] <;> rfl
  unfold wX_append_54
  rw [qc_cl (n := e) (by omega), qc_cl (n := i) (by omega), hzz]
  exact ⟨qc_in he (by decide), nm_e ⟨qc_in he (by decide), nm_e ⟨qc_in he (by decide), nm_e ⟨qc_in hi (by decide), qc_in hi (by decide), nm_e hp⟩⟩⟩⟩
theorem xs_append {post : SX → Prop} {n m e j : Nat} {x s v : Int32} (hn : n < 4) (hm : m < 4) (hr : rr n = nI (m + 1)) (hre : re (4 * n + m) = nI e) (he : e < 576) (hj : j < 72)
    (hp : post (kh, fk, fs, fv, zf, zc, up, mk, ms, mv, mc, upd rk e (nI j), upd rs e s, upd rv e v, upd rd e (if x = 2 then 1 else 0), upd re (4 * n + m) (nI (e + 1)), vp_updL rf (4 * n + m) (rf (4 * n + m) ||| ((1 : Int64) <<< ((nI j).toInt64 &&& 63))), rr, gk, gs, gv, ag, qN, qK, qD, qS, qV)) :
    wpX_append post (kh, fk, fs, fv, zf, zc, up, mk, ms, mv, mc, rk, rs, rv, rd, re, rf, rr, gk, gs, gv, ag, qN, qK, qD, qS, qV) (nI n) (nI j) x s v := by
  unfold wpX_append
  dsimp only
  rw [qc_cl (n := n) (by omega), hr]
  refine ⟨qc_in hn (by decide), nm_r (qc_4m n m) ?_⟩
  rw [qc_cl (n := 4 * n + m) (by omega), hre]
  refine ⟨qc_in (by omega) (by decide), qc_in (by omega) (by decide), nm_r (e' := upd re (4 * n + m) (nI (e + 1))) (by rw [nI_1, qc_vss (by omega)]) (nm_e ?_)⟩
  rw [qc_cl (n := e) (by omega), qc_vbb (by omega)]
  refine ⟨qc_in he (by decide), nm_e (br_c (fun h2 => ?_) (fun h2 => ?_))⟩
  · rw [if_pos h2] at hp
    exact xs_app54 (by omega) he (Or.inr rfl) hp
  · rw [if_neg h2] at hp
    exact xs_app54 (by omega) he (Or.inl rfl) hp
theorem xs_fo5 {post : SX → Prop} {n : Nat} (hn : n < 4)
    (hp : ∀ mk1 : Nat → Int32, (∀ p, 72 * n ≤ p → p < 72 * n + 72 → mk1 p = 0) → (∀ p, (p < 72 * n ∨ 72 * n + 72 ≤ p) → mk1 p = mk p) → post (kh, fk, fs, fv, zf, zc, up, mk1, ms, mv, upd mc n 0, rk, rs, rv, rd, re, rf, rr, gk, gs, gv, ag, qN, qK, qD, qS, qV)) :
    ∀ (d i f : Nat) (mk1 : Nat → Int32), i + d = 72 → d < f → (∀ p, 72 * n ≤ p → p < 72 * n + i → mk1 p = 0) → (∀ p, (p < 72 * n ∨ 72 * n + 72 ≤ p) → mk1 p = mk p) →
      wX_forget_5 post (nI n) kh fk fs fv zf zc f (nI (72 * n + i)) up mk1 ms mv mc rk rs rv rd re rf rr gk gs gv ag qN qK qD qS qV := by
  have e72 : 72 * nI n + 72 = nI (72 * n + 72) := qc_72 n 72
  intro d
  induction d with
  | zero =>
    intro i f mk1 hi hf h1 h2
    obtain ⟨f', rfl⟩ : ∃ f', f = f' + 1 := ⟨f - 1, by omega⟩
    have : i = 72 := by omega
    subst this
    refine br_t (by rw [e72]; exact Int32.le_refl _) ?_
    rw [qc_cl (n := n) (by omega), qc_by0]
    exact ⟨qc_in hn (by decide), nm_e (hp mk1 h1 h2)⟩
  | succ d ih =>
    intro i f mk1 hi hf h1 h2
    obtain ⟨f', rfl⟩ : ∃ f', f = f' + 1 := ⟨f - 1, by omega⟩
    refine br_f (by rw [e72]; exact nI_ge (by omega) (by omega)) ?_
    rw [qc_cl (n := 72 * n + i) (by omega), qc_by0]
    refine ⟨qc_in (by omega) (by decide), nm_e (nm_r (nI_1 _) (ih (i + 1) f' _ (by omega) (by omega) ?_ ?_))⟩
    · intro p a b
      by_cases z : p = 72 * n + i
      · rw [z, pk_us]
      · rw [pk_un z]; exact h1 p a (by omega)
    · intro p a
      rw [pk_un (by omega)]
      exact h2 p a
theorem xs_forget {post : SX → Prop} {n : Nat} (hn : n < 4)
    (hp : ∀ mk1 : Nat → Int32, (∀ p, 72 * n ≤ p → p < 72 * n + 72 → mk1 p = 0) → (∀ p, (p < 72 * n ∨ 72 * n + 72 ≤ p) → mk1 p = mk p) → post (kh, fk, fs, fv, zf, zc, up, mk1, ms, mv, upd mc n 0, rk, rs, rv, rd, re, rf, rr, gk, gs, gv, ag, qN, qK, qD, qS, qV)) : wpX_forget post (kh, fk, fs, fv, zf, zc, up, mk, ms, mv, mc, rk, rs, rv, rd, re, rf, rr, gk, gs, gv, ag, qN, qK, qD, qS, qV) (nI n) := by
  unfold wpX_forget
  refine nm_r (qc_72z n) ⟨73, ?_⟩
  exact xs_fo5 hn hp 72 0 73 mk (by omega) (by omega) (fun p a b => by omega) (fun p _ => rfl)
theorem qc_rd_upd {gk gs gv : Nat → Int32} {j k : Nat} {x s v : Int32} (hx : ¬ x = 0) : qc_rd (upd gk j x k) (upd gs j s k) (upd gv j v k) = if k = j then some (x, s, v) else qc_rd (gk k) (gs k) (gv k) := by
  by_cases z : k = j
  · rw [if_pos z, z, pk_us, pk_us, pk_us, qc_rd1 hx]
  · rw [if_neg z, pk_un z, pk_un z, pk_un z]
theorem xs_co91 {post : SX → Prop} {J : Int32 → (Nat → Int32) → (Nat → Int32) → (Nat → Int32) → (Nat → Int32) → (Nat → Int32) → (Nat → Int32) → (Nat → Int32) → (Nat → Int32) → (Nat → Int32) → (Nat → Int32) → (Nat → Int64) → (Nat → Int32) → (Nat → Int32) → (Nat → Int32) → (Nat → Int32) → (Nat → Int32) → (Nat → Int32) → (Nat → Int32) → (Nat → Int32) → (Nat → Int32) → (Nat → Int32) → Prop}
    {x2 z : Int32} {p j : Nat} (hp : p < 576) (hj : j < 72) (hz : z = 0 ∨ z = 1 ∨ z = 2) (h : J (nI (p + 1)) up mk ms mv mc rk rs rv rd re rf rr (upd gk j z) (upd gs j (rs p)) (upd gv j (rv p)) ag qN qK qD qS qV) : wX_collect_91 post J x2 (nI p) (nI j) z (nI j) kh fk fs fv zf zc up mk ms mv mc rk rs rv rd re rf rr gk gs gv ag qN qK qD qS qV := by
  unfold wX_collect_91
  rw [qc_cl (n := j) (by omega), qc_cl (n := p) (by omega), (qc_kb hz).1]
  exact ⟨qc_in hj (by decide), nm_e ⟨qc_in hp (by decide), qc_in hj (by decide), nm_e ⟨qc_in hp (by decide), qc_in hj (by decide), nm_e (nm_r (nI_1 p) h)⟩⟩⟩
theorem xs_co58 {post : SX → Prop} {lo e : Nat} (he : e ≤ 576) (hkey : ∀ p, lo ≤ p → p < e → ∃ j, j < 72 ∧ rk p = nI j)
    (hp : ∀ gk gs gv : Nat → Int32, (∀ k, k < 72 → qc_rd (gk k) (gs k) (gv k) = qc_cn rk rd rs rv k lo (e - lo)) → post (kh, fk, fs, fv, zf, zc, up, mk, ms, mv, mc, rk, rs, rv, rd, re, rf, rr, gk, gs, gv, ag, qN, qK, qD, qS, qV)) :
    ∀ (d f : Nat) (gk gs gv : Nat → Int32), d ≤ e - lo → e - lo - d < f → lo ≤ e → (∀ k, k < 72 → qc_rd (gk k) (gs k) (gv k) = qc_cn rk rd rs rv k lo d) →
      wX_collect_58 post (nI e) kh fk fs fv zf zc f (nI (lo + d)) up mk ms mv mc rk rs rv rd re rf rr gk gs gv ag qN qK qD qS qV := by
  intro d f
  induction f generalizing d with
  | zero => intro gk gs gv hd hf; omega
  | succ f ih =>
    intro gk gs gv hd hf hle hg
    rcases Nat.lt_or_ge (lo + d) e with z | z
    · refine br_f (nI_ge z (by omega)) ?_
      obtain ⟨j, hj, hrk⟩ := hkey (lo + d) (by omega) z
      rw [qc_cl (n := lo + d) (by omega), hrk]
      have key : ∀ x : Int32, (x = 1 ∨ x = 2) → x = (if rd (lo + d) = 0 then 1 else 2) → ∀ k, k < 72 → qc_rd (upd gk j x k) (upd gs j (rs (lo + d)) k) (upd gv j (rv (lo + d)) k) = qc_cn rk rd rs rv k lo (d + 1) := by
        intro x hx hxe k hk
        have hx0 : ¬ x = 0 := by rcases hx with hx | hx <;> rw [hx] <;> decide
        rw [qc_rd_upd hx0]
        by_cases y : k = j
        · rw [if_pos y, qc_cn_t (by rw [hrk, y])]
          unfold qc_at
          rw [hxe]
        · rw [if_neg y, qc_cn_f (by rw [hrk, nI_eq (by omega) (by omega)]; exact fun w => y w.symm)]
          exact hg k hk
      refine ⟨qc_in (by omega) (by decide), nm_e ⟨qc_in (by omega) (by decide), br_c (fun h0 => ?_) (fun h0 => ?_)⟩⟩
      · refine xs_co91 (by omega) hj (Or.inr (Or.inl rfl)) ?_
        exact ih (d + 1) _ _ _ (by omega) (by omega) hle (key 1 (Or.inl rfl) (if_pos h0).symm)
      · refine xs_co91 (by omega) hj (Or.inr (Or.inr rfl)) ?_
        exact ih (d + 1) _ _ _ (by omega) (by omega) hle (key 2 (Or.inr rfl) (if_neg h0).symm)
    · refine br_t (nI_le z (by omega)) (hp gk gs gv ?_)
      have : e - lo = d := by omega
      rw [this]
      exact hg
theorem xs_co2 {post : SX → Prop} {n m : Nat} {E : Nat → Nat} (h : qc_run n rk re rf rr m E) (hn : n < 4)
    (hp : ∀ gk gs gv : Nat → Int32, (∀ k, k < 72 → qc_rd (gk k) (gs k) (gv k) = qc_cn rk rd rs rv k (144 * n) (E m - 144 * n)) → post (kh, fk, fs, fv, zf, zc, up, mk, ms, mv, mc, rk, rs, rv, rd, re, rf, rr, gk, gs, gv, ag, qN, qK, qD, qS, qV)) :
    ∀ (d i f : Nat) (gk : Nat → Int32), i + d = 72 → d < f → (∀ k, k < i → gk k = 0) → wX_collect_2 post (nI n) kh fk fs fv zf zc f (nI i) up mk ms mv mc rk rs rv rd re rf rr gk gs gv ag qN qK qD qS qV := by
  have hE := qc_Eb h (r := m) (Nat.le_refl m)
  have hm := h.1.2.1
  intro d
  induction d with
  | zero =>
    intro i f gk hi hf hz
    obtain ⟨f', rfl⟩ : ∃ f', f = f' + 1 := ⟨f - 1, by omega⟩
    have : i = 72 := by omega
    subst this
    have hz' : ∀ k, k < 72 → qc_rd (gk k) (gs k) (gv k) = qc_cn rk rd rs rv k (144 * n) 0 := fun k hk => qc_rd0 (hz k hk)
    refine br_t (Int32.le_refl _) ?_
    rw [qc_cl (n := n) (by omega), h.1.1]
    refine ⟨qc_in hn (by decide), ?_⟩
    cases m with
    | zero =>
      refine br_t rfl (nm_r (qc_144 n) ⟨1, ?_⟩)
      refine br_t (nI_pos' (by omega)) (hp gk gs gv ?_)
      rw [h.1.2.2.1, Nat.sub_self]
      exact hz'
    | succ m =>
      refine br_f (nI_ne0 (by omega) (by omega)) ?_
      rw [qc_4m, qc_cl (n := 4 * n + m) (by omega), (h.2.1 m (by omega)).2]
      refine ⟨qc_in hn (by decide), qc_in (by omega) (by decide), nm_e (nm_r (qc_144 n) ⟨600, ?_⟩)⟩
      exact xs_co58 (lo := 144 * n) (e := E (m + 1)) (by omega) (fun p a b => qc_run_key h a b) hp 0 600 gk gs gv (by omega) (by omega) (by omega) hz'
  | succ d ih =>
    intro i f gk hi hf hz
    obtain ⟨f', rfl⟩ : ∃ f', f = f' + 1 := ⟨f - 1, by omega⟩
    refine br_f (nI_ge (b := 72) (by omega) (by decide)) ?_
    rw [qc_cl (n := i) (by omega), qc_by0]
    refine ⟨qc_in (by omega) (by decide), nm_e (nm_r (nI_1 i) (ih (i + 1) f' _ (by omega) (by omega) ?_))⟩
    intro k hk
    by_cases z : k = i
    · rw [z, pk_us]
    · rw [pk_un z]; exact hz k (by omega)
theorem xs_collect {post : SX → Prop} {n m : Nat} {E : Nat → Nat} (h : qc_run n rk re rf rr m E) (hn : n < 4)
    (hp : ∀ gk gs gv : Nat → Int32, (∀ k, k < 72 → qc_rd (gk k) (gs k) (gv k) = qc_cn rk rd rs rv k (144 * n) (E m - 144 * n)) → post (kh, fk, fs, fv, zf, zc, up, mk, ms, mv, mc, rk, rs, rv, rd, re, rf, rr, gk, gs, gv, ag, qN, qK, qD, qS, qV)) : wpX_collect post (kh, fk, fs, fv, zf, zc, up, mk, ms, mv, mc, rk, rs, rv, rd, re, rf, rr, gk, gs, gv, ag, qN, qK, qD, qS, qV) (nI n) := by
  unfold wpX_collect
  exact ⟨73, xs_co2 h hn hp 72 0 73 gk (by omega) (by omega) (fun k hk => by omega)⟩
end
end
section
def qc_AP (n m e0 : Nat) (old : Nat → qc_O) (rk0 rs0 rv0 rd0 re0 : Nat → Int32) (rf0 : Nat → Int64) (rr0 : Nat → Int32) (rk rs rv rd re : Nat → Int32) (rf : Nat → Int64) (rr : Nat → Int32) (ak bk ck : Nat → Int32) (lo K : Nat) : Prop :=
  ∃ E : Nat → Nat, qc_run n rk re rf rr (m + 1) E ∧ qc_fr n rk0 rs0 rv0 rd0 re0 rf0 rr0 rk rs rv rd re rf rr ∧ (∀ p, E m ≤ p → p < E (m + 1) → ∃ j, j < K ∧ rk p = nI j) ∧ E (m + 1) = e0 + qc_ct ak lo K ∧
    ∀ k, k < 72 → qc_cn rk rd rs rv k (144 * n) (E (m + 1) - 144 * n) = if k < K then (qc_rd (ak (lo + k)) (bk (lo + k)) (ck (lo + k))).or (old k) else old k
def qc_emp (n : Nat) (mk mc mk1 mc1 : Nat → Int32) : Prop :=
  (∀ p, 72 * n ≤ p → p < 72 * n + 72 → mk1 p = 0) ∧ (∀ p, (p < 72 * n ∨ 72 * n + 72 ≤ p) → mk1 p = mk p) ∧ mc1 n = 0 ∧ ∀ i, i ≠ n → mc1 i = mc i
theorem qc_emp_r {n : Nat} {mk mc : Nat → Int32} (h : mc n = nI (qc_ct mk (72 * n) 72)) (h0 : mc n = 0) : qc_emp n mk mc mk mc := by
  have hle := qc_ct_le mk (72 * n) 72
  rw [h] at h0
  have h1 : qc_ct mk (72 * n) 72 = 0 := (nI_eq (b := 0) (by omega) (by decide)).mp h0
  exact ⟨qc_ct_z 72 h1, fun _ _ => rfl, by rw [h, h1]; rfl, fun _ _ => rfl⟩
theorem qc_emp_f {n : Nat} {mk mc mk1 : Nat → Int32} (h1 : ∀ p, 72 * n ≤ p → p < 72 * n + 72 → mk1 p = 0) (h2 : ∀ p, (p < 72 * n ∨ 72 * n + 72 ≤ p) → mk1 p = mk p) : qc_emp n mk mc mk1 (upd mc n 0) :=
  ⟨h1, h2, pk_us, fun _ hi => pk_un hi⟩
theorem qc_xM_emp {n : Nat} {mk ms mv mc mk1 mc1 : Nat → Int32} {G G' : qc_G} (hM : qc_xM mk ms mv mc G) (he : qc_emp n mk mc mk1 mc1) (hn : n < 4)
    (hG : ∀ n', n' < 4 → n' ≠ n → ∀ k, k < 72 → G' n' k = G n' k ∧ G' (4 + n') k = G (4 + n') k) (hs : ∀ k, k < 72 → G' n k = G' (4 + n) k) : qc_xM mk1 ms mv mc1 G' := by
  intro n' hn'
  obtain ⟨h1, h2⟩ := hM n' hn'
  by_cases z : n' = n
  · subst z
    refine ⟨fun k hk => ?_, ?_⟩
    · rw [qc_rd0 (he.1 (72 * n' + k) (by omega) (by omega)), Option.none_or]
      exact hs k hk
    · rw [he.2.2.1, qc_ct_0 72 he.1]
      rfl
  · refine ⟨fun k hk => ?_, ?_⟩
    · rw [he.2.1 (72 * n' + k) (by omega), (hG n' hn' z k hk).1, (hG n' hn' z k hk).2]
      exact h1 k hk
    · rw [he.2.2.2 n' z, h2, qc_ct_cg 72 (fun p a b => he.2.1 p (by omega))]
section
variable {n : Nat} {rk rs rv rd re : Nat → Int32} {rf : Nat → Int64} {rr : Nat → Int32}
variable {rk1 rs1 rv1 rd1 re1 : Nat → Int32} {rf1 : Nat → Int64} {rr1 : Nat → Int32}
theorem qc_RN_cg {g g' : Nat → qc_O} (h : qc_RN n rk rs rv rd re rf rr g) (e : ∀ k, k < 72 → g' k = g k) : qc_RN n rk rs rv rd re rf rr g' := by
  obtain ⟨m, E, h1, h2⟩ := h
  exact ⟨m, E, h1, fun k hk => (e k hk).trans (h2 k hk)⟩
theorem qc_xR_fr {G G' : qc_G} (h : qc_xR rk rs rv rd re rf rr G) (hf : qc_fr n rk rs rv rd re rf rr rk1 rs1 rv1 rd1 re1 rf1 rr1) (hn : qc_RN n rk1 rs1 rv1 rd1 re1 rf1 rr1 (G' (4 + n))) (hG : ∀ n', n' < 4 → n' ≠ n → ∀ k, k < 72 → G' (4 + n') k = G (4 + n') k) : qc_xR rk1 rs1 rv1 rd1 re1 rf1 rr1 G' := by
  intro n' hn'
  by_cases z : n' = n
  · subst z; exact hn
  · exact qc_RN_cg (qc_RN_fr hf z (h n' hn')) (hG n' hn' z)
end
section
variable {kh fk fs fv zf zc : Int32} {up mk ms mv mc rk rs rv rd re : Nat → Int32} {rf : Nat → Int64} {rr gk gs gv ag qN qK qD qS qV : Nat → Int32}
variable {rk0 rs0 rv0 rd0 re0 : Nat → Int32} {rf0 : Nat → Int64} {rr0 : Nat → Int32}
variable {ak bk ck : Nat → Int32}
theorem qc_AP_skip {n m e0 lo K : Nat} {old : Nat → qc_O} (h : qc_AP n m e0 old rk0 rs0 rv0 rd0 re0 rf0 rr0 rk rs rv rd re rf rr ak bk ck lo K) (hz : ak (lo + K) = 0) : qc_AP n m e0 old rk0 rs0 rv0 rd0 re0 rf0 rr0 rk rs rv rd re rf rr ak bk ck lo (K + 1) := by
  obtain ⟨E, h1, h2, h3, h4, h5⟩ := h
  refine ⟨E, h1, h2, ?_, ?_, ?_⟩
  · intro p a b
    obtain ⟨j, hj, e⟩ := h3 p a b
    exact ⟨j, by omega, e⟩
  · rw [h4]
    show _ = e0 + (qc_ct ak lo K + (if ak (lo + K) = 0 then 0 else 1))
    rw [if_pos hz, Nat.add_zero]
  · intro k hk
    rw [h5 k hk]
    by_cases z : k = K
    · rw [z, if_neg (by omega), if_pos (by omega), qc_rd0 hz, Option.none_or]
    · by_cases y : k < K
      · rw [if_pos y, if_pos (by omega)]
      · rw [if_neg y, if_neg (by omega)]
theorem xs_ap {post : SX → Prop} {n m e0 lo K : Nat} {old : Nat → qc_O} (hn : n < 4) (hm : m < 4) (h : qc_AP n m e0 old rk0 rs0 rv0 rd0 re0 rf0 rr0 rk rs rv rd re rf rr ak bk ck lo K) (hK : K < 72)
    (hroom : e0 + qc_ct ak lo K < 144 * n + 144) (hx : ak (lo + K) = 1 ∨ ak (lo + K) = 2)
    (hp : ∀ (rk1 rs1 rv1 rd1 re1 : Nat → Int32) (rf1 : Nat → Int64) (rr1 : Nat → Int32), qc_AP n m e0 old rk0 rs0 rv0 rd0 re0 rf0 rr0 rk1 rs1 rv1 rd1 re1 rf1 rr1 ak bk ck lo (K + 1) → post (kh, fk, fs, fv, zf, zc, up, mk, ms, mv, mc, rk1, rs1, rv1, rd1, re1, rf1, rr1, gk, gs, gv, ag, qN, qK, qD, qS, qV)) :
    wpX_append post (kh, fk, fs, fv, zf, zc, up, mk, ms, mv, mc, rk, rs, rv, rd, re, rf, rr, gk, gs, gv, ag, qN, qK, qD, qS, qV) (nI n) (nI K) (ak (lo + K)) (bk (lo + K)) (ck (lo + K)) := by
  obtain ⟨E, h1, h2, h3, h4, h5⟩ := h
  have hE := qc_Eb h1 (r := m + 1) (Nat.le_refl _)
  have hx0 : ¬ ak (lo + K) = 0 := by rcases hx with hx | hx <;> rw [hx] <;> decide
  refine xs_append hn hm h1.1.1 (h1.2.1 m (by omega)).2 (by omega) hK ?_
  apply hp
  refine ⟨qc_uE E (m + 1) (E (m + 1) + 1), qc_run_app h1 (by omega) hK ?_, qc_fr_t h2 (qc_fr_app (j := K) hm (by omega) (by omega)), ?_, ?_, ?_⟩
  · intro p a b
    obtain ⟨j, hj, e⟩ := h3 p a b
    rw [e]
    exact nI_lt hj (by omega)
  · intro p a b
    rw [qc_uEs] at b
    rw [qc_uEn (by omega)] at a
    by_cases z : p = E (m + 1)
    · exact ⟨K, by omega, by rw [z, pk_us]⟩
    · obtain ⟨j, hj, e⟩ := h3 p a (by omega)
      exact ⟨j, by omega, by rw [pk_un z, e]⟩
  · rw [qc_uEs, h4]
    show _ = e0 + (qc_ct ak lo K + (if ak (lo + K) = 0 then 0 else 1))
    rw [if_neg hx0]
    omega
  · intro k hk
    rw [qc_uEs, qc_cn_app hE.1 hK hk hx]
    by_cases z : k = K
    · rw [if_pos z, z, if_pos (by omega), qc_rd1 hx0, Option.some_or]
    · rw [if_neg z, h5 k hk]
      by_cases y : k < K
      · rw [if_pos y, if_pos (by omega)]
      · rw [if_neg y, if_neg (by omega)]
theorem qc_AP_0 {n m : Nat} {E : Nat → Nat} {old : Nat → qc_O} {lo : Nat} (h : qc_run n rk re rf rr m E) (hm : m < 4) (hf : qc_fr n rk0 rs0 rv0 rd0 re0 rf0 rr0 rk rs rv rd re rf rr) (hc : ∀ k, k < 72 → qc_cn rk rd rs rv k (144 * n) (E m - 144 * n) = old k) :
    qc_AP n m (E m) old rk0 rs0 rv0 rd0 re0 rf0 rr0 rk rs rv rd (upd re (4 * n + m) (nI (E m))) (vp_updL rf (4 * n + m) 0) (upd rr n (nI (m + 1))) ak bk ck lo 0 := by
  refine ⟨_, qc_run_new h hm, qc_fr_t hf (qc_fr_new hm), ?_, ?_, ?_⟩
  · intro p a b
    rw [qc_uEs] at b
    rw [qc_uEn (by omega)] at a
    omega
  · rw [qc_uEs]; rfl
  · intro k hk
    rw [qc_uEs, if_neg (by omega)]
    exact hc k hk
theorem xs_rw14 {post : SX → Prop} {n : Nat} (hn : n < 4) (hg : ∀ k, k < 72 → gk k = 0 ∨ gk k = 1 ∨ gk k = 2)
    (hp : ∀ (rk1 rs1 rv1 rd1 re1 : Nat → Int32) (rf1 : Nat → Int64) (rr1 : Nat → Int32), qc_AP n 0 (144 * n) (fun _ => none) rk0 rs0 rv0 rd0 re0 rf0 rr0 rk1 rs1 rv1 rd1 re1 rf1 rr1 gk gs gv 0 72 → post (kh, fk, fs, fv, zf, zc, up, mk, ms, mv, mc, rk1, rs1, rv1, rd1, re1, rf1, rr1, gk, gs, gv, ag, qN, qK, qD, qS, qV)) :
    ∀ (d K f : Nat) (rk rs rv rd re : Nat → Int32) (rf : Nat → Int64) (rr : Nat → Int32), K + d = 72 → d < f → qc_AP n 0 (144 * n) (fun _ => none) rk0 rs0 rv0 rd0 re0 rf0 rr0 rk rs rv rd re rf rr gk gs gv 0 K → wX_rewrite_14 post (nI n) f (nI K) kh fk fs fv zf zc up mk ms mv mc rk rs rv rd re rf rr gk gs gv ag qN qK qD qS qV := by
  intro d
  induction d with
  | zero =>
    intro K f rk rs rv rd re rf rr hi hf h
    obtain ⟨f', rfl⟩ : ∃ f', f = f' + 1 := ⟨f - 1, by omega⟩
    have : K = 72 := by omega
    subst this
    exact br_t (Int32.le_refl _) (hp rk rs rv rd re rf rr h)
  | succ d ih =>
    intro K f rk rs rv rd re rf rr hi hf h
    obtain ⟨f', rfl⟩ : ∃ f', f = f' + 1 := ⟨f - 1, by omega⟩
    have hle := qc_ct_le gk 0 K
    refine br_f (nI_ge (b := 72) (by omega) (by decide)) ?_
    rw [qc_cl (n := K) (by omega)]
    refine ⟨qc_in (by omega) (by decide), br_c (fun h0 => ?_) (fun h0 => ?_)⟩
    · exact nm_r (nI_1 K) (ih (K + 1) f' rk rs rv rd re rf rr (by omega) (by omega) (qc_AP_skip h (by rw [Nat.zero_add]; exact h0)))
    · refine ⟨qc_in (by omega) (by decide), qc_in (by omega) (by decide), qc_in (by omega) (by decide), ?_⟩
      have h12 : gk (0 + K) = 1 ∨ gk (0 + K) = 2 := by
        rw [Nat.zero_add]
        rcases hg K (by omega) with z | z
        · exact absurd z h0
        · exact z
      have key := xs_ap (post := fun u => match u with | (kh9, fk9, fs9, fv9, zf9, zc9, up9, mk9, ms9, mv9, mc9, rk9, rs9, rv9, rd9, re9, rf9, rr9, gk9, gs9, gv9, ag9, qN9, qK9, qD9, qS9, qV9) => ∀ x2_66 : Int32, x2_66 = nI K + 1 → wX_rewrite_14 post (nI n) f' x2_66 kh9 fk9 fs9 fv9 zf9 zc9 up9 mk9 ms9 mv9 mc9 rk9 rs9 rv9 rd9 re9 rf9 rr9 gk9 gs9 gv9 ag9 qN9 qK9 qD9 qS9 qV9) hn (by decide) h (by omega) (by omega) h12 (fun rk1 rs1 rv1 rd1 re1 rf1 rr1 hh => nm_r (nI_1 K) (ih (K + 1) f' rk1 rs1 rv1 rd1 re1 rf1 rr1 (by omega) (by omega) hh))
      rw [Nat.zero_add] at key
      exact key
theorem xs_rewrite {post : SX → Prop} {n : Nat} (hn : n < 4) (hg : ∀ k, k < 72 → gk k = 0 ∨ gk k = 1 ∨ gk k = 2)
    (hp : ∀ (rk1 rs1 rv1 rd1 re1 : Nat → Int32) (rf1 : Nat → Int64) (rr1 : Nat → Int32), qc_AP n 0 (144 * n) (fun _ => none) rk rs rv rd re rf rr rk1 rs1 rv1 rd1 re1 rf1 rr1 gk gs gv 0 72 → post (kh, fk, fs, fv, zf, zc, up, mk, ms, mv, mc, rk1, rs1, rv1, rd1, re1, rf1, rr1, gk, gs, gv, ag, qN, qK, qD, qS, qV)) : wpX_rewrite post (kh, fk, fs, fv, zf, zc, up, mk, ms, mv, mc, rk, rs, rv, rd, re, rf, rr, gk, gs, gv, ag, qN, qK, qD, qS, qV) (nI n) := by
  unfold wpX_rewrite
  dsimp only
  rw [qc_cl (n := n) (by omega), qc_by0]
  have hr : qc_run n rk re rf (upd rr n 0) 0 (fun _ => 144 * n) := ⟨⟨pk_us, by omega, rfl, Nat.le_add_right _ _⟩, fun r hr => by omega, fun r hr => by omega, fun r hr => by omega⟩
  refine ⟨qc_in hn (by decide), nm_e (xs_newRun hr hn (by decide) ⟨73, ?_⟩)⟩
  refine xs_rw14 (rk0 := rk) (rs0 := rs) (rv0 := rv) (rd0 := rd) (re0 := re) (rf0 := rf) (rr0 := rr) hn hg hp 72 0 73 _ _ _ _ _ _ _ (by omega) (by omega) ?_
  refine qc_AP_0 (E := fun _ => 144 * n) hr (by decide) qc_fr_rr ?_
  intro k hk
  rw [Nat.sub_self]
  rfl
theorem xs_sp88 {post : SX → Prop} {n m e0 : Nat} {old : Nat → qc_O} (hn : n < 4) (hm : m < 4) (hg : ∀ k, k < 72 → mk (72 * n + k) = 0 ∨ mk (72 * n + k) = 1 ∨ mk (72 * n + k) = 2) (hroom : e0 + qc_ct mk (72 * n) 72 ≤ 144 * n + 144)
    (hp : ∀ (mk1 : Nat → Int32) (rk1 rs1 rv1 rd1 re1 : Nat → Int32) (rf1 : Nat → Int64) (rr1 : Nat → Int32), qc_AP n m e0 old rk0 rs0 rv0 rd0 re0 rf0 rr0 rk1 rs1 rv1 rd1 re1 rf1 rr1 mk ms mv (72 * n) 72 → qc_emp n mk mc mk1 (upd mc n 0) → post (kh, fk, fs, fv, zf, zc, up, mk1, ms, mv, upd mc n 0, rk1, rs1, rv1, rd1, re1, rf1, rr1, gk, gs, gv, ag, qN, qK, qD, qS, qV)) :
    ∀ (d K f : Nat) (rk rs rv rd re : Nat → Int32) (rf : Nat → Int64) (rr : Nat → Int32), K + d = 72 → d < f → qc_AP n m e0 old rk0 rs0 rv0 rd0 re0 rf0 rr0 rk rs rv rd re rf rr mk ms mv (72 * n) K → wX_spill_88 post (nI n) f (nI K) kh fk fs fv zf zc up mk ms mv mc rk rs rv rd re rf rr gk gs gv ag qN qK qD qS qV := by
  have hmono : ∀ d K, K + d = 72 → qc_ct mk (72 * n) K ≤ qc_ct mk (72 * n) 72 ∧ (0 < d → ¬ mk (72 * n + K) = 0 → qc_ct mk (72 * n) K < qc_ct mk (72 * n) 72) := by
    intro d
    induction d with
    | zero => intro K hK; have : K = 72 := by omega
              subst this; exact ⟨Nat.le_refl _, fun z => by omega⟩
    | succ d ih =>
      intro K hK
      have a := (ih (K + 1) (by omega)).1
      have b : qc_ct mk (72 * n) (K + 1) = qc_ct mk (72 * n) K + (if mk (72 * n + K) = 0 then 0 else 1) := rfl
      refine ⟨by omega, fun _ z => ?_⟩
      rw [if_neg z] at b
      omega
  intro d
  induction d with
  | zero =>
    intro K f rk rs rv rd re rf rr hi hf h
    obtain ⟨f', rfl⟩ : ∃ f', f = f' + 1 := ⟨f - 1, by omega⟩
    have : K = 72 := by omega
    subst this
    refine br_t (Int32.le_refl _) (xs_forget hn (fun mk1 h1 h2 => ?_))
    exact hp mk1 rk rs rv rd re rf rr h (qc_emp_f h1 h2)
  | succ d ih =>
    intro K f rk rs rv rd re rf rr hi hf h
    obtain ⟨f', rfl⟩ : ∃ f', f = f' + 1 := ⟨f - 1, by omega⟩
    have hmo := hmono (d + 1) K hi
    refine br_f (nI_ge (b := 72) (by omega) (by decide)) (nm_r (qc_72 n K) ?_)
    rw [qc_cl (n := 72 * n + K) (by omega)]
    refine ⟨qc_in (by omega) (by decide), br_c (fun h0 => ?_) (fun h0 => ?_)⟩
    · exact nm_r (nI_1 K) (ih (K + 1) f' rk rs rv rd re rf rr (by omega) (by omega) (qc_AP_skip h h0))
    · refine ⟨qc_in (by omega) (by decide), qc_in (by omega) (by decide), qc_in (by omega) (by decide), ?_⟩
      have h12 : mk (72 * n + K) = 1 ∨ mk (72 * n + K) = 2 := by
        rcases hg K (by omega) with z | z
        · exact absurd z h0
        · exact z
      have hlt := hmo.2 (by omega) h0
      exact xs_ap hn hm h (by omega) (by omega) h12 (fun rk1 rs1 rv1 rd1 re1 rf1 rr1 hh => nm_r (nI_1 K) (ih (K + 1) f' rk1 rs1 rv1 rd1 re1 rf1 rr1 (by omega) (by omega) hh))
theorem xs_sp71 {post : SX → Prop} {n m : Nat} {E : Nat → Nat} {G : qc_G} (hn : n < 4) (hM : qc_xM mk ms mv mc G) (hW : qc_WF G) (hr : qc_run n rk re rf rr m E) (hm : m < 4) (hroom : E m + qc_ct mk (72 * n) 72 ≤ 144 * n + 144)
    (hc : ∀ k, k < 72 → G (4 + n) k = qc_cn rk rd rs rv k (144 * n) (E m - 144 * n)) (hfr : qc_fr n rk0 rs0 rv0 rd0 re0 rf0 rr0 rk rs rv rd re rf rr)
    (hp : ∀ (mk1 mc1 : Nat → Int32) (rk1 rs1 rv1 rd1 re1 : Nat → Int32) (rf1 : Nat → Int64) (rr1 : Nat → Int32), qc_emp n mk mc mk1 mc1 → qc_RN n rk1 rs1 rv1 rd1 re1 rf1 rr1 (G n) → qc_fr n rk0 rs0 rv0 rd0 re0 rf0 rr0 rk1 rs1 rv1 rd1 re1 rf1 rr1 → post (kh, fk, fs, fv, zf, zc, up, mk1, ms, mv, mc1, rk1, rs1, rv1, rd1, re1, rf1, rr1, gk, gs, gv, ag, qN, qK, qD, qS, qV)) :
    wX_spill_71 post (nI n) kh fk fs fv zf zc up mk ms mv mc rk rs rv rd re rf rr gk gs gv ag qN qK qD qS qV := by
  have hle := qc_ct_le mk (72 * n) 72
  have hg : ∀ k, k < 72 → mk (72 * n + k) = 0 ∨ mk (72 * n + k) = 1 ∨ mk (72 * n + k) = 2 := by
    intro k hk
    by_cases z : mk (72 * n + k) = 0
    · exact Or.inl z
    · have e := (hM n hn).1 k hk
      rw [qc_rd1 z, Option.some_or] at e
      exact Or.inr (hW n (by omega) k hk _ e).1
  unfold wX_spill_71
  rw [qc_cl (n := n) (by omega)]
  refine ⟨qc_in hn (by decide), br_c (fun h0 => ?_) (fun h0 => ?_)⟩
  · have he := qc_emp_r (hM n hn).2 h0
    refine hp mk mc rk rs rv rd re rf rr he ⟨m, E, hr, fun k hk => ?_⟩ hfr
    rw [← hc k hk, (hM n hn).1 k hk, qc_rd0 (he.1 (72 * n + k) (by omega) (by omega)), Option.none_or]
  · refine xs_newRun hr hn hm ⟨73, ?_⟩
    refine xs_sp88 (rk0 := rk0) (rs0 := rs0) (rv0 := rv0) (rd0 := rd0) (re0 := re0) (rf0 := rf0) (rr0 := rr0) (old := G (4 + n)) (e0 := E m) (m := m) hn hm hg hroom ?_ 72 0 73 _ _ _ _ _ _ _ (by omega) (by omega) (qc_AP_0 hr hm hfr (fun k hk => (hc k hk).symm))
    intro mk1 rk1 rs1 rv1 rd1 re1 rf1 rr1 hAP hemp
    obtain ⟨E1, a1, a2, a3, a4, a5⟩ := hAP
    refine hp mk1 _ rk1 rs1 rv1 rd1 re1 rf1 rr1 hemp ⟨m + 1, E1, a1, fun k hk => ?_⟩ a2
    rw [a5 k hk, if_pos hk]
    exact (hM n hn).1 k hk
theorem xs_spill {post : SX → Prop} {n : Nat} {G : qc_G} (hn : n < 4) (hM : qc_xM mk ms mv mc G) (hW : qc_WF G) (hR : qc_xR rk rs rv rd re rf rr G)
    (hp : ∀ (mk1 mc1 gk1 gs1 gv1 : Nat → Int32) (rk1 rs1 rv1 rd1 re1 : Nat → Int32) (rf1 : Nat → Int64) (rr1 : Nat → Int32), qc_emp n mk mc mk1 mc1 → qc_RN n rk1 rs1 rv1 rd1 re1 rf1 rr1 (G n) → qc_fr n rk rs rv rd re rf rr rk1 rs1 rv1 rd1 re1 rf1 rr1 → post (kh, fk, fs, fv, zf, zc, up, mk1, ms, mv, mc1, rk1, rs1, rv1, rd1, re1, rf1, rr1, gk1, gs1, gv1, ag, qN, qK, qD, qS, qV)) :
    wpX_spill post (kh, fk, fs, fv, zf, zc, up, mk, ms, mv, mc, rk, rs, rv, rd, re, rf, rr, gk, gs, gv, ag, qN, qK, qD, qS, qV) (nI n) := by
  obtain ⟨m, E, hr, hc⟩ := hR n hn
  have hE := qc_Eb hr (r := m) (Nat.le_refl m)
  have hm := hr.1.2.1
  have hle := qc_ct_le mk (72 * n) 72
  have h61 : wX_spill_61 post (nI n) kh fk fs fv zf zc up mk ms mv mc rk rs rv rd re rf rr gk gs gv ag qN qK qD qS qV := by
    unfold wX_spill_61
    refine xs_collect hr hn (fun gk gs gv hg => ?_)
    refine xs_rewrite hn ?_ (fun rk1 rs1 rv1 rd1 re1 rf1 rr1 hAP => ?_)
    · intro k hk
      by_cases z : gk k = 0
      · exact Or.inl z
      · have e := hg k hk
        rw [qc_rd1 z, ← hc k hk] at e
        exact Or.inr (hW (4 + n) (by omega) k hk _ e.symm).1
    · obtain ⟨E1, a1, a2, a3, a4, a5⟩ := hAP
      have hle2 := qc_ct_le gk 0 72
      refine xs_sp71 (rk0 := rk) (rs0 := rs) (rv0 := rv) (rd0 := rd) (re0 := re) (rf0 := rf) (rr0 := rr) hn hM hW a1 (by decide) (by omega) ?_ a2 (fun mk1 mc1 rk2 rs2 rv2 rd2 re2 rf2 rr2 => hp mk1 mc1 gk gs gv rk2 rs2 rv2 rd2 re2 rf2 rr2)
      intro k hk
      rw [a5 k hk, if_pos hk, Nat.zero_add, Option.or_none, hg k hk]
      exact hc k hk
  have h36 : wX_spill_36 post (nI n) (nI (E m - 144 * n)) kh fk fs fv zf zc up mk ms mv mc rk rs rv rd re rf rr gk gs gv ag qN qK qD qS qV := by
    unfold wX_spill_36
    rw [qc_cl (n := n) (by omega), hr.1.1, (hM n hn).2, nI_add]
    refine ⟨qc_in hn (by decide), br_c (fun _ => h61) (fun h4 => ⟨qc_in hn (by decide), br_c (fun h144 => ?_) (fun _ => h61)⟩)⟩
    have hm4 : m < 4 := by
      rcases Nat.lt_or_ge m 4 with z | z
      · exact z
      · exact absurd (show nI m = 4 by rw [show m = 4 by omega]; rfl) h4
    have h5 := (nI_leI (b := 144) (by omega) (by decide)).mp h144
    exact xs_sp71 (rk0 := rk) (rs0 := rs) (rv0 := rv) (rd0 := rd) (re0 := re) (rf0 := rf) (rr0 := rr) hn hM hW hr hm4 (by omega) hc qc_fr_r (fun mk1 mc1 rk2 rs2 rv2 rd2 re2 rf2 rr2 => hp mk1 mc1 gk gs gv rk2 rs2 rv2 rd2 re2 rf2 rr2)
  unfold wpX_spill
  dsimp only
  rw [qc_cl (n := n) (by omega), hr.1.1]
  refine ⟨qc_in hn (by decide), ?_⟩
  cases m with
  | zero =>
    refine br_t rfl ?_
    rw [hr.1.2.2.1, Nat.sub_self] at h36
    exact h36
  | succ m =>
    refine br_f (nI_ne0 (by omega) (by omega)) ?_
    rw [qc_4m, qc_cl (n := 4 * n + m) (by omega), (hr.2.1 m (by omega)).2, qc_144, pk_sub hE.1]
    exact ⟨qc_in hn (by decide), qc_in (by omega) (by decide), h36⟩
end
end
section
abbrev qc_H : Type := Nat × Nat × qc_E
def qc_yk (k : Nat) (x : Int32) : Int32 := if k < 64 then x else 2
def qc_hX (qN qK qD qS qV : Nat → Int32) (i : Nat) (h : qc_H) : Prop := qN i = nI h.1 ∧ qK i = nI h.2.1 ∧ qD i = h.2.2.1 ∧ qS i = h.2.2.2.1 ∧ qV i = h.2.2.2.2
def qc_hY (nN nA nK nS nV : Nat → Int32) (i : Nat) (h : qc_H) : Prop := nN i = nI h.1 ∧ nA i = nI h.2.1 ∧ nK i = qc_yk h.2.1 h.2.2.1 ∧ nS i = h.2.2.2.1 ∧ nV i = h.2.2.2.2
def qc_XH (zf zc : Int32) (qN qK qD qS qV : Nat → Int32) (H : List qc_H) : Prop :=
  ∃ f, f < 12 ∧ zf = nI f ∧ zc = nI H.length ∧ H.length ≤ 12 ∧ ∀ j h, H[j]? = some h → qc_hX qN qK qD qS qV ((f + j) % 12) h
def qc_YH (yd : Int32) (nN nA nK nS nV : Nat → Int32) (H : List qc_H) : Prop :=
  yd = nI H.length ∧ H.length ≤ 12 ∧ ∀ j h, H[j]? = some h → qc_hY nN nA nK nS nV j h
def qc_WH (H : List qc_H) : Prop := ∀ h, h ∈ H → h.1 < 4 ∧ h.2.1 < 72 ∧ qc_ok h.2.1 (some h.2.2)
def qc_addH (kh : Int32) (H : List qc_H) (h : qc_H) : List qc_H := if kh = 0 then H else (if H.length = 12 then H.tail else H) ++ [h]
theorem qc_lt_of_get {H : List qc_H} {j : Nat} {h : qc_H} (e : H[j]? = some h) : j < H.length := (List.getElem?_eq_some_iff.mp e).1
theorem qc_get_app {H : List qc_H} {j : Nat} {h x : qc_H} (e : (H ++ [x])[j]? = some h) : (j < H.length ∧ H[j]? = some h) ∨ (j = H.length ∧ h = x) := by
  rcases Nat.lt_or_ge j H.length with z | z
  · rw [List.getElem?_append_left z] at e
    exact Or.inl ⟨z, e⟩
  · have hl := qc_lt_of_get e
    rw [List.length_append, List.length_singleton] at hl
    have hj : j = H.length := by omega
    subst hj
    rw [List.getElem?_append_right (Nat.le_refl _), Nat.sub_self] at e
    exact Or.inr ⟨rfl, (Option.some.inj e).symm⟩
theorem qc_WH_add {kh : Int32} {H : List qc_H} {h : qc_H} (hW : qc_WH H) (hh : h.1 < 4 ∧ h.2.1 < 72 ∧ qc_ok h.2.1 (some h.2.2)) : qc_WH (qc_addH kh H h) := by
  unfold qc_addH
  intro x hx
  split at hx
  · exact hW x hx
  · rcases List.mem_append.mp hx with z | z
    · split at z
      · exact hW x (List.mem_of_mem_tail z)
      · exact hW x z
    · rw [List.mem_singleton] at z
      rw [z]; exact hh
theorem qc_hX_upd {qN qK qD qS qV : Nat → Int32} {i n k : Nat} {x s v : Int32} : qc_hX (upd qN i (nI n)) (upd qK i (nI k)) (upd qD i x) (upd qS i s) (upd qV i v) i (n, k, (x, s, v)) :=
  ⟨pk_us, pk_us, pk_us, pk_us, pk_us⟩
theorem qc_hX_ne {qN qK qD qS qV : Nat → Int32} {i j : Nat} {a b c d e : Int32} {h : qc_H} (hj : j ≠ i) (H : qc_hX qN qK qD qS qV j h) : qc_hX (upd qN i a) (upd qK i b) (upd qD i c) (upd qS i d) (upd qV i e) j h := by
  unfold qc_hX
  rw [pk_un hj, pk_un hj, pk_un hj, pk_un hj, pk_un hj]
  exact H
theorem qc_hY_ne {nN nA nK nS nV : Nat → Int32} {i j : Nat} {a b c d e : Int32} {h : qc_H} (hj : j ≠ i) (H : qc_hY nN nA nK nS nV j h) : qc_hY (upd nN i a) (upd nA i b) (upd nK i c) (upd nS i d) (upd nV i e) j h := by
  unfold qc_hY
  rw [pk_un hj, pk_un hj, pk_un hj, pk_un hj, pk_un hj]
  exact H
theorem qc_hX_cp {qN qK qD qS qV : Nat → Int32} {i j : Nat} {h : qc_H} (H : qc_hX qN qK qD qS qV j h) : qc_hX (upd qN i (qN j)) (upd qK i (qK j)) (upd qD i (qD j)) (upd qS i (qS j)) (upd qV i (qV j)) i h := by
  unfold qc_hX
  rw [pk_us, pk_us, pk_us, pk_us, pk_us]
  exact H
theorem qc_hY_cp {nN nA nK nS nV : Nat → Int32} {i j : Nat} {h : qc_H} (H : qc_hY nN nA nK nS nV j h) : qc_hY (upd nN i (nN j)) (upd nA i (nA j)) (upd nK i (nK j)) (upd nS i (nS j)) (upd nV i (nV j)) i h := by
  unfold qc_hY
  rw [pk_us, pk_us, pk_us, pk_us, pk_us]
  exact H
section
variable {kh fk fs fv zf zc : Int32} {up mk ms mv mc rk rs rv rd re : Nat → Int32} {rf : Nat → Int64} {rr gk gs gv ag qN qK qD qS qV : Nat → Int32}
theorem xs_ah40 {post : SX → Prop} {H : List qc_H} {n k : Nat} {x s v : Int32} (hH : qc_XH zf zc qN qK qD qS qV H) (hl : H.length < 12) (hn : n < 4) (hk : k < 72) (hx : x = 0 ∨ x = 1 ∨ x = 2)
    (hp : ∀ (zf1 zc1 : Int32) (qN1 qK1 qD1 qS1 qV1 : Nat → Int32), qc_XH zf1 zc1 qN1 qK1 qD1 qS1 qV1 (H ++ [(n, k, (x, s, v))]) → post (kh, fk, fs, fv, zf1, zc1, up, mk, ms, mv, mc, rk, rs, rv, rd, re, rf, rr, gk, gs, gv, ag, qN1, qK1, qD1, qS1, qV1)) :
    wX_addHint_40 post (nI n) (nI k) x s v kh fk fs fv zf zc up mk ms mv mc rk rs rv rd re rf rr gk gs gv ag qN qK qD qS qV := by
  obtain ⟨f, h1, h2, h3, h4, h5⟩ := hH
  subst h2 h3
  have hi : (f + H.length) % 12 < 12 := Nat.mod_lt _ (by decide)
  unfold wX_addHint_40
  rw [qc_vbb (j := n) (by omega), qc_vbb (j := k) (by omega), (qc_kb hx).1]
  refine nm_r (nI_1 _) ⟨by decide, nm_r (qc_rem12 (by omega)) ?_⟩
  rw [qc_cl (n := (f + H.length) % 12) (by omega)]
  refine ⟨qc_in hi (by decide), nm_e ⟨qc_in hi (by decide), nm_e ⟨qc_in hi (by decide), nm_e ⟨qc_in hi (by decide), nm_e ⟨qc_in hi (by decide), nm_e (hp _ _ _ _ _ _ _ ?_)⟩⟩⟩⟩⟩
  refine ⟨f, h1, rfl, ?_, ?_, ?_⟩
  · rw [List.length_append, List.length_singleton]
  · rw [List.length_append, List.length_singleton]; omega
  · intro j h e
    rcases qc_get_app e with z | z
    · exact qc_hX_ne (by omega) (h5 j h z.2)
    · rw [z.1, z.2]; exact qc_hX_upd
theorem xs_addHint {post : SX → Prop} {H : List qc_H} {n k : Nat} {x s v : Int32} (hH : qc_XH zf zc qN qK qD qS qV H) (hn : n < 4) (hk : k < 72) (hx : x = 0 ∨ x = 1 ∨ x = 2)
    (hp : ∀ (zf1 zc1 : Int32) (qN1 qK1 qD1 qS1 qV1 : Nat → Int32), qc_XH zf1 zc1 qN1 qK1 qD1 qS1 qV1 (qc_addH kh H (n, k, (x, s, v))) → post (kh, fk, fs, fv, zf1, zc1, up, mk, ms, mv, mc, rk, rs, rv, rd, re, rf, rr, gk, gs, gv, ag, qN1, qK1, qD1, qS1, qV1)) :
    wpX_addHint post (kh, fk, fs, fv, zf, zc, up, mk, ms, mv, mc, rk, rs, rv, rd, re, rf, rr, gk, gs, gv, ag, qN, qK, qD, qS, qV) (nI n) (nI k) x s v := by
  unfold wpX_addHint
  unfold qc_addH at hp
  by_cases h0 : kh = 0
  · rw [if_pos h0] at hp
    exact br_t h0 (hp _ _ _ _ _ _ _ hH)
  · rw [if_neg h0] at hp
    refine br_f h0 ?_
    have hH' := hH
    obtain ⟨f, h1, h2, h3, h4, h5⟩ := hH
    by_cases hl : H.length = 12
    · rw [if_pos hl] at hp
      have hz : zc = 12 := by rw [h3, hl]; rfl
      have ht : H.tail.length = 11 := by rw [List.length_tail, hl]
      refine br_t hz ⟨by decide, nm_r (e' := nI ((f + 1) % 12)) (by rw [h2]; exact qc_rem12' (by omega)) (nm_r (e' := nI 11) (by rw [hz]; rfl) ?_)⟩
      refine xs_ah40 (H := H.tail) ?_ (by omega) hn hk hx hp
      refine ⟨(f + 1) % 12, Nat.mod_lt _ (by decide), rfl, by rw [ht], by omega, ?_⟩
      intro j h e
      rw [List.getElem?_tail] at e
      have := h5 (j + 1) h e
      rw [show ((f + 1) % 12 + j) % 12 = (f + (j + 1)) % 12 by omega]
      exact this
    · rw [if_neg hl] at hp
      refine br_f ?_ (xs_ah40 hH' (by omega) hn hk hx hp)
      rw [h3]
      exact fun z => hl ((nI_eq (b := 12) (by omega) (by decide)).mp z)
end
section
variable {yi yd : Int32} {kd st va al nN nA nK nS nV : Nat → Int32}
theorem ys_dh12 {post : SY → Prop} {K R : List qc_H} {h : qc_H} (hl : K.length + R.length + 1 ≤ 12)
    (hp : ∀ (nN1 nA1 nK1 nS1 nV1 : Nat → Int32), (∀ j x, (K ++ R)[j]? = some x → qc_hY nN1 nA1 nK1 nS1 nV1 j x) → post (yi, nI (K.length + R.length), kd, st, va, al, nN1, nA1, nK1, nS1, nV1)) :
    ∀ (d i f : Nat) (nN nA nK nS nV : Nat → Int32), i + d = K.length + R.length → d < f → K.length ≤ i →
      (∀ j x, j < i → (K ++ R)[j]? = some x → qc_hY nN nA nK nS nV j x) → (∀ j x, i ≤ j → (K ++ h :: R)[j]? = some x → qc_hY nN nA nK nS nV j x) →
      wY_dropHint_12 post yi (nI (K.length + R.length)) f (nI i) kd st va al nN nA nK nS nV := by
  intro d
  induction d with
  | zero =>
    intro i f nN nA nK nS nV hi hf hK h1 h2
    obtain ⟨f', rfl⟩ : ∃ f', f = f' + 1 := ⟨f - 1, by omega⟩
    have : i = K.length + R.length := by omega
    subst this
    refine br_t (Int32.le_refl _) (hp _ _ _ _ _ ?_)
    intro j x e
    have := qc_lt_of_get e
    rw [List.length_append] at this
    exact h1 j x this e
  | succ d ih =>
    intro i f nN nA nK nS nV hi hf hK h1 h2
    obtain ⟨f', rfl⟩ : ∃ f', f = f' + 1 := ⟨f - 1, by omega⟩
    refine br_f (nI_ge (by omega) (by omega)) ?_
    rw [nI_1 i, qc_cl (n := i) (by omega), qc_cl (n := i + 1) (by omega)]
    refine ⟨qc_in (by omega) (by decide), qc_in (by omega) (by decide), nm_e ⟨qc_in (by omega) (by decide), qc_in (by omega) (by decide), nm_e ⟨qc_in (by omega) (by decide), qc_in (by omega) (by decide), nm_e ⟨qc_in (by omega) (by decide), qc_in (by omega) (by decide), nm_e ⟨qc_in (by omega) (by decide), qc_in (by omega) (by decide), nm_e (nm_e (ih (i + 1) f' _ _ _ _ _ (by omega) (by omega) (by omega) ?_ ?_))⟩⟩⟩⟩⟩
    · intro j x hj e
      by_cases z : j = i
      · subst z
        refine qc_hY_cp (h2 (j + 1) x (by omega) ?_)
        rw [List.getElem?_append_right hK] at e
        rw [List.getElem?_append_right (by omega), show j + 1 - K.length = (j - K.length) + 1 by omega, List.getElem?_cons_succ]
        exact e
      · exact qc_hY_ne z (h1 j x (by omega) e)
    · intro j x hj e
      exact qc_hY_ne (by omega) (h2 j x (by omega) e)
theorem ys_dropHint {post : SY → Prop} {K R : List qc_H} {h : qc_H} (hH : qc_YH yd nN nA nK nS nV (K ++ h :: R))
    (hp : ∀ (yd1 : Int32) (nN1 nA1 nK1 nS1 nV1 : Nat → Int32), qc_YH yd1 nN1 nA1 nK1 nS1 nV1 (K ++ R) → post (yi, yd1, kd, st, va, al, nN1, nA1, nK1, nS1, nV1)) : wpY_dropHint post (yi, yd, kd, st, va, al, nN, nA, nK, nS, nV) (nI K.length) := by
  obtain ⟨h1, h2, h3⟩ := hH
  rw [List.length_append, List.length_cons] at h1 h2
  unfold wpY_dropHint
  refine nm_r (e' := nI (K.length + R.length)) (by rw [h1, ← Nat.add_assoc, nI_pred]) ⟨R.length + 1, ?_⟩
  refine ys_dh12 (h := h) (by omega) ?_ R.length K.length (R.length + 1) nN nA nK nS nV rfl (by omega) (Nat.le_refl _) ?_ (fun j x _ e => h3 j x e)
  · intro nN1 nA1 nK1 nS1 nV1 h4
    exact hp _ _ _ _ _ _ ⟨by rw [List.length_append], by rw [List.length_append]; omega, h4⟩
  · intro j x hj e
    rw [List.getElem?_append_left hj] at e
    exact h3 j x (by rw [List.getElem?_append_left hj]; exact e)
theorem ys_h22 {post : SY → Prop} {H : List qc_H} {n k : Nat} {x y s v : Int32} (hH : qc_YH yd nN nA nK nS nV H) (hl : H.length < 12) (hy : y = qc_yk k x)
    (hp : ∀ (yd1 : Int32) (nN1 nA1 nK1 nS1 nV1 : Nat → Int32), qc_YH yd1 nN1 nA1 nK1 nS1 nV1 (H ++ [(n, k, (x, s, v))]) → post (yi, yd1, kd, st, va, al, nN1, nA1, nK1, nS1, nV1)) :
    wY_hint_22 post (nI n) (nI k) y s v yi yd kd st va al nN nA nK nS nV := by
  obtain ⟨h1, h2, h3⟩ := hH
  subst h1
  unfold wY_hint_22
  rw [qc_cl (n := H.length) (by omega)]
  refine ⟨qc_in hl (by decide), nm_e ⟨qc_in hl (by decide), nm_e ⟨qc_in hl (by decide), nm_e ⟨qc_in hl (by decide), nm_e ⟨qc_in hl (by decide), nm_e (nm_r (nI_1 _) (hp _ _ _ _ _ _ ?_))⟩⟩⟩⟩⟩
  refine ⟨?_, ?_, ?_⟩
  · rw [List.length_append, List.length_singleton]
  · rw [List.length_append, List.length_singleton]; omega
  · intro j h e
    rcases qc_get_app e with z | z
    · exact qc_hY_ne (by omega) (h3 j h z.2)
    · rw [z.1, z.2]
      exact ⟨pk_us, pk_us, by rw [pk_us]; exact hy, pk_us, pk_us⟩
theorem ys_hint {post : SY → Prop} {H : List qc_H} {n k : Nat} {x y s v : Int32} (hH : qc_YH yd nN nA nK nS nV H) (hy : y = qc_yk k x)
    (hp : ∀ (yd1 : Int32) (nN1 nA1 nK1 nS1 nV1 : Nat → Int32), qc_YH yd1 nN1 nA1 nK1 nS1 nV1 (qc_addH yi H (n, k, (x, s, v))) → post (yi, yd1, kd, st, va, al, nN1, nA1, nK1, nS1, nV1)) :
    wpY_hint post (yi, yd, kd, st, va, al, nN, nA, nK, nS, nV) (nI n) (nI k) y s v := by
  unfold wpY_hint
  unfold qc_addH at hp
  by_cases h0 : yi = 0
  · rw [if_pos h0] at hp
    exact br_t h0 (hp _ _ _ _ _ _ hH)
  · rw [if_neg h0] at hp
    refine br_f h0 ?_
    by_cases hl : H.length = 12
    · rw [if_pos hl] at hp
      refine br_t (by rw [hH.1, hl]; rfl) ?_
      cases H with
      | nil => cases hl
      | cons h R =>
        have hR : R.length = 11 := by rw [List.length_cons] at hl; omega
        refine ys_dropHint (K := []) (R := R) (h := h) hH (fun yd1 nN1 nA1 nK1 nS1 nV1 hH1 => ?_)
        exact ys_h22 (H := R) hH1 (by omega) hy hp
    · rw [if_neg hl] at hp
      have hle := hH.2.1
      refine br_f ?_ (ys_h22 hH (by omega) hy hp)
      rw [hH.1]
      exact fun z => hl ((nI_eq (b := 12) (by omega) (by decide)).mp z)
end
end
section
def qc_bn (x : Int32) : Nat := if x = 0 then 0 else 1
def qc_uc (up : Nat → Int32) (p : Nat) : Nat → Nat → Nat
  | 0, _ => 0
  | d + 1, i => qc_bn (up ((p + i) % 4)) + qc_uc up p d (i + 1)
theorem qc_uc_le (up : Nat → Int32) (p : Nat) : ∀ d i, qc_uc up p d i ≤ d
  | 0, _ => Nat.le_refl 0
  | d + 1, i => by
    have := qc_uc_le up p d (i + 1)
    show qc_bn (up ((p + i) % 4)) + qc_uc up p d (i + 1) ≤ d + 1
    unfold qc_bn
    split <;> omega
def qc_spG (up : Nat → Int32) (p k : Nat) (e : qc_E) : Nat → Nat → qc_G → qc_G
  | 0, _, G => G
  | d + 1, i, G => if up ((p + i) % 4) = 0 then qc_spG up p k e d (i + 1) G else qc_spG up p k e d (i + 1) (qc_set G ((p + i) % 4) k (qc_mx (G ((p + i) % 4) k) (some e)))
def qc_spH (up : Nat → Int32) (kh : Int32) (p k : Nat) (e : qc_E) : Nat → Nat → List qc_H → List qc_H
  | 0, _, H => H
  | d + 1, i, H => if up ((p + i) % 4) = 0 then qc_spH up kh p k e d (i + 1) (qc_addH kh H ((p + i) % 4, k, e)) else qc_spH up kh p k e d (i + 1) H
theorem qc_spG_0 {up : Nat → Int32} {p k : Nat} {e : qc_E} {d i : Nat} {G : qc_G} (h : up ((p + i) % 4) = 0) : qc_spG up p k e (d + 1) i G = qc_spG up p k e d (i + 1) G := if_pos h
theorem qc_spG_1 {up : Nat → Int32} {p k : Nat} {e : qc_E} {d i : Nat} {G : qc_G} (h : ¬ up ((p + i) % 4) = 0) : qc_spG up p k e (d + 1) i G = qc_spG up p k e d (i + 1) (qc_set G ((p + i) % 4) k (qc_mx (G ((p + i) % 4) k) (some e))) := if_neg h
theorem qc_spH_0 {up : Nat → Int32} {kh : Int32} {p k : Nat} {e : qc_E} {d i : Nat} {H : List qc_H} (h : up ((p + i) % 4) = 0) : qc_spH up kh p k e (d + 1) i H = qc_spH up kh p k e d (i + 1) (qc_addH kh H ((p + i) % 4, k, e)) := if_pos h
theorem qc_spH_1 {up : Nat → Int32} {kh : Int32} {p k : Nat} {e : qc_E} {d i : Nat} {H : List qc_H} (h : ¬ up ((p + i) % 4) = 0) : qc_spH up kh p k e (d + 1) i H = qc_spH up kh p k e d (i + 1) H := if_neg h
theorem qc_spH_W {up : Nat → Int32} {kh : Int32} {p k : Nat} {e : qc_E} (hk : k < 72) (he : qc_ok k (some e)) : ∀ (d i : Nat) (H : List qc_H), qc_WH H → qc_WH (qc_spH up kh p k e d i H)
  | 0, _, H, h => h
  | d + 1, i, H, h => by
    by_cases z : up ((p + i) % 4) = 0
    · rw [qc_spH_0 z]
      exact qc_spH_W hk he d (i + 1) _ (qc_WH_add h ⟨Nat.mod_lt _ (by decide), hk, he⟩)
    · rw [qc_spH_1 z]
      exact qc_spH_W hk he d (i + 1) H h
def qc_hid (w : qc_O) (s : Int32) : Bool := match w with
  | none => false
  | some y => decide (s ≤ y.2.1)
def qc_val (e w : qc_O) : Int64 := match e with
  | none => 1000000000000
  | some y => if y.1 = 1 ∧ qc_hid w y.2.1 = false then y.2.2.toInt64 else 1000000000000
section
variable {kh fk fs fv zf zc : Int32} {up mk ms mv mc rk rs rv rd re : Nat → Int32} {rf : Nat → Int64} {rr gk gs gv ag qN qK qD qS qV : Nat → Int32}
theorem xs_rep {post : Int32 → Prop} {p i : Nat} (h : post (nI ((p + i) % 4))) : wpX_replica post (nI p) (nI i) := by
  unfold wpX_replica
  rw [qc_mod4]
  exact h
theorem xs_uc4 {post : Int32 → Prop} {p : Nat} : ∀ (d i f acc : Nat), i + d = 3 → d < f → post (nI (acc + qc_uc up p d i)) → wX_upCount_4 post (nI p) kh fk fs fv zf zc up mk ms mv mc rk rs rv rd re rf rr gk gs gv ag qN qK qD qS qV f (nI acc) (nI i) := by
  intro d
  induction d with
  | zero =>
    intro i f acc hi hf hp
    obtain ⟨f', rfl⟩ : ∃ f', f = f' + 1 := ⟨f - 1, by omega⟩
    have : i = 3 := by omega
    subst this
    exact br_t (Int32.le_refl _) hp
  | succ d ih =>
    intro i f acc hi hf hp
    obtain ⟨f', rfl⟩ : ∃ f', f = f' + 1 := ⟨f - 1, by omega⟩
    have hr : (p + i) % 4 < 4 := Nat.mod_lt _ (by decide)
    refine br_f (nI_ge (b := 3) (by omega) (by decide)) (xs_rep ?_)
    rw [qc_cl (n := (p + i) % 4) (by omega)]
    refine ⟨qc_in hr (by decide), br_c (fun h0 => nm_r (Int32.add_zero _) (nm_r (nI_1 i) (ih (i + 1) f' acc (by omega) (by omega) ?_))) (fun h0 => nm_r (nI_1 acc) (nm_r (nI_1 i) (ih (i + 1) f' (acc + 1) (by omega) (by omega) ?_)))⟩
    · have e : acc + qc_uc up p (d + 1) i = acc + qc_uc up p d (i + 1) := by
        show acc + (qc_bn (up ((p + i) % 4)) + qc_uc up p d (i + 1)) = _
        unfold qc_bn
        rw [if_pos h0]
        omega
      rw [e] at hp
      exact hp
    · have e : acc + qc_uc up p (d + 1) i = acc + 1 + qc_uc up p d (i + 1) := by
        show acc + (qc_bn (up ((p + i) % 4)) + qc_uc up p d (i + 1)) = _
        unfold qc_bn
        rw [if_neg h0]
        omega
      rw [e] at hp
      exact hp
theorem xs_upCount {post : Int32 → Prop} {p : Nat} (hp : post (nI (qc_uc up p 3 0))) : wpX_upCount post (kh, fk, fs, fv, zf, zc, up, mk, ms, mv, mc, rk, rs, rv, rd, re, rf, rr, gk, gs, gv, ag, qN, qK, qD, qS, qV) (nI p) := by
  unfold wpX_upCount
  refine ⟨4, xs_uc4 3 0 4 0 (by omega) (by omega) ?_⟩
  rw [Nat.zero_add]
  exact hp
theorem xs_sp27 {post : Int32 → SX → Prop} {p k c : Nat} {x s v : Int32} (hk : k < 72) (hx : ¬ x = 0) (hok : qc_ok k (some (x, s, v))) :
    ∀ (d i f : Nat) (fk fs fv zf zc : Int32) (mk ms mv mc ag qN qK qD qS qV : Nat → Int32) (G : qc_G) (H : List qc_H), i + d = 3 → d < f → qc_XS mk ms mv mc rk rs rv rd re rf rr ag G → qc_XH zf zc qN qK qD qS qV H →
      (∀ (fk1 fs1 fv1 zf1 zc1 : Int32) (mk1 ms1 mv1 mc1 ag1 qN1 qK1 qD1 qS1 qV1 : Nat → Int32), qc_XS mk1 ms1 mv1 mc1 rk rs rv rd re rf rr ag1 (qc_spG up p k (x, s, v) d i G) → qc_XH zf1 zc1 qN1 qK1 qD1 qS1 qV1 (qc_spH up kh p k (x, s, v) d i H) → post (nI c) (kh, fk1, fs1, fv1, zf1, zc1, up, mk1, ms1, mv1, mc1, rk, rs, rv, rd, re, rf, rr, gk, gs, gv, ag1, qN1, qK1, qD1, qS1, qV1)) →
      wX_spread_27 post (nI k) x s v (nI p) (nI c) f (nI i) kh fk fs fv zf zc up mk ms mv mc rk rs rv rd re rf rr gk gs gv ag qN qK qD qS qV := by
  have hx3 : x = 0 ∨ x = 1 ∨ x = 2 := by
    rcases (hok (x, s, v) rfl).1 with z | z
    · exact Or.inr (Or.inl z)
    · exact Or.inr (Or.inr z)
  intro d
  induction d with
  | zero =>
    intro i f fk fs fv zf zc mk ms mv mc ag qN qK qD qS qV G H hi hf hS hH hp
    obtain ⟨f', rfl⟩ : ∃ f', f = f' + 1 := ⟨f - 1, by omega⟩
    have : i = 3 := by omega
    subst this
    exact br_t (Int32.le_refl _) (hp fk fs fv zf zc mk ms mv mc ag qN qK qD qS qV hS hH)
  | succ d ih =>
    intro i f fk fs fv zf zc mk ms mv mc ag qN qK qD qS qV G H hi hf hS hH hp
    obtain ⟨f', rfl⟩ : ∃ f', f = f' + 1 := ⟨f - 1, by omega⟩
    have hr : (p + i) % 4 < 4 := Nat.mod_lt _ (by decide)
    refine br_f (nI_ge (b := 3) (by omega) (by decide)) (xs_rep ?_)
    rw [qc_cl (n := (p + i) % 4) (by omega)]
    refine ⟨qc_in hr (by decide), br_c (fun h0 => ?_) (fun h0 => ?_)⟩
    · rw [qc_spG_0 h0, qc_spH_0 h0] at hp
      refine xs_addHint hH hr hk hx3 (fun zf1 zc1 qN1 qK1 qD1 qS1 qV1 hH1 => ?_)
      exact nm_r (nI_1 i) (ih (i + 1) f' _ _ _ _ _ _ _ _ _ _ _ _ _ _ _ G _ (by omega) (by omega) hS hH1 hp)
    · rw [qc_spG_1 h0, qc_spH_1 h0] at hp
      refine xs_take hS hr hk (qc_rd1 hx) hok (fun a b c mk1 ms1 mv1 mc1 ag1 hS1 => ?_)
      exact nm_r (nI_1 i) (ih (i + 1) f' _ _ _ _ _ _ _ _ _ _ _ _ _ _ _ _ H (by omega) (by omega) hS1 hH hp)
theorem xs_spread {post : Int32 → SX → Prop} {k lv : Nat} {x s v : Int32} {G : qc_G} {H : List qc_H} (hk : k < 72) (hl : lv < 100) (hx : ¬ x = 0) (hok : qc_ok k (some (x, s, v))) (hS : qc_XS mk ms mv mc rk rs rv rd re rf rr ag G) (hH : qc_XH zf zc qN qK qD qS qV H)
    (hu : qc_uc up (qc_pt k) 3 0 < lv → post (-2) (kh, fk, fs, fv, zf, zc, up, mk, ms, mv, mc, rk, rs, rv, rd, re, rf, rr, gk, gs, gv, ag, qN, qK, qD, qS, qV))
    (hp : lv ≤ qc_uc up (qc_pt k) 3 0 → ∀ (fk1 fs1 fv1 zf1 zc1 : Int32) (mk1 ms1 mv1 mc1 ag1 qN1 qK1 qD1 qS1 qV1 : Nat → Int32), qc_XS mk1 ms1 mv1 mc1 rk rs rv rd re rf rr ag1 (qc_spG up (qc_pt k) k (x, s, v) 3 0 G) → qc_XH zf1 zc1 qN1 qK1 qD1 qS1 qV1 (qc_spH up kh (qc_pt k) k (x, s, v) 3 0 H) → post (nI (qc_uc up (qc_pt k) 3 0)) (kh, fk1, fs1, fv1, zf1, zc1, up, mk1, ms1, mv1, mc1, rk, rs, rv, rd, re, rf, rr, gk, gs, gv, ag1, qN1, qK1, qD1, qS1, qV1)) :
    wpX_spread post (kh, fk, fs, fv, zf, zc, up, mk, ms, mv, mc, rk, rs, rv, rd, re, rf, rr, gk, gs, gv, ag, qN, qK, qD, qS, qV) (nI k) x s v (nI lv) := by
  have hle := qc_uc_le up (qc_pt k) 3 0
  unfold wpX_spread
  refine xs_part hk (xs_upCount ?_)
  refine br_c (fun h => ⟨4, ?_⟩) (fun h => hu ?_)
  · have h2 := (nI_leI (by omega) (by omega)).mp h
    exact xs_sp27 hk hx hok 3 0 4 _ _ _ _ _ _ _ _ _ _ _ _ _ _ _ G H (by omega) (by omega) hS hH (hp h2)
  · rw [nI_leI (by omega) (by omega)] at h
    omega
theorem xs_se117 {post : SX → Prop} {p k : Nat} {x s v : Int32} {m : qc_O} (hk : k < 72) (hm : qc_rd x s v = m) (hok : qc_ok k m) :
    ∀ (d i f b : Nat) (fk fs fv : Int32) (mk ms mv mc ag : Nat → Int32) (G : qc_G), i + d = 3 → d < f → b < 100 → qc_XS mk ms mv mc rk rs rv rd re rf rr ag G →
      (∀ (fk1 fs1 fv1 : Int32) (mk1 ms1 mv1 mc1 ag1 : Nat → Int32), qc_XS mk1 ms1 mv1 mc1 rk rs rv rd re rf rr ag1 (qc_s2 k m (qc_ask up p d i b) G) → post (kh, x, s, v, zf, zc, up, mk1, ms1, mv1, mc1, rk, rs, rv, rd, re, rf, rr, gk, gs, gv, ag1, qN, qK, qD, qS, qV)) →
      wX_settle_117 post (nI k) (nI p) x s v f (nI b) (nI i) kh fk fs fv zf zc up mk ms mv mc rk rs rv rd re rf rr gk gs gv ag qN qK qD qS qV := by
  intro d
  induction d with
  | zero =>
    intro i f b fk fs fv mk ms mv mc ag G hi hf hb hS hp
    obtain ⟨f', rfl⟩ : ∃ f', f = f' + 1 := ⟨f - 1, by omega⟩
    have : i = 3 := by omega
    subst this
    exact br_t (Int32.le_refl _) (hp fk fs fv mk ms mv mc ag hS)
  | succ d ih =>
    intro i f b fk fs fv mk ms mv mc ag G hi hf hb hS hp
    obtain ⟨f', rfl⟩ : ∃ f', f = f' + 1 := ⟨f - 1, by omega⟩
    have hr : (p + i) % 4 < 4 := Nat.mod_lt _ (by decide)
    refine br_f (nI_ge (b := 3) (by omega) (by decide)) ?_
    cases b with
    | zero => exact br_t (Int32.le_refl _) (hp fk fs fv mk ms mv mc ag hS)
    | succ b =>
      refine br_f (nI_nle (by omega) (by omega)) (br_c (fun hx0 => ?_) (fun hx0 => xs_rep ?_))
      · have hn : m = none := by rw [← hm]; exact qc_rd0 hx0
        rw [hn, qc_s2_none] at hp
        exact hp fk fs fv mk ms mv mc ag hS
      · rw [qc_cl (n := (p + i) % 4) (by omega)]
        refine ⟨qc_in hr (by decide), br_c (fun h0 => ?_) (fun h0 => ?_)⟩
        · rw [qc_ask_dn h0] at hp
          exact nm_r (nI_1 i) (ih (i + 1) f' (b + 1) _ _ _ _ _ _ _ _ G (by omega) (by omega) (by omega) hS hp)
        · rw [qc_ask_up h0] at hp
          refine nm_r (pk_m1 b) (xs_take hS hr hk hm hok (fun a' b' c' mk1 ms1 mv1 mc1 ag1 hS1 => ?_))
          exact nm_r (nI_1 i) (ih (i + 1) f' b _ _ _ _ _ _ _ _ _ (by omega) (by omega) (by omega) hS1 hp)
theorem xs_se20 {post : SX → Prop} {p k lv : Nat} {G : qc_G} (hk : k < 72) (hl : lv < 100) (hM : qc_xM mk ms mv mc G) (hR : qc_xR rk rs rv rd re rf rr G) :
    ∀ (d i f a b : Nat) (x s v : Int32) (fk fs fv : Int32), i + d = 3 → d < f → a + b = lv →
      (∀ (x1 s1 v1 : Int32) (fk1 fs1 fv1 : Int32), qc_rd x1 s1 v1 = qc_fm G k (qc_ask up p d i b) (qc_rd x s v) → ∃ n117 : Nat, wX_settle_117 post (nI k) (nI p) x1 s1 v1 n117 (nI (a + (qc_ask up p d i b).length)) 0 kh fk1 fs1 fv1 zf zc up mk ms mv mc rk rs rv rd re rf rr gk gs gv ag qN qK qD qS qV) →
      wX_settle_20 post (nI k) (nI lv) (nI p) f x s v (nI a) (nI i) kh fk fs fv zf zc up mk ms mv mc rk rs rv rd re rf rr gk gs gv ag qN qK qD qS qV := by
  intro d
  induction d with
  | zero =>
    intro i f a b x s v fk fs fv hi hf hab hp
    obtain ⟨f', rfl⟩ : ∃ f', f = f' + 1 := ⟨f - 1, by omega⟩
    have : i = 3 := by omega
    subst this
    exact br_t (Int32.le_refl _) (hp x s v fk fs fv rfl)
  | succ d ih =>
    intro i f a b x s v fk fs fv hi hf hab hp
    obtain ⟨f', rfl⟩ : ∃ f', f = f' + 1 := ⟨f - 1, by omega⟩
    have hr : (p + i) % 4 < 4 := Nat.mod_lt _ (by decide)
    refine br_f (nI_ge (b := 3) (by omega) (by decide)) ?_
    cases b with
    | zero => exact br_t (nI_le (by omega) (by omega)) (hp x s v fk fs fv rfl)
    | succ b =>
      refine br_f (nI_ge (by omega) (by omega)) (xs_rep ?_)
      rw [qc_cl (n := (p + i) % 4) (by omega)]
      refine ⟨qc_in hr (by decide), br_c (fun h0 => ?_) (fun h0 => ?_)⟩
      · rw [qc_ask_dn h0] at hp
        exact nm_r (nI_1 i) (ih (i + 1) f' a (b + 1) x s v _ _ _ (by omega) (by omega) hab hp)
      · rw [qc_ask_up h0] at hp
        refine nm_r (nI_1 a) (xs_search hM hR hr hk (fun a' b' c' e => xs_newer ?_))
        rw [e]
        have hlen : a + 1 + (qc_ask up p d (i + 1) b).length = a + (((p + i) % 4) :: qc_ask up p d (i + 1) b).length := by
          rw [List.length_cons]; omega
        cases hnw : qc_nw (G ((p + i) % 4) k) (qc_rd x s v) with
        | false =>
          refine br_t rfl (nm_r (nI_1 i) (ih (i + 1) f' (a + 1) b x s v _ _ _ (by omega) (by omega) (by omega) ?_))
          intro x1 s1 v1 fk1 fs1 fv1 e1
          rw [hlen]
          refine hp x1 s1 v1 fk1 fs1 fv1 (e1.trans ?_)
          show _ = qc_fm G k (qc_ask up p d (i + 1) b) (qc_mx (qc_rd x s v) (G ((p + i) % 4) k))
          rw [qc_mx_f hnw]
        | true =>
          refine br_f (by decide) (nm_r (nI_1 i) (ih (i + 1) f' (a + 1) b a' b' c' _ _ _ (by omega) (by omega) (by omega) ?_))
          intro x1 s1 v1 fk1 fs1 fv1 e1
          rw [hlen]
          refine hp x1 s1 v1 fk1 fs1 fv1 (e1.trans ?_)
          show _ = qc_fm G k (qc_ask up p d (i + 1) b) (qc_mx (qc_rd x s v) (G ((p + i) % 4) k))
          rw [qc_mx_t hnw, e]
theorem xs_settle {post : SX → Prop} {k lv : Nat} {G : qc_G} (hk : k < 72) (hl : lv < 100) (hS : qc_XS mk ms mv mc rk rs rv rd re rf rr ag G)
    (hp : ∀ (fk1 fs1 fv1 : Int32) (mk1 ms1 mv1 mc1 ag1 : Nat → Int32), qc_XS mk1 ms1 mv1 mc1 rk rs rv rd re rf rr ag1 (qc_st G (qc_ask up (qc_pt k) 3 0 lv) (qc_one k)) → qc_rd fk1 fs1 fv1 = qc_fm G k (qc_ask up (qc_pt k) 3 0 lv) none → post (kh, fk1, fs1, fv1, zf, zc, up, mk1, ms1, mv1, mc1, rk, rs, rv, rd, re, rf, rr, gk, gs, gv, ag1, qN, qK, qD, qS, qV)) :
    wpX_settle post (kh, fk, fs, fv, zf, zc, up, mk, ms, mv, mc, rk, rs, rv, rd, re, rf, rr, gk, gs, gv, ag, qN, qK, qD, qS, qV) (nI k) (nI lv) := by
  unfold wpX_settle
  refine xs_part hk ⟨4, xs_se20 hk hl hS.1 hS.2.1 3 0 4 0 lv 0 0 0 _ _ _ (by omega) (by omega) (by omega) ?_⟩
  intro x1 s1 v1 fk1 fs1 fv1 e
  have e' : qc_rd x1 s1 v1 = qc_fm G k (qc_ask up (qc_pt k) 3 0 lv) none := e
  have hA := qc_ask_len (up := up) (p := qc_pt k) 3 0 lv
  refine ⟨4, ?_⟩
  rw [Nat.zero_add]
  refine xs_se117 hk e' ?_ 3 0 4 _ _ _ _ _ _ _ _ _ G (by omega) (by omega) (by omega) hS ?_
  · exact qc_fm_ok (fun n hn => hS.2.2.2 n (by have := qc_ask_lt _ _ _ n hn; omega) k hk) qc_ok_none
  · intro fk2 fs2 fv2 mk2 ms2 mv2 mc2 ag2 hS2
    rw [hA.2, qc_s2_st] at hS2
    exact hp x1 s1 v1 mk2 ms2 mv2 mc2 ag2 hS2 e'
theorem xs_worth {post : Int64 → Prop} {a b c : Int32} {e w : qc_O} (he : qc_rd fk fs fv = e) (hw : qc_rd a b c = w) (hp : post (qc_val e w)) : wpX_worth post (kh, fk, fs, fv, zf, zc, up, mk, ms, mv, mc, rk, rs, rv, rd, re, rf, rr, gk, gs, gv, ag, qN, qK, qD, qS, qV) a b := by
  have k17 : ∀ z : Int32, (z = 0 ∨ z = 1) → (∀ s, fs = s → qc_hid w s = decide (z = 1)) → wX_worth_17 post z kh fk fs fv zf zc up mk ms mv mc rk rs rv rd re rf rr gk gs gv ag qN qK qD qS qV := by
    intro z hz hh
    unfold wX_worth_17
    by_cases h1 : fk = 1
    · have hfk : ¬ fk = 0 := by rw [h1]; decide
      rw [qc_rd1 hfk] at he
      subst he
      have hp' : post (if fk = 1 ∧ qc_hid w fs = false then fv.toInt64 else 1000000000000) := hp
      rw [hh fs rfl] at hp'
      refine br_t h1 ?_
      rcases hz with hz | hz
      · rw [hz, if_pos ⟨h1, by decide⟩] at hp'
        exact br_t hz hp'
      · rw [hz, if_neg (by intro q; exact absurd q.2 (by decide))] at hp'
        exact br_f (by rw [hz]; decide) hp'
    · refine br_f h1 ?_
      cases e with
      | none => exact hp
      | some y =>
        have hy := (qc_rd_some he).2.1
        have hp' : post (if y.1 = 1 ∧ qc_hid w y.2.1 = false then y.2.2.toInt64 else 1000000000000) := hp
        rw [if_neg (fun q => h1 (hy.trans q.1))] at hp'
        exact hp'
  unfold wpX_worth
  by_cases ha : a = 0
  · rw [qc_rd0 ha] at hw
    subst hw
    exact br_t ha (k17 0 (Or.inl rfl) (fun s _ => rfl))
  · rw [qc_rd1 ha] at hw
    subst hw
    refine br_f ha (br_c (fun hlt => k17 0 (Or.inl rfl) (fun s hs => ?_)) (fun hlt => k17 1 (Or.inr rfl) (fun s hs => ?_)))
    · show decide (s ≤ b) = decide ((0 : Int32) = 1)
      rw [← hs, decide_eq_false (Int32.not_le.mpr hlt)]
      rfl
    · show decide (s ≤ b) = decide ((1 : Int32) = 1)
      rw [← hs, decide_eq_true (Int32.not_lt.mp hlt)]
      rfl
end
end
section
def qc_crG (G : qc_G) (n : Nat) : qc_G := fun n' k => if n' = n then G (4 + n) k else G n' k
def qc_flG (G : qc_G) (n : Nat) : qc_G := fun n' k => if n' = 4 + n then G n k else G n' k
def qc_cp (g : Nat → qc_O) (b : Int32) (k : Nat) : qc_O := match g k with
  | none => none
  | some y => if k < 64 then (if qc_hid (g (64 + k / 8)) y.2.1 = true ∨ (y.1 = 2 ∧ y.2.1 < b) then none else some y) else (if y.2.1 < b then none else some y)
def qc_cmG (G : qc_G) (n : Nat) (b : Int32) : qc_G := fun n' k => if n' = n ∨ n' = 4 + n then qc_cp (G n) b k else G n' k
theorem qc_cp_none {g : Nat → qc_O} {b : Int32} {k : Nat} (h : g k = none) : qc_cp g b k = none := by
  unfold qc_cp
  rw [h]
theorem qc_cp_lo {g : Nat → qc_O} {b : Int32} {k : Nat} {y : qc_E} (h : g k = some y) (hk : k < 64) : qc_cp g b k = if qc_hid (g (64 + k / 8)) y.2.1 = true ∨ (y.1 = 2 ∧ y.2.1 < b) then none else some y := by
  unfold qc_cp
  rw [h]
  exact if_pos hk
theorem qc_cp_hi {g : Nat → qc_O} {b : Int32} {k : Nat} {y : qc_E} (h : g k = some y) (hk : 64 ≤ k) : qc_cp g b k = if y.2.1 < b then none else some y := by
  unfold qc_cp
  rw [h]
  exact if_neg (by omega)
theorem qc_cp_or (g : Nat → qc_O) (b : Int32) (k : Nat) : qc_cp g b k = none ∨ qc_cp g b k = g k := by
  cases h : g k with
  | none => exact Or.inl (qc_cp_none h)
  | some y =>
    rcases Nat.lt_or_ge k 64 with z | z
    · rw [qc_cp_lo h z]
      split
      · exact Or.inl rfl
      · exact Or.inr rfl
    · rw [qc_cp_hi h z]
      split
      · exact Or.inl rfl
      · exact Or.inr rfl
theorem qc_crG_s {G : qc_G} {n k : Nat} : qc_crG G n n k = G (4 + n) k := if_pos rfl
theorem qc_crG_n {G : qc_G} {n n' k : Nat} (h : n' ≠ n) : qc_crG G n n' k = G n' k := if_neg h
theorem qc_flG_s {G : qc_G} {n k : Nat} : qc_flG G n (4 + n) k = G n k := if_pos rfl
theorem qc_flG_n {G : qc_G} {n n' k : Nat} (h : n' ≠ 4 + n) : qc_flG G n n' k = G n' k := if_neg h
theorem qc_cmG_s {G : qc_G} {n n' k : Nat} {b : Int32} (h : n' = n ∨ n' = 4 + n) : qc_cmG G n b n' k = qc_cp (G n) b k := if_pos h
theorem qc_cmG_n {G : qc_G} {n n' k : Nat} {b : Int32} (h : ¬ (n' = n ∨ n' = 4 + n)) : qc_cmG G n b n' k = G n' k := if_neg h
theorem qc_WF_cr {G : qc_G} {n : Nat} (h : qc_WF G) (hn : n < 4) : qc_WF (qc_crG G n) := by
  intro n' hn' k hk
  by_cases z : n' = n
  · rw [z, qc_crG_s]; exact h _ (by omega) k hk
  · rw [qc_crG_n z]; exact h _ hn' k hk
theorem qc_WF_fl {G : qc_G} {n : Nat} (h : qc_WF G) (hn : n < 4) : qc_WF (qc_flG G n) := by
  intro n' hn' k hk
  by_cases z : n' = 4 + n
  · rw [z, qc_flG_s]; exact h _ (by omega) k hk
  · rw [qc_flG_n z]; exact h _ hn' k hk
theorem qc_WF_cm {G : qc_G} {n : Nat} {b : Int32} (h : qc_WF G) (hn : n < 4) : qc_WF (qc_cmG G n b) := by
  intro n' hn' k hk
  by_cases z : n' = n ∨ n' = 4 + n
  · rw [qc_cmG_s z]
    rcases qc_cp_or (G n) b k with e | e
    · rw [e]; exact qc_ok_none
    · rw [e]; exact h _ (by omega) k hk
  · rw [qc_cmG_n z]; exact h _ hn' k hk
def qc_upG (n : Nat) : List qc_H → qc_G → qc_G
  | [], G => G
  | h :: R, G => if h.1 = n then qc_upG n R (qc_set G n h.2.1 (qc_mx (G n h.2.1) (some h.2.2))) else qc_upG n R G
def qc_upH (n : Nat) : List qc_H → List qc_H
  | [] => []
  | h :: R => if h.1 = n then qc_upH n R else h :: qc_upH n R
def qc_upC (n : Nat) : List qc_H → Nat
  | [] => 0
  | h :: R => if h.1 = n then qc_upC n R + 1 else qc_upC n R
theorem qc_upH_mem {n : Nat} : ∀ {R : List qc_H} {h : qc_H}, h ∈ qc_upH n R → h ∈ R
  | [], h, hh => hh
  | x :: R, h, hh => by
    have hh' : h ∈ if x.1 = n then qc_upH n R else x :: qc_upH n R := hh
    split at hh'
    · exact List.mem_cons_of_mem x (qc_upH_mem hh')
    · rcases List.mem_cons.mp hh' with e | e
      · rw [e]; exact List.mem_cons_self
      · exact List.mem_cons_of_mem x (qc_upH_mem e)
def qc_df (G : qc_G) (a b k : Nat) : Nat := if G a k = G b k then 0 else 1
def qc_rp (G : qc_G) (a b : Nat) (S : Nat → Bool) : qc_G := fun n k => if (n = a ∨ n = b) ∧ S k = true then qc_mx (G a k) (G b k) else G n k
theorem qc_rp_t {G : qc_G} {a b n k : Nat} {S : Nat → Bool} (h : n = a ∨ n = b) (hk : S k = true) : qc_rp G a b S n k = qc_mx (G a k) (G b k) := if_pos ⟨h, hk⟩
theorem qc_rp_f {G : qc_G} {a b n k : Nat} {S : Nat → Bool} (h : ¬ ((n = a ∨ n = b) ∧ S k = true)) : qc_rp G a b S n k = G n k := if_neg h
theorem qc_rp_rp {G : qc_G} {a b : Nat} {S T : Nat → Bool} : qc_rp (qc_rp G a b S) a b T = qc_rp G a b (fun k => S k || T k) := by
  funext n k
  by_cases hn : n = a ∨ n = b
  · cases hT : T k with
    | true =>
      rw [qc_rp_t hn hT, qc_rp_t (S := fun k => S k || T k) hn (by show (S k || T k) = true; rw [hT, Bool.or_true])]
      cases hS : S k with
      | true => rw [qc_rp_t (Or.inl rfl) hS, qc_rp_t (Or.inr rfl) hS, qc_mx_self]
      | false => rw [qc_rp_f (by rw [hS]; intro z; cases z.2), qc_rp_f (by rw [hS]; intro z; cases z.2)]
    | false =>
      rw [qc_rp_f (S := T) (by rw [hT]; intro z; cases z.2)]
      cases hS : S k with
      | true => rw [qc_rp_t hn hS, qc_rp_t (S := fun k => S k || T k) hn (by show (S k || T k) = true; rw [hS, Bool.true_or])]
      | false => rw [qc_rp_f (S := S) (by rw [hS]; intro z; cases z.2), qc_rp_f (S := fun k => S k || T k) (by intro z; have z2 : (S k || T k) = true := z.2; rw [hS, hT] at z2; cases z2)]
  · rw [qc_rp_f (fun z => hn z.1), qc_rp_f (fun z => hn z.1), qc_rp_f (fun z => hn z.1)]
theorem qc_rp_cg {G : qc_G} {a b : Nat} {S T : Nat → Bool} (h : ∀ k, S k = T k) : qc_rp G a b S = qc_rp G a b T := by
  have : S = T := funext h
  rw [this]
theorem qc_rp_cg2 {G : qc_G} {a b : Nat} {S T : Nat → Bool} (h : ∀ k, S k = T k ∨ G a k = G b k) : qc_rp G a b S = qc_rp G a b T := by
  funext n k
  rcases h k with e | e
  · unfold qc_rp
    rw [e]
  · have hh : ∀ U : Nat → Bool, qc_rp G a b U n k = G n k := by
      intro U
      by_cases z : (n = a ∨ n = b) ∧ U k = true
      · rw [qc_rp_t z.1 z.2]
        rcases z.1 with y | y
        · rw [y, ← e, qc_mx_self]
        · rw [y, e, qc_mx_self]
      · exact qc_rp_f z
    rw [hh S, hh T]
theorem qc_rp_0 {G : qc_G} {a b : Nat} {S : Nat → Bool} (h : ∀ k, S k = false) : qc_rp G a b S = G := by
  funext n k
  exact qc_rp_f (by rw [h k]; intro z; cases z.2)
theorem qc_rp_df {G : qc_G} {a b k : Nat} {S : Nat → Bool} (h : S k = false) : qc_df (qc_rp G a b S) a b k = qc_df G a b k := by
  unfold qc_df
  rw [qc_rp_f (by rw [h]; intro z; cases z.2), qc_rp_f (by rw [h]; intro z; cases z.2)]
theorem qc_WF_rp {G : qc_G} {a b : Nat} {S : Nat → Bool} (h : qc_WF G) (ha : a < 4) (hb : b < 4) : qc_WF (qc_rp G a b S) := by
  intro n hn k hk
  by_cases z : (n = a ∨ n = b) ∧ S k = true
  · rw [qc_rp_t z.1 z.2]
    exact qc_ok_mx (h a (by omega) k hk) (h b (by omega) k hk)
  · rw [qc_rp_f z]; exact h n hn k hk
theorem qc_rp_1 {G : qc_G} {a b k : Nat} (h : qc_nw (G b k) (G a k) = true) : qc_set G a k (qc_mx (G a k) (G b k)) = qc_rp G a b (qc_one k) := by
  funext n k'
  by_cases z : n = a ∧ k' = k
  · rw [z.1, z.2, qc_set_s, qc_rp_t (Or.inl rfl) (decide_eq_true rfl)]
  · rw [qc_set_n z]
    by_cases y : (n = a ∨ n = b) ∧ qc_one k k' = true
    · have hk : k' = k := of_decide_eq_true y.2
      rw [qc_rp_t y.1 y.2, hk, qc_mx_t h]
      rcases y.1 with e | e
      · exact absurd ⟨e, hk⟩ z
      · rw [e]
    · rw [qc_rp_f y]
theorem qc_rp_2 {G : qc_G} {a b k : Nat} (h : qc_nw (G b k) (G a k) = false) : qc_set G b k (qc_mx (G b k) (G a k)) = qc_rp G a b (qc_one k) := by
  funext n k'
  by_cases z : n = b ∧ k' = k
  · rw [z.1, z.2, qc_set_s, qc_rp_t (Or.inr rfl) (decide_eq_true rfl), qc_mx_comm]
  · rw [qc_set_n z]
    by_cases y : (n = a ∨ n = b) ∧ qc_one k k' = true
    · have hk : k' = k := of_decide_eq_true y.2
      rw [qc_rp_t y.1 y.2, hk, qc_mx_f h]
      rcases y.1 with e | e
      · rw [e]
      · exact absurd ⟨e, hk⟩ z
    · rw [qc_rp_f y]
def qc_sm (f : Nat → Nat) : Nat → Nat
  | 0 => 0
  | K + 1 => qc_sm f K + f K
theorem qc_sm_cg {f g : Nat → Nat} : ∀ K, (∀ k, k < K → f k = g k) → qc_sm f K = qc_sm g K
  | 0, _ => rfl
  | K + 1, h => by
    show qc_sm f K + f K = qc_sm g K + g K
    rw [qc_sm_cg K (fun k hk => h k (by omega)), h K (by omega)]
theorem qc_sm_add (f : Nat → Nat) (a : Nat) : ∀ b, qc_sm f (a + b) = qc_sm f a + qc_sm (fun j => f (a + j)) b
  | 0 => rfl
  | b + 1 => by
    show qc_sm f (a + b) + f (a + b) = qc_sm f a + (qc_sm (fun j => f (a + j)) b + f (a + b))
    rw [qc_sm_add f a b, Nat.add_assoc]
theorem qc_sm_le {f : Nat → Nat} (h : ∀ k, f k ≤ 1) : ∀ K, qc_sm f K ≤ K
  | 0 => Nat.le_refl 0
  | K + 1 => by
    have a := qc_sm_le h K
    have b := h K
    show qc_sm f K + f K ≤ K + 1
    omega
def qc_hl (a b p : Nat) : Bool := !(decide ((p + 3) % 4 = a)) && !(decide ((p + 3) % 4 = b))
def qc_fR (G : qc_G) (a b : Nat) (k : Nat) : Nat := if qc_hl a b (qc_pt k) = true then qc_df G a b k else 0
theorem qc_fR_le (G : qc_G) (a b k : Nat) : qc_fR G a b k ≤ 1 := by
  unfold qc_fR qc_df
  split
  · split <;> omega
  · omega
def qc_rpS (a b : Nat) : Nat → Bool := fun k => decide (k < 72) && qc_hl a b (qc_pt k)
def qc_S (p c : Nat) : Nat → Bool := fun k => decide (k = 64 + p) || (decide (8 * p ≤ k) && decide (k < 8 * p + c))
def qc_tot (v : Nat → Int64) : Nat → Int64
  | 0 => 0
  | c + 1 => qc_tot v c + (if v c = 1000000000000 then 0 else v c)
theorem qc_S_succ (p c k : Nat) : (qc_S p c k || qc_one (8 * p + c) k) = qc_S p (c + 1) k := by
  unfold qc_S qc_one
  by_cases h1 : k = 64 + p
  · simp [h1]
  · by_cases h2 : k = 8 * p + c
    · simp [h2]
    · by_cases h3 : 8 * p ≤ k
      · by_cases h4 : k < 8 * p + c
        · simp [h1, h2, h3, h4, show k < 8 * p + (c + 1) by omega]
        · simp [h1, h2, h3, h4, show ¬ k < 8 * p + (c + 1) by omega]
      · simp [h1, h2, h3]
theorem qc_S_0 (p k : Nat) : qc_S p 0 k = qc_one (64 + p) k := by
  unfold qc_S qc_one
  by_cases h1 : 8 * p ≤ k
  · simp [h1, show ¬ k < 8 * p by omega]
  · simp [h1]
end
section
section
variable {kh fk fs fv zf zc : Int32} {up mk ms mv mc rk rs rv rd re : Nat → Int32} {rf : Nat → Int64} {rr gk gs gv ag qN qK qD qS qV : Nat → Int32}
theorem xs_mv {post : SX → Prop} {i j : Nat} {h : qc_H} (hi : i < 12) (hj : j < 12) (hh : qc_hX qN qK qD qS qV i h) (hw : h.1 < 4 ∧ h.2.1 < 72 ∧ qc_ok h.2.1 (some h.2.2))
    (hp : post (kh, fk, fs, fv, zf, zc, up, mk, ms, mv, mc, rk, rs, rv, rd, re, rf, rr, gk, gs, gv, ag, upd qN j (qN i), upd qK j (qK i), upd qD j (qD i), upd qS j (qS i), upd qV j (qV i))) : wpX_moveHint post (kh, fk, fs, fv, zf, zc, up, mk, ms, mv, mc, rk, rs, rv, rd, re, rf, rr, gk, gs, gv, ag, qN, qK, qD, qS, qV) (nI i) (nI j) := by
  have e1 : vp_nar .byte (qN i) = qN i := by rw [hh.1]; exact qc_vb (by omega)
  have e2 : vp_nar .byte (qK i) = qK i := by rw [hh.2.1]; exact qc_vb (by omega)
  have e3 : vp_nar .byte (qD i) = qD i := by
    refine (qc_kb ?_).2
    rw [hh.2.2.1]
    exact Or.inr (hw.2.2 h.2.2 rfl).1
  unfold wpX_moveHint
  dsimp only
  rw [qc_cl (n := i) (by omega), qc_cl (n := j) (by omega), e1, e2, e3]
  exact ⟨qc_in hi (by decide), qc_in hj (by decide), nm_e ⟨qc_in hi (by decide), qc_in hj (by decide), nm_e ⟨qc_in hi (by decide), qc_in hj (by decide), nm_e ⟨qc_in hi (by decide), qc_in hj (by decide), nm_e ⟨qc_in hi (by decide), qc_in hj (by decide), nm_e hp⟩⟩⟩⟩⟩
theorem xs_up35 {post : Int32 → SX → Prop} {n f L : Nat} (hn : n < 4) (hf : f < 12) (hL : L ≤ 12) :
    ∀ (R K : List qc_H) (k g fu : Nat) (fk fs fv : Int32) (mk ms mv mc ag qN qK qD qS qV : Nat → Int32) (G : qc_G), R.length < fu → K.length ≤ k → k + R.length = L → qc_WH R → qc_XS mk ms mv mc rk rs rv rd re rf rr ag G →
      (∀ j h, K[j]? = some h → qc_hX qN qK qD qS qV ((f + j) % 12) h) → (∀ j h, R[j]? = some h → qc_hX qN qK qD qS qV ((f + k + j) % 12) h) →
      (∀ (fk1 fs1 fv1 : Int32) (mk1 ms1 mv1 mc1 ag1 qN1 qK1 qD1 qS1 qV1 : Nat → Int32), qc_XS mk1 ms1 mv1 mc1 rk rs rv rd re rf rr ag1 (qc_upG n R G) → (∀ j h, (K ++ qc_upH n R)[j]? = some h → qc_hX qN1 qK1 qD1 qS1 qV1 ((f + j) % 12) h) → post (nI (g + qc_upC n R)) (kh, fk1, fs1, fv1, nI f, nI (K.length + (qc_upH n R).length), up, mk1, ms1, mv1, mc1, rk, rs, rv, rd, re, rf, rr, gk, gs, gv, ag1, qN1, qK1, qD1, qS1, qV1)) →
      wX_up_35 post (nI n) fu (nI K.length) (nI g) (nI k) kh fk fs fv (nI f) (nI L) up mk ms mv mc rk rs rv rd re rf rr gk gs gv ag qN qK qD qS qV := by
  intro R
  induction R with
  | nil =>
    intro K k g fu fk fs fv mk ms mv mc ag qN qK qD qS qV G hfu hK hk hW hS h1 h2 hp
    obtain ⟨f', rfl⟩ : ∃ f', fu = f' + 1 := ⟨fu - 1, by omega⟩
    have hk' : k = L := hk
    have hp' := hp fk fs fv mk ms mv mc ag qN qK qD qS qV hS (by rw [show K ++ qc_upH n [] = K from List.append_nil K]; exact h1)
    exact br_t (nI_le (by omega) (by omega)) hp'
  | cons h R ih =>
    intro K k g fu fk fs fv mk ms mv mc ag qN qK qD qS qV G hfu hK hk hW hS h1 h2 hp
    rw [List.length_cons] at hfu hk
    obtain ⟨f', rfl⟩ : ∃ f', fu = f' + 1 := ⟨fu - 1, by omega⟩
    have hi : (f + k) % 12 < 12 := Nat.mod_lt _ (by decide)
    have hj : (f + K.length) % 12 < 12 := Nat.mod_lt _ (by decide)
    have hh : qc_hX qN qK qD qS qV ((f + k) % 12) h := h2 0 h rfl
    have hw := hW h List.mem_cons_self
    have hWR : qc_WH R := fun x hx => hW x (List.mem_cons_of_mem h hx)
    refine br_f (nI_ge (by omega) (by omega)) ⟨by decide, nm_r (qc_rem12 (by omega)) ?_⟩
    rw [qc_cl (n := (f + k) % 12) (by omega), hh.1, hh.2.1, hh.2.2.1, hh.2.2.2.1, hh.2.2.2.2]
    refine ⟨qc_in hi (by decide), br_c (fun e => ?_) (fun e => ?_)⟩
    · have e' : h.1 = n := (nI_eq (by omega) (by omega)).mp e
      have eG : qc_upG n (h :: R) G = qc_upG n R (qc_set G n h.2.1 (qc_mx (G n h.2.1) (some h.2.2))) := if_pos e'
      have eH : qc_upH n (h :: R) = qc_upH n R := if_pos e'
      have eC : qc_upC n (h :: R) = qc_upC n R + 1 := if_pos e'
      rw [eG, eH, eC] at hp
      have hne : ¬ h.2.2.1 = 0 := by
        rcases (hw.2.2 h.2.2 rfl).1 with z | z <;> rw [z] <;> decide
      refine ⟨qc_in hi (by decide), qc_in hi (by decide), qc_in hi (by decide), qc_in hi (by decide), ?_⟩
      refine xs_take hS hn hw.2.1 (o := some h.2.2) (qc_rd1 hne) hw.2.2 (fun a b c mk1 ms1 mv1 mc1 ag1 hS1 => ?_)
      refine nm_r (nI_1 g) (nm_r (nI_1 k) (ih K (k + 1) (g + 1) f' _ _ _ _ _ _ _ _ _ _ _ _ _ _ (by omega) (by omega) (by omega) hWR hS1 h1 ?_ ?_))
      · intro j x hx
        have := h2 (j + 1) x hx
        rw [show f + (k + 1) + j = f + k + (j + 1) by omega]
        exact this
      · intro fk2 fs2 fv2 mk2 ms2 mv2 mc2 ag2 qN2 qK2 qD2 qS2 qV2 a1 a2
        have := hp fk2 fs2 fv2 mk2 ms2 mv2 mc2 ag2 qN2 qK2 qD2 qS2 qV2 a1 a2
        rw [show g + (qc_upC n R + 1) = g + 1 + qc_upC n R by omega] at this
        exact this
    · have e' : ¬ h.1 = n := fun z => e (by rw [z])
      have eG : qc_upG n (h :: R) G = qc_upG n R G := if_neg e'
      have eH : qc_upH n (h :: R) = h :: qc_upH n R := if_neg e'
      have eC : qc_upC n (h :: R) = qc_upC n R := if_neg e'
      rw [eG, eH, eC] at hp
      refine nm_r (nI_1 _) ⟨by decide, ?_⟩
      rw [qc_rem12 (by omega)]
      refine xs_mv hi hj hh hw ?_
      refine nm_r (nI_1 k) ?_
      have e1 : K.length + 1 = (K ++ [h]).length := by rw [List.length_append, List.length_singleton]
      rw [e1]
      refine ih (K ++ [h]) (k + 1) g f' _ _ _ _ _ _ _ _ _ _ _ _ _ G (by omega) (by omega) (by omega) hWR hS ?_ ?_ ?_
      · intro j x hx
        rcases qc_get_app hx with z | z
        · exact qc_hX_ne (by omega) (h1 j x z.2)
        · rw [z.1, z.2]; exact qc_hX_cp hh
      · intro j x hx
        have hlt := qc_lt_of_get hx
        have := h2 (j + 1) x hx
        rw [show f + (k + 1) + j = f + k + (j + 1) by omega]
        exact qc_hX_ne (by omega) this
      · intro fk2 fs2 fv2 mk2 ms2 mv2 mc2 ag2 qN2 qK2 qD2 qS2 qV2 a1 a2
        have := hp fk2 fs2 fv2 mk2 ms2 mv2 mc2 ag2 qN2 qK2 qD2 qS2 qV2 a1 (by rw [List.append_assoc] at a2; exact a2)
        rw [← e1, show K.length + 1 + (qc_upH n R).length = K.length + (qc_upH n R).length + 1 by omega]
        exact this
theorem xs_upM {post : Int32 → SX → Prop} {n : Nat} {G : qc_G} {H : List qc_H} (hn : n < 4) (h0 : up n = 0) (hS : qc_XS mk ms mv mc rk rs rv rd re rf rr ag G) (hH : qc_XH zf zc qN qK qD qS qV H) (hW : qc_WH H)
    (hp : ∀ (fk1 fs1 fv1 zf1 zc1 : Int32) (mk1 ms1 mv1 mc1 ag1 qN1 qK1 qD1 qS1 qV1 : Nat → Int32), qc_XS mk1 ms1 mv1 mc1 rk rs rv rd re rf rr ag1 (qc_upG n H G) → qc_XH zf1 zc1 qN1 qK1 qD1 qS1 qV1 (qc_upH n H) → post (nI (1 + qc_upC n H)) (kh, fk1, fs1, fv1, zf1, zc1, upd up n 1, mk1, ms1, mv1, mc1, rk, rs, rv, rd, re, rf, rr, gk, gs, gv, ag1, qN1, qK1, qD1, qS1, qV1)) : wpX_up post (kh, fk, fs, fv, zf, zc, up, mk, ms, mv, mc, rk, rs, rv, rd, re, rf, rr, gk, gs, gv, ag, qN, qK, qD, qS, qV) (nI n) := by
  obtain ⟨f, h1, h2, h3, h4, h5⟩ := hH
  subst h2 h3
  unfold wpX_up
  refine xs_bad0 (c := 4) hn (by decide) (br_t rfl ?_)
  rw [qc_cl (n := n) (by omega), qc_bo1]
  refine ⟨qc_in hn (by decide), br_t h0 ⟨qc_in hn (by decide), nm_e ⟨H.length + 1, ?_⟩⟩⟩
  refine xs_up35 hn h1 h4 H [] 0 1 (H.length + 1) _ _ _ _ _ _ _ _ _ _ _ _ _ G (by omega) (Nat.le_refl 0) (by omega) hW hS (fun j h e => nomatch e) (fun j h e => h5 j h e) ?_
  intro fk1 fs1 fv1 mk1 ms1 mv1 mc1 ag1 qN1 qK1 qD1 qS1 qV1 a1 a2
  have hlen : (qc_upH n H).length ≤ H.length := by
    have : ∀ R : List qc_H, (qc_upH n R).length ≤ R.length := by
      intro R
      induction R with
      | nil => exact Nat.le_refl 0
      | cons x R ih =>
        show (if x.1 = n then qc_upH n R else x :: qc_upH n R).length ≤ R.length + 1
        split
        · omega
        · rw [List.length_cons]; omega
    exact this H
  refine hp _ _ _ _ _ _ _ _ _ _ _ _ _ _ _ a1 ⟨f, h1, rfl, ?_, by omega, a2⟩
  rw [List.length_nil, Nat.zero_add]
theorem qc_xA_cl {G G' : qc_G} {n : Nat} (h : qc_ag ag (fun a b q => (∀ k, k < 72 → qc_pt k = q → G a k = G b k) ∧ ((a = n ∨ b = n) → Nat.testBit 255 q = false))) (hG : ∀ n', n' < 4 → n' ≠ n → ∀ k, k < 72 → G' n' k = G n' k) : qc_xA ag G' := by
  refine qc_ag_w h ?_
  intro a b q ha hb hq hh k hk hpt
  have hne : ¬ (a = n ∨ b = n) := by
    intro z
    have := hh.2 z
    rw [qc_255, decide_eq_true hq] at this
    cases this
  rw [hG a ha (fun z => hne (Or.inl z)) k hk, hG b hb (fun z => hne (Or.inr z)) k hk]
  exact hh.1 k hk hpt
theorem xs_crash {post : Int32 → SX → Prop} {n : Nat} {G : qc_G} (hn : n < 4) (hS : qc_XS mk ms mv mc rk rs rv rd re rf rr ag G)
    (hp : ∀ (fk1 fs1 fv1 : Int32) (mk1 ms1 mv1 mc1 ag1 : Nat → Int32), qc_XS mk1 ms1 mv1 mc1 rk rs rv rd re rf rr ag1 (qc_crG G n) → post (nI (qc_en (qc_crG G n n) 64)) (kh, fk1, fs1, fv1, zf, zc, upd up n 0, mk1, ms1, mv1, mc1, rk, rs, rv, rd, re, rf, rr, gk, gs, gv, ag1, qN, qK, qD, qS, qV)) : wpX_crash post (kh, fk, fs, fv, zf, zc, up, mk, ms, mv, mc, rk, rs, rv, rd, re, rf, rr, gk, gs, gv, ag, qN, qK, qD, qS, qV) (nI n) := by
  obtain ⟨hM, hR, hA, hW⟩ := hS
  unfold wpX_crash
  refine xs_bad0 (c := 4) hn (by decide) (br_t rfl ?_)
  rw [qc_cl (n := n) (by omega), qc_bo0]
  refine ⟨qc_in hn (by decide), nm_e (xs_forget hn (fun mk1 a1 a2 => ?_))⟩
  refine xs_changed (P := 255) hn (by decide) hA (fun ag1 a3 => ?_)
  have hM1 : qc_xM mk1 ms mv (upd mc n 0) (qc_crG G n) := by
    refine qc_xM_emp hM (qc_emp_f a1 a2) hn ?_ ?_
    · intro n' hn' hne k hk
      rw [qc_crG_n hne, qc_crG_n (by omega)]
      exact ⟨rfl, rfl⟩
    · intro k hk
      rw [qc_crG_s, qc_crG_n (by omega)]
  have hR1 : qc_xR rk rs rv rd re rf rr (qc_crG G n) := by
    intro n' hn'
    exact qc_RN_cg (hR n' hn') (fun k hk => qc_crG_n (by omega))
  refine xs_entries hM1 hR1 hn (fun a b c => ?_)
  exact hp a b c mk1 ms mv (upd mc n 0) ag1 ⟨hM1, hR1, qc_xA_cl a3 (fun n' hn' hne k hk => qc_crG_n hne), qc_WF_cr hW hn⟩
theorem qc_spill_S {n : Nat} {G : qc_G} {rk1 rs1 rv1 rd1 re1 rr1 : Nat → Int32} {rf1 : Nat → Int64} {mk1 mc1 : Nat → Int32} (hn : n < 4) (hS : qc_XS mk ms mv mc rk rs rv rd re rf rr ag G) (h1 : qc_emp n mk mc mk1 mc1) (h2 : qc_RN n rk1 rs1 rv1 rd1 re1 rf1 rr1 (G n)) (h3 : qc_fr n rk rs rv rd re rf rr rk1 rs1 rv1 rd1 re1 rf1 rr1) :
    qc_XS mk1 ms mv mc1 rk1 rs1 rv1 rd1 re1 rf1 rr1 ag (qc_flG G n) := by
  obtain ⟨hM, hR, hA, hW⟩ := hS
  refine ⟨qc_xM_emp hM h1 hn ?_ ?_, qc_xR_fr hR h3 ?_ ?_, ?_, qc_WF_fl hW hn⟩
  · intro n' hn' hne k hk
    rw [qc_flG_n (by omega), qc_flG_n (by omega)]
    exact ⟨rfl, rfl⟩
  · intro k hk
    rw [qc_flG_s, qc_flG_n (by omega)]
  · exact qc_RN_cg h2 (fun k hk => qc_flG_s)
  · intro n' hn' hne k hk
    exact qc_flG_n (by omega)
  · refine qc_ag_w hA ?_
    intro a b q ha hb hq hh k hk hpt
    rw [qc_flG_n (by omega), qc_flG_n (by omega)]
    exact hh k hk hpt
theorem xs_flush {post : Int32 → SX → Prop} {n : Nat} {G : qc_G} (hn : n < 4) (hu : ¬ up n = 0) (hS : qc_XS mk ms mv mc rk rs rv rd re rf rr ag G)
    (hp : ∀ (fk1 fs1 fv1 : Int32) (mk1 mc1 gk1 gs1 gv1 rk1 rs1 rv1 rd1 re1 rr1 : Nat → Int32) (rf1 : Nat → Int64), qc_XS mk1 ms mv mc1 rk1 rs1 rv1 rd1 re1 rf1 rr1 ag (qc_flG G n) → post (nI (qc_en (qc_flG G n n) 64)) (kh, fk1, fs1, fv1, zf, zc, up, mk1, ms, mv, mc1, rk1, rs1, rv1, rd1, re1, rf1, rr1, gk1, gs1, gv1, ag, qN, qK, qD, qS, qV)) : wpX_flush post (kh, fk, fs, fv, zf, zc, up, mk, ms, mv, mc, rk, rs, rv, rd, re, rf, rr, gk, gs, gv, ag, qN, qK, qD, qS, qV) (nI n) := by
  unfold wpX_flush
  refine xs_bad0 (c := 4) hn (by decide) (br_t rfl ?_)
  rw [qc_cl (n := n) (by omega)]
  refine ⟨qc_in hn (by decide), br_f hu ?_⟩
  refine xs_spill hn hS.1 hS.2.2.2 hS.2.1 (fun mk1 mc1 gk1 gs1 gv1 rk1 rs1 rv1 rd1 re1 rf1 rr1 a1 a2 a3 => ?_)
  have hS1 := qc_spill_S hn hS a1 a2 a3
  refine xs_entries hS1.1 hS1.2.1 hn (fun a b c => ?_)
  exact hp _ _ _ _ _ _ _ _ _ _ _ _ _ _ _ hS1
theorem xs_cp122 {post : Int32 → SX → Prop} {n : Nat} {b : Int32} {g : Nat → qc_O}
    (hp : ∀ gk : Nat → Int32, (∀ k, k < 72 → qc_rd (gk k) (gs k) (gv k) = qc_cp g b k) →
      wpX_rewrite (fun u => match u with | (kh9, fk9, fs9, fv9, zf9, zc9, up9, mk9, ms9, mv9, mc9, rk9, rs9, rv9, rd9, re9, rf9, rr9, gk9, gs9, gv9, ag9, qN9, qK9, qD9, qS9, qV9) => wpX_changed (fun u => match u with | (kh8, fk8, fs8, fv8, zf8, zc8, up8, mk8, ms8, mv8, mc8, rk8, rs8, rv8, rd8, re8, rf8, rr8, gk8, gs8, gv8, ag8, qN8, qK8, qD8, qS8, qV8) => wpX_entries (fun r u => match u with | (kh7, fk7, fs7, fv7, zf7, zc7, up7, mk7, ms7, mv7, mc7, rk7, rs7, rv7, rd7, re7, rf7, rr7, gk7, gs7, gv7, ag7, qN7, qK7, qD7, qS7, qV7) => post r (kh7, fk7, fs7, fv7, zf7, zc7, up7, mk7, ms7, mv7, mc7, rk7, rs7, rv7, rd7, re7, rf7, rr7, gk7, gs7, gv7, ag7, qN7, qK7, qD7, qS7, qV7)) (kh8, fk8, fs8, fv8, zf8, zc8, up8, mk8, ms8, mv8, mc8, rk8, rs8, rv8, rd8, re8, rf8, rr8, gk8, gs8, gv8, ag8, qN8, qK8, qD8, qS8, qV8) (nI n)) (kh9, fk9, fs9, fv9, zf9, zc9, up9, mk9, ms9, mv9, mc9, rk9, rs9, rv9, rd9, re9, rf9, rr9, gk9, gs9, gv9, ag9, qN9, qK9, qD9, qS9, qV9) (nI n) 255) (kh, fk, fs, fv, zf, zc, up, mk, ms, mv, mc, rk, rs, rv, rd, re, rf, rr, gk, gs, gv, ag, qN, qK, qD, qS, qV) (nI n)) :
    ∀ (d i f : Nat) (gk : Nat → Int32), i + d = 72 → 64 ≤ i → d < f → (∀ k, k < 72 → qc_rd (gk k) (gs k) (gv k) = if k < i then qc_cp g b k else g k) →
      wX_compact_122 post (nI n) b kh fk fs fv zf zc f (nI i) up mk ms mv mc rk rs rv rd re rf rr gk gs gv ag qN qK qD qS qV := by
  intro d
  induction d with
  | zero =>
    intro i f gk hi h64 hf h
    obtain ⟨f', rfl⟩ : ∃ f', f = f' + 1 := ⟨f - 1, by omega⟩
    have : i = 72 := by omega
    subst this
    exact br_t (Int32.le_refl _) (hp gk (fun k hk => by rw [h k hk, if_pos hk]))
  | succ d ih =>
    intro i f gk hi h64 hf h
    obtain ⟨f', rfl⟩ : ∃ f', f = f' + 1 := ⟨f - 1, by omega⟩
    have hgi := h i (by omega)
    rw [if_neg (by omega)] at hgi
    refine br_f (nI_ge (b := 72) (by omega) (by decide)) ?_
    rw [qc_cl (n := i) (by omega), qc_by0]
    refine ⟨qc_in (by omega) (by decide), br_c (fun hb => nm_r (nI_1 i) (ih (i + 1) f' gk (by omega) (by omega) (by omega) ?_)) (fun hb => ⟨qc_in (by omega) (by decide), nm_e (nm_r (nI_1 i) (ih (i + 1) f' _ (by omega) (by omega) (by omega) ?_))⟩)⟩
    · intro k hk
      by_cases z : k = i
      · subst z
        rw [if_pos (by omega), hgi]
        cases hg : g k with
        | none => rw [qc_cp_none hg]
        | some y =>
          have e := (qc_rd_some (hgi.trans hg)).2.2.1
          rw [qc_cp_hi hg h64, if_neg (by rw [← e]; exact Int32.not_lt.mpr hb)]
      · rw [h k hk]
        by_cases y : k < i
        · rw [if_pos y, if_pos (by omega)]
        · rw [if_neg y, if_neg (by omega)]
    · intro k hk
      by_cases z : k = i
      · subst z
        rw [pk_us, if_pos (by omega), qc_rd0 rfl]
        cases hg : g k with
        | none => rw [qc_cp_none hg]
        | some y =>
          have e := (qc_rd_some (hgi.trans hg)).2.2.1
          rw [qc_cp_hi hg h64, if_pos (by rw [← e]; exact Int32.not_le.mp hb)]
      · rw [pk_un z, h k hk]
        by_cases y : k < i
        · rw [if_pos y, if_pos (by omega)]
        · rw [if_neg y, if_neg (by omega)]
theorem xs_cp79 {post : Int32 → SX → Prop} {J : Int32 → (Nat → Int32) → (Nat → Int32) → (Nat → Int32) → (Nat → Int32) → (Nat → Int32) → (Nat → Int32) → (Nat → Int32) → (Nat → Int32) → (Nat → Int32) → (Nat → Int32) → (Nat → Int64) → (Nat → Int32) → (Nat → Int32) → (Nat → Int32) → (Nat → Int32) → (Nat → Int32) → (Nat → Int32) → (Nat → Int32) → (Nat → Int32) → (Nat → Int32) → (Nat → Int32) → Prop}
    {x1 b z : Int32} {i : Nat} (hi : i < 64) (hz : z = 0 ∨ z = 1)
    (h1 : (z = 1 ∨ (gk i = 2 ∧ gs i < b)) → J (nI (i + 1)) up mk ms mv mc rk rs rv rd re rf rr (upd gk i 0) gs gv ag qN qK qD qS qV) (h2 : ¬ (z = 1 ∨ (gk i = 2 ∧ gs i < b)) → J (nI (i + 1)) up mk ms mv mc rk rs rv rd re rf rr gk gs gv ag qN qK qD qS qV) : wX_compact_79 post J x1 b (nI i) z kh fk fs fv zf zc up mk ms mv mc rk rs rv rd re rf rr gk gs gv ag qN qK qD qS qV := by
  unfold wX_compact_79
  rw [qc_cl (n := i) (by omega), qc_by0]
  rcases hz with hz | hz
  · subst hz
    refine br_t rfl ⟨qc_in (by omega) (by decide), br_c (fun h3 => ⟨qc_in (by omega) (by decide), br_c (fun h4 => nm_r (nI_1 i) (h2 ?_)) (fun h4 => ⟨qc_in (by omega) (by decide), nm_e (nm_r (nI_1 i) (h1 (Or.inr ⟨h3, Int32.not_le.mp h4⟩)))⟩)⟩) (fun h3 => nm_r (nI_1 i) (h2 ?_))⟩
    · intro q
      rcases q with q | q
      · exact absurd q (by decide)
      · exact Int32.not_lt.mpr h4 q.2
    · intro q
      rcases q with q | q
      · exact absurd q (by decide)
      · exact h3 q.1
  · subst hz
    exact br_f (by decide) ⟨qc_in (by omega) (by decide), nm_e (nm_r (nI_1 i) (h1 (Or.inl rfl)))⟩
theorem xs_cp34 {post : Int32 → SX → Prop} {n : Nat} {b : Int32} {g : Nat → qc_O}
    (hp : ∀ gk : Nat → Int32, (∀ k, k < 72 → qc_rd (gk k) (gs k) (gv k) = if k < 64 then qc_cp g b k else g k) → wX_compact_122 post (nI n) b kh fk fs fv zf zc 9 64 up mk ms mv mc rk rs rv rd re rf rr gk gs gv ag qN qK qD qS qV) :
    ∀ (d i f : Nat) (gk : Nat → Int32), i + d = 64 → d < f → (∀ k, k < 72 → qc_rd (gk k) (gs k) (gv k) = if k < i then qc_cp g b k else g k) →
      wX_compact_34 post (nI n) b kh fk fs fv zf zc f (nI i) up mk ms mv mc rk rs rv rd re rf rr gk gs gv ag qN qK qD qS qV := by
  intro d
  induction d with
  | zero =>
    intro i f gk hi hf h
    obtain ⟨f', rfl⟩ : ∃ f', f = f' + 1 := ⟨f - 1, by omega⟩
    have : i = 64 := by omega
    subst this
    exact br_t (Int32.le_refl _) ⟨9, hp gk h⟩
  | succ d ih =>
    intro i f gk hi hf h
    obtain ⟨f', rfl⟩ : ∃ f', f = f' + 1 := ⟨f - 1, by omega⟩
    have hgi := h i (by omega)
    rw [if_neg (by omega)] at hgi
    have hgw := h (64 + i / 8) (by omega)
    rw [if_neg (by omega)] at hgw
    have key : ∀ z : Int32, (z = 0 ∨ z = 1) → (z = 1 ↔ qc_hid (g (64 + i / 8)) (gs i) = true) → wX_compact_79 post (wX_compact_34 post (nI n) b kh fk fs fv zf zc f') (nI n) b (nI i) z kh fk fs fv zf zc up mk ms mv mc rk rs rv rd re rf rr gk gs gv ag qN qK qD qS qV := by
      intro z hz hzh
      have rest : ∀ k, k < 72 → k ≠ i → qc_rd (gk k) (gs k) (gv k) = if k < i + 1 then qc_cp g b k else g k := by
        intro k hk hne
        rw [h k hk]
        by_cases y : k < i
        · rw [if_pos y, if_pos (by omega)]
        · rw [if_neg y, if_neg (by omega)]
      refine xs_cp79 (by omega) hz (fun hc => ih (i + 1) f' _ (by omega) (by omega) ?_) (fun hc => ih (i + 1) f' _ (by omega) (by omega) ?_)
      · intro k hk
        by_cases y : k = i
        · subst y
          rw [pk_us, if_pos (by omega), qc_rd0 rfl]
          cases hg : g k with
          | none => rw [qc_cp_none hg]
          | some y =>
            have e := qc_rd_some (hgi.trans hg)
            rw [qc_cp_lo hg (by omega), if_pos]
            rw [← e.2.1, ← e.2.2.1, ← hzh]
            exact hc
        · rw [pk_un y]; exact rest k hk y
      · intro k hk
        by_cases y : k = i
        · subst y
          rw [if_pos (by omega), hgi]
          cases hg : g k with
          | none => rw [qc_cp_none hg]
          | some y =>
            have e := qc_rd_some (hgi.trans hg)
            rw [qc_cp_lo hg (by omega), if_neg]
            rw [← e.2.1, ← e.2.2.1, ← hzh]
            exact hc
        · exact rest k hk y
    refine br_f (nI_ge (b := 64) (by omega) (by decide)) (nm_r (e' := nI (64 + i / 8)) (by rw [qc_shr3 (by omega)]; exact nI_add 64 (i / 8)) ?_)
    rw [qc_cl (n := 64 + i / 8) (by omega)]
    refine ⟨qc_in (by omega) (by decide), br_c (fun h0 => ?_) (fun h0 => ?_)⟩
    · unfold wX_compact_78
      refine key 0 (Or.inl rfl) ?_
      rw [qc_rd0 h0] at hgw
      rw [← hgw]
      exact ⟨fun q => absurd q (by decide), fun q => nomatch q⟩
    · rw [qc_cl (n := i) (by omega)]
      rw [qc_rd1 h0] at hgw
      have hhid : qc_hid (g (64 + i / 8)) (gs i) = decide (gs i ≤ gs (64 + i / 8)) := by rw [← hgw]; rfl
      refine ⟨qc_in (by omega) (by decide), qc_in (by omega) (by decide), br_c (fun h3 => ?_) (fun h3 => ?_)⟩
      · unfold wX_compact_78
        refine key 0 (Or.inl rfl) ?_
        rw [hhid, decide_eq_false (Int32.not_le.mpr h3)]
        exact ⟨fun q => absurd q (by decide), fun q => nomatch q⟩
      · refine key 1 (Or.inr rfl) ?_
        rw [hhid, decide_eq_true (Int32.not_lt.mp h3)]
        exact ⟨fun _ => rfl, fun _ => rfl⟩
theorem xs_compact {post : Int32 → SX → Prop} {n : Nat} {b : Int32} {G : qc_G} (hn : n < 4) (hu : ¬ up n = 0) (hS : qc_XS mk ms mv mc rk rs rv rd re rf rr ag G)
    (hp : ∀ (fk1 fs1 fv1 : Int32) (mk1 mc1 gk1 gs1 gv1 rk1 rs1 rv1 rd1 re1 rr1 ag1 : Nat → Int32) (rf1 : Nat → Int64), qc_XS mk1 ms mv mc1 rk1 rs1 rv1 rd1 re1 rf1 rr1 ag1 (qc_cmG G n b) → post (nI (qc_en (qc_cmG G n b n) 64)) (kh, fk1, fs1, fv1, zf, zc, up, mk1, ms, mv, mc1, rk1, rs1, rv1, rd1, re1, rf1, rr1, gk1, gs1, gv1, ag1, qN, qK, qD, qS, qV)) : wpX_compact post (kh, fk, fs, fv, zf, zc, up, mk, ms, mv, mc, rk, rs, rv, rd, re, rf, rr, gk, gs, gv, ag, qN, qK, qD, qS, qV) (nI n) b := by
  unfold wpX_compact
  refine xs_bad0 (c := 4) hn (by decide) (br_t rfl ?_)
  rw [qc_cl (n := n) (by omega)]
  refine ⟨qc_in hn (by decide), br_f hu ?_⟩
  refine xs_spill hn hS.1 hS.2.2.2 hS.2.1 (fun mk1 mc1 gk1 gs1 gv1 rk1 rs1 rv1 rd1 re1 rf1 rr1 a1 a2 a3 => ?_)
  obtain ⟨m, E, hr, hc⟩ := a2
  refine xs_collect hr hn (fun gk2 gs2 gv2 hg => ⟨65, ?_⟩)
  refine xs_cp34 (g := G n) (fun gk3 h3 => ?_) 64 0 65 gk2 (by omega) (by omega) ?_
  · refine xs_cp122 (g := G n) (fun gk4 h4 => ?_) 8 64 9 gk3 (by omega) (by omega) (by omega) h3
    refine xs_rewrite hn ?_ (fun rk5 rs5 rv5 rd5 re5 rf5 rr5 hAP => ?_)
    · intro k hk
      by_cases z : gk4 k = 0
      · exact Or.inl z
      · have e := h4 k hk
        rw [qc_rd1 z] at e
        rcases qc_cp_or (G n) b k with y | y
        · rw [y] at e; cases e
        · rw [y] at e
          exact Or.inr (hS.2.2.2 n (by omega) k hk _ e.symm).1
    · obtain ⟨E5, b1, b2, b3, b4, b5⟩ := hAP
      refine xs_changed (P := 255) hn (by decide) hS.2.2.1 (fun ag1 hag => ?_)
      have hRN : qc_RN n rk5 rs5 rv5 rd5 re5 rf5 rr5 (qc_cp (G n) b) := by
        refine ⟨0 + 1, E5, b1, fun k hk => ?_⟩
        rw [b5 k hk, if_pos hk, Nat.zero_add, Option.or_none, h4 k hk]
      have hS1 : qc_XS mk1 ms mv mc1 rk5 rs5 rv5 rd5 re5 rf5 rr5 ag1 (qc_cmG G n b) := by
        refine ⟨qc_xM_emp hS.1 a1 hn ?_ ?_, qc_xR_fr hS.2.1 (qc_fr_t a3 b2) ?_ ?_, ?_, qc_WF_cm hS.2.2.2 hn⟩
        · intro n' hn' hne k hk
          rw [qc_cmG_n (by omega), qc_cmG_n (by omega)]
          exact ⟨rfl, rfl⟩
        · intro k hk
          rw [qc_cmG_s (Or.inl rfl), qc_cmG_s (Or.inr rfl)]
        · exact qc_RN_cg hRN (fun k hk => qc_cmG_s (Or.inr rfl))
        · intro n' hn' hne k hk
          exact qc_cmG_n (by omega)
        · exact qc_xA_cl hag (fun n' hn' hne k hk => qc_cmG_n (by omega))
      refine xs_entries hS1.1 hS1.2.1 hn (fun a b' c => ?_)
      exact hp _ _ _ _ _ _ _ _ _ _ _ _ _ _ _ _ hS1
  · intro k hk
    rw [if_neg (by omega), hg k hk]
    exact (hc k hk).symm
end
end
section
def qc_stp (o : qc_O) : Int64 := match o with
  | none => 1000000000000
  | some y => y.2.1.toInt64
theorem qc_64 (p : Nat) : (64 : Int32) + nI p = nI (64 + p) := nI_add 64 p
theorem qc_8m (p : Nat) : (8 : Int32) * nI p = nI (8 * p) := pk_mul 8 p
theorem qc_8m8 (p : Nat) : (8 : Int32) * nI p + 8 = nI (8 * p + 8) := by rw [qc_8m]; exact nI_add (8 * p) 8
theorem qc_pt_64 {p : Nat} (h : p < 8) : qc_pt (64 + p) = p := by rw [qc_pt_hi (by omega)]; omega
theorem qc_pt_8 {p j : Nat} (h : p < 8) (hj : j < 8) : qc_pt (8 * p + j) = p := by rw [qc_pt_lo (by omega)]; omega
theorem qc_ag_or {ag : Nat → Int32} {φ : Nat → Nat → Nat → Prop} {a b p : Nat} (h : qc_ag ag φ) (ha : a < 4) (hb : b < 4) (hp : p < 8) (hφ : φ a b p) :
    qc_ag (upd ag (4 * a + b) (vp_nar .short ((ag (4 * a + b) ||| ((1 : Int32) <<< (nI p &&& 31))).toInt16.toInt32))) φ := by
  intro a' ha' b' hb'
  obtain ⟨w, h1, h2, h3⟩ := h a' ha' b' hb'
  by_cases z : a' = a ∧ b' = b
  · obtain ⟨rfl, rfl⟩ := z
    have h4 := qc_or_lt h1 (qc_pw hp)
    refine ⟨w ||| 2 ^ p, h4, ?_, ?_⟩
    · rw [pk_us, h2, qc_1sh p hp, qc_or h1 (qc_pw hp), qc_vss (by omega)]
    · intro q hq hb2
      rw [Nat.testBit_or, qc_pw_bit, Bool.or_eq_true] at hb2
      rcases hb2 with e | e
      · exact h3 q hq e
      · have : p = q := of_decide_eq_true e
        rw [← this]; exact hφ
  · refine ⟨w, h1, ?_, h3⟩
    rw [pk_un (by omega)]
    exact h2
def qc_Sj (p j : Nat) : Nat → Bool := fun k => decide (8 * p ≤ k) && decide (k < 8 * p + j)
def qc_Sf (p : Nat) : Nat → Bool := fun k => decide (k < 72) && decide (qc_pt k = p)
def qc_SP (a b P : Nat) : Nat → Bool := fun k => decide (k < 72) && (decide (qc_pt k < P) && qc_hl a b (qc_pt k))
theorem qc_Sj_succ (p j k : Nat) : (qc_Sj p j k || qc_one (8 * p + j) k) = qc_Sj p (j + 1) k := by
  unfold qc_Sj qc_one
  by_cases h2 : k = 8 * p + j
  · simp [h2]
  · by_cases h3 : 8 * p ≤ k
    · by_cases h4 : k < 8 * p + j
      · simp [h3, h4, show k < 8 * p + (j + 1) by omega]
      · simp [h2, h3, h4, show ¬ k < 8 * p + (j + 1) by omega]
    · simp [h2, h3]
theorem qc_Sf_eq {p : Nat} (hp : p < 8) (k : Nat) : (qc_Sj p 8 k || qc_one (64 + p) k) = qc_Sf p k := by
  unfold qc_Sj qc_one qc_Sf
  by_cases h1 : k = 64 + p
  · subst h1
    simp [qc_pt_64 hp, show 64 + p < 72 by omega]
  · by_cases h2 : 8 * p ≤ k ∧ k < 8 * p + 8
    · have e : qc_pt k = p := by rw [qc_pt_lo (by omega)]; omega
      simp [h1, h2.1, h2.2, e, show k < 72 by omega]
    · by_cases h3 : k < 72
      · have e : ¬ qc_pt k = p := by
          rcases Nat.lt_or_ge k 64 with z | z
          · rw [qc_pt_lo z]; omega
          · rw [qc_pt_hi z]; omega
        have h4 : (decide (8 * p ≤ k) && decide (k < 8 * p + 8)) = false := by
          rw [← Bool.not_eq_true, Bool.and_eq_true, decide_eq_true_iff, decide_eq_true_iff]; exact h2
        rw [h4, decide_eq_false h1, decide_eq_false e, Bool.and_false]
        rfl
      · have h4 : (decide (8 * p ≤ k) && decide (k < 8 * p + 8)) = false := by
          rw [← Bool.not_eq_true, Bool.and_eq_true, decide_eq_true_iff, decide_eq_true_iff]; exact h2
        rw [h4, decide_eq_false h1, decide_eq_false h3, Bool.false_and]
        rfl
theorem qc_SP_skip {a b P : Nat} (h : qc_hl a b P = false) (k : Nat) : qc_SP a b P k = qc_SP a b (P + 1) k := by
  unfold qc_SP
  by_cases e : qc_pt k = P
  · rw [e, h]; simp
  · rw [show decide (qc_pt k < P) = decide (qc_pt k < P + 1) from decide_eq_decide.mpr (by omega)]
theorem qc_SP_ne {a b P : Nat} {k : Nat} (h : ¬ (k < 72 ∧ qc_pt k = P)) : qc_SP a b P k = qc_SP a b (P + 1) k := by
  unfold qc_SP
  by_cases h7 : k < 72
  · have e : ¬ qc_pt k = P := fun z => h ⟨h7, z⟩
    rw [show decide (qc_pt k < P) = decide (qc_pt k < P + 1) from decide_eq_decide.mpr (by omega)]
  · rw [decide_eq_false h7, Bool.false_and, Bool.false_and]
theorem qc_SP_add {a b P : Nat} (h : qc_hl a b P = true) (k : Nat) : (qc_SP a b P k || qc_Sf P k) = qc_SP a b (P + 1) k := by
  by_cases e : k < 72 ∧ qc_pt k = P
  · unfold qc_SP qc_Sf
    rw [e.2, h, decide_eq_true e.1, decide_eq_true (show P < P + 1 by omega)]
    simp
  · have h2 : qc_Sf P k = false := by
      unfold qc_Sf
      rw [← Bool.not_eq_true, Bool.and_eq_true, decide_eq_true_iff, decide_eq_true_iff]; exact e
    rw [h2, Bool.or_false]
    exact qc_SP_ne e
theorem qc_SP_f {a b P k : Nat} (h : qc_pt k = P) : qc_SP a b P k = false := by
  unfold qc_SP
  rw [h, decide_eq_false (show ¬ P < P by omega), Bool.false_and, Bool.and_false]
def qc_cP (G : qc_G) (a b P : Nat) : Nat := qc_sm (qc_fR G a b) (8 * P) + qc_sm (fun j => qc_fR G a b (64 + j)) P
theorem qc_cP_succ (G : qc_G) (a b P : Nat) : qc_cP G a b (P + 1) = qc_cP G a b P + qc_sm (fun j => qc_fR G a b (8 * P + j)) 8 + qc_fR G a b (64 + P) := by
  unfold qc_cP
  have e : 8 * (P + 1) = 8 * P + 8 := by omega
  rw [e, qc_sm_add]
  show _ + (qc_sm (fun j => qc_fR G a b (64 + j)) P + qc_fR G a b (64 + P)) = _
  omega
theorem qc_cP_8 (G : qc_G) (a b : Nat) : qc_cP G a b 8 = qc_sm (qc_fR G a b) 72 := (qc_sm_add (qc_fR G a b) 64 8).symm
theorem qc_cP_0 {G : qc_G} {a b P : Nat} (hP : P < 8) (h : ∀ k, k < 72 → qc_pt k = P → qc_fR G a b k = 0) : qc_cP G a b (P + 1) = qc_cP G a b P := by
  rw [qc_cP_succ, h (64 + P) (by omega) (qc_pt_64 hP), qc_sm_cg (g := fun _ => 0) 8 (fun j hj => h (8 * P + j) (by omega) (qc_pt_8 hP hj))]
  rfl
theorem qc_cP_1 {G : qc_G} {a b P : Nat} (hP : P < 8) (h : qc_hl a b P = true) :
    qc_cP G a b P + qc_sm (fun j => qc_df (qc_rp G a b (qc_SP a b P)) a b (8 * P + j)) 8 + qc_df (qc_rp G a b (qc_SP a b P)) a b (64 + P) = qc_cP G a b (P + 1) := by
  rw [qc_cP_succ]
  have e : ∀ k, qc_pt k = P → qc_df (qc_rp G a b (qc_SP a b P)) a b k = qc_fR G a b k := by
    intro k hk
    unfold qc_fR
    rw [qc_rp_df (qc_SP_f hk), hk, if_pos h]
  rw [e _ (qc_pt_64 hP), qc_sm_cg (f := fun j => qc_df (qc_rp G a b (qc_SP a b P)) a b (8 * P + j)) (g := fun j => qc_fR G a b (8 * P + j)) 8 (fun j hj => e _ (qc_pt_8 hP hj))]
section
variable {kh fk fs fv zf zc : Int32} {up mk ms mv mc rk rs rv rd re : Nat → Int32} {rf : Nat → Int64} {rr gk gs gv ag qN qK qD qS qV : Nat → Int32}
theorem xs_read {post : Int64 → SX → Prop} {pl lv : Nat} {G : qc_G} (hpl : pl < 64) (h1 : 1 ≤ lv) (h3 : lv ≤ 3) (hu : lv ≤ qc_uc up (pl / 8) 3 0) (hS : qc_XS mk ms mv mc rk rs rv rd re rf rr ag G)
    (hp : ∀ (fk1 fs1 fv1 : Int32) (mk1 ms1 mv1 mc1 ag1 : Nat → Int32), qc_XS mk1 ms1 mv1 mc1 rk rs rv rd re rf rr ag1 (qc_st G (qc_ask up (pl / 8) 3 0 lv) (fun k => qc_one (64 + pl / 8) k || qc_one pl k)) →
      post (qc_val (qc_fm G pl (qc_ask up (pl / 8) 3 0 lv) none) (qc_fm G (64 + pl / 8) (qc_ask up (pl / 8) 3 0 lv) none)) (kh, fk1, fs1, fv1, zf, zc, up, mk1, ms1, mv1, mc1, rk, rs, rv, rd, re, rf, rr, gk, gs, gv, ag1, qN, qK, qD, qS, qV)) : wpX_read post (kh, fk, fs, fv, zf, zc, up, mk, ms, mv, mc, rk, rs, rv, rd, re, rf, rr, gk, gs, gv, ag, qN, qK, qD, qS, qV) (nI pl) (nI lv) := by
  have hle := qc_uc_le up (pl / 8) 3 0
  have e1 : qc_pt (64 + pl / 8) = pl / 8 := qc_pt_64 (by omega)
  have e2 : qc_pt pl = pl / 8 := qc_pt_lo hpl
  unfold wpX_read
  dsimp only
  refine xs_bad0 (c := 64) hpl (by decide) (br_t rfl (xs_badL0 h1 h3 (br_t rfl ?_)))
  rw [qc_shr3 (by omega), qc_64]
  refine xs_upCount (br_t (nI_le hu (by omega)) ?_)
  refine xs_settle (show 64 + pl / 8 < 72 by omega) (by omega) hS (fun fk1 fs1 fv1 mk1 ms1 mv1 mc1 ag1 a1 a2 => ?_)
  rw [e1] at a1 a2
  refine xs_settle (show pl < 72 by omega) (by omega) a1 (fun fk2 fs2 fv2 mk2 ms2 mv2 mc2 ag2 b1 b2 => ?_)
  rw [e2, qc_st_st] at b1
  rw [e2, qc_st_fm] at b2
  exact xs_worth b2 a2 (hp fk2 fs2 fv2 mk2 ms2 mv2 mc2 ag2 b1)
theorem xs_su61 {post : Int64 → SX → Prop} {p lv : Nat} {G : qc_G} {wk ws wc : Int32} (hp8 : p < 8) (hl : lv < 100)
    (hw : qc_rd wk ws wc = qc_fm G (64 + p) (qc_ask up p 3 0 lv) none) :
    ∀ (d c f : Nat) (fk fs fv : Int32) (mk ms mv mc ag : Nat → Int32), c + d = 7 → d < f → qc_XS mk ms mv mc rk rs rv rd re rf rr ag (qc_st G (qc_ask up p 3 0 lv) (qc_S p c)) →
      (∀ (fk1 fs1 fv1 : Int32) (mk1 ms1 mv1 mc1 ag1 : Nat → Int32), qc_XS mk1 ms1 mv1 mc1 rk rs rv rd re rf rr ag1 (qc_st G (qc_ask up p 3 0 lv) (qc_S p 8)) → post (qc_tot (fun c => qc_val (qc_fm G (8 * p + c) (qc_ask up p 3 0 lv) none) (qc_fm G (64 + p) (qc_ask up p 3 0 lv) none)) 8) (kh, fk1, fs1, fv1, zf, zc, up, mk1, ms1, mv1, mc1, rk, rs, rv, rd, re, rf, rr, gk, gs, gv, ag1, qN, qK, qD, qS, qV)) →
      wX_sum_61 post (nI lv) wk ws f (qc_tot (fun c => qc_val (qc_fm G (8 * p + c) (qc_ask up p 3 0 lv) none) (qc_fm G (64 + p) (qc_ask up p 3 0 lv) none)) c) (nI (8 * p + c)) kh fk fs fv zf zc up mk ms mv mc rk rs rv rd re rf rr gk gs gv ag qN qK qD qS qV := by
  intro d
  induction d with
  | zero =>
    intro c f fk fs fv mk ms mv mc ag hc hf hS hp
    obtain ⟨f', rfl⟩ : ∃ f', f = f' + 1 := ⟨f - 1, by omega⟩
    have : c = 7 := by omega
    subst this
    refine xs_settle (show 8 * p + 7 < 72 by omega) hl hS (fun fk1 fs1 fv1 mk1 ms1 mv1 mc1 ag1 a1 a2 => ?_)
    rw [qc_pt_8 hp8 (by omega), qc_st_st, qc_st_cg (qc_S_succ p 7)] at a1
    rw [qc_pt_8 hp8 (by omega), qc_st_fm] at a2
    refine xs_worth a2 hw ?_
    have hq := hp fk1 fs1 fv1 mk1 ms1 mv1 mc1 ag1 a1
    have e8 : nI (8 * p + 7) + 1 &&& 7 = 0 := by
      rw [nI_1, qc_and7 (by omega), show (8 * p + 7 + 1) % 8 = 0 by omega]; rfl
    refine br_c (fun h => ?_) (fun h => ?_)
    · refine nm_e (nm_e (br_t e8 ?_))
      refine cast (congrArg (fun t => post t _) ?_) hq
      show qc_tot _ 7 + (if _ then 0 else _) = _
      rw [if_pos h]
    · refine nm_e (nm_e (br_t e8 ?_))
      refine cast (congrArg (fun t => post t _) ?_) hq
      show qc_tot _ 7 + (if _ then 0 else _) = _
      rw [if_neg h]
  | succ d ih =>
    intro c f fk fs fv mk ms mv mc ag hc hf hS hp
    obtain ⟨f', rfl⟩ : ∃ f', f = f' + 1 := ⟨f - 1, by omega⟩
    refine xs_settle (show 8 * p + c < 72 by omega) hl hS (fun fk1 fs1 fv1 mk1 ms1 mv1 mc1 ag1 a1 a2 => ?_)
    rw [qc_pt_8 hp8 (by omega), qc_st_st, qc_st_cg (qc_S_succ p c)] at a1
    rw [qc_pt_8 hp8 (by omega), qc_st_fm] at a2
    refine xs_worth a2 hw ?_
    have hq := ih (c + 1) f' fk1 fs1 fv1 mk1 ms1 mv1 mc1 ag1 (by omega) (by omega) a1 hp
    have e8 : ¬ nI (8 * p + c + 1) &&& 7 = 0 := by
      rw [qc_and7 (by omega)]
      exact nI_ne0 (by omega) (by omega)
    refine br_c (fun h => ?_) (fun h => ?_)
    · refine nm_e (nm_r (nI_1 _) (br_f e8 ?_))
      refine cast (congrArg (fun t => wX_sum_61 post (nI lv) wk ws f' t _ kh fk1 fs1 fv1 zf zc up mk1 ms1 mv1 mc1 rk rs rv rd re rf rr gk gs gv ag1 qN qK qD qS qV) ?_) hq
      show qc_tot _ c + (if _ then 0 else _) = _
      rw [if_pos h]
    · refine nm_e (nm_r (nI_1 _) (br_f e8 ?_))
      refine cast (congrArg (fun t => wX_sum_61 post (nI lv) wk ws f' t _ kh fk1 fs1 fv1 zf zc up mk1 ms1 mv1 mc1 rk rs rv rd re rf rr gk gs gv ag1 qN qK qD qS qV) ?_) hq
      show qc_tot _ c + (if _ then 0 else _) = _
      rw [if_neg h]
theorem xs_sum {post : Int64 → SX → Prop} {p lv : Nat} {G : qc_G} (hp8 : p < 8) (h1 : 1 ≤ lv) (h3 : lv ≤ 3) (hu : lv ≤ qc_uc up p 3 0) (hS : qc_XS mk ms mv mc rk rs rv rd re rf rr ag G)
    (hp : ∀ (fk1 fs1 fv1 : Int32) (mk1 ms1 mv1 mc1 ag1 : Nat → Int32), qc_XS mk1 ms1 mv1 mc1 rk rs rv rd re rf rr ag1 (qc_st G (qc_ask up p 3 0 lv) (qc_S p 8)) → post (qc_tot (fun c => qc_val (qc_fm G (8 * p + c) (qc_ask up p 3 0 lv) none) (qc_fm G (64 + p) (qc_ask up p 3 0 lv) none)) 8) (kh, fk1, fs1, fv1, zf, zc, up, mk1, ms1, mv1, mc1, rk, rs, rv, rd, re, rf, rr, gk, gs, gv, ag1, qN, qK, qD, qS, qV)) : wpX_sum post (kh, fk, fs, fv, zf, zc, up, mk, ms, mv, mc, rk, rs, rv, rd, re, rf, rr, gk, gs, gv, ag, qN, qK, qD, qS, qV) (nI p) (nI lv) := by
  have hle := qc_uc_le up p 3 0
  unfold wpX_sum
  dsimp only
  refine xs_bad0 (c := 8) hp8 (by decide) (br_t rfl (xs_badL0 h1 h3 (br_t rfl ?_)))
  rw [qc_64]
  refine xs_upCount (br_t (nI_le hu (by omega)) ?_)
  refine xs_settle (show 64 + p < 72 by omega) (by omega) hS (fun fk1 fs1 fv1 mk1 ms1 mv1 mc1 ag1 a1 a2 => ?_)
  rw [qc_pt_64 hp8] at a1 a2
  rw [← qc_st_cg (qc_S_0 p)] at a1
  exact nm_r (qc_8m p) ⟨8, xs_su61 hp8 (by omega) a2 7 0 8 _ _ _ _ _ _ _ _ (by omega) (by omega) a1 hp⟩
theorem xs_even {post : Int32 → SX → Prop} {a b k : Nat} {G : qc_G} (ha : a < 4) (hb : b < 4) (hk : k < 72) (hS : qc_XS mk ms mv mc rk rs rv rd re rf rr ag G)
    (hp : ∀ (fk1 fs1 fv1 : Int32) (mk1 ms1 mv1 mc1 ag1 : Nat → Int32), qc_XS mk1 ms1 mv1 mc1 rk rs rv rd re rf rr ag1 (qc_rp G a b (qc_one k)) → post (nI (qc_df G a b k)) (kh, fk1, fs1, fv1, zf, zc, up, mk1, ms1, mv1, mc1, rk, rs, rv, rd, re, rf, rr, gk, gs, gv, ag1, qN, qK, qD, qS, qV)) : wpX_even post (kh, fk, fs, fv, zf, zc, up, mk, ms, mv, mc, rk, rs, rv, rd, re, rf, rr, gk, gs, gv, ag, qN, qK, qD, qS, qV) (nI a) (nI b) (nI k) := by
  have hWa := hS.2.2.2 a (by omega) k hk
  have hWb := hS.2.2.2 b (by omega) k hk
  unfold wpX_even
  refine xs_search hS.1 hS.2.1 ha hk (fun x1 s1 v1 e1 => ?_)
  refine xs_search hS.1 hS.2.1 hb hk (fun x2 s2 v2 e2 => ?_)
  refine xs_newer ?_
  rw [e1, e2]
  cases hnw : qc_nw (G b k) (G a k) with
  | false =>
    refine br_t rfl (xs_take hS hb hk e1 hWa (fun a' b' c' mk1 ms1 mv1 mc1 ag1 hS1 => ?_))
    rw [qc_rp_2 hnw] at hS1
    have hq := hp a' b' c' mk1 ms1 mv1 mc1 ag1 hS1
    unfold qc_df at hq
    cases hn2 : qc_nw (G a k) (G b k) with
    | false =>
      rw [if_pos (qc_nw_tot hn2 hnw)] at hq
      exact br_t rfl hq
    | true =>
      rw [if_neg (fun z => by rw [z, qc_nw_irr] at hn2; cases hn2)] at hq
      exact br_f (by decide) hq
  | true =>
    refine br_f (by decide) (xs_take hS ha hk e2 hWb (fun a' b' c' mk1 ms1 mv1 mc1 ag1 hS1 => ?_))
    rw [qc_rp_1 hnw] at hS1
    have hq := hp a' b' c' mk1 ms1 mv1 mc1 ag1 hS1
    unfold qc_df at hq
    rw [if_neg (fun z => by rw [z, qc_nw_irr] at hnw; cases hnw)] at hq
    rw [hnw]
    exact br_f (by decide) hq
theorem xs_re102 {post : Int32 → SX → Prop} {J : Int32 → Int32 → Int32 → Int32 → Int32 → Int32 → Int32 → Int32 → (Nat → Int32) → (Nat → Int32) → (Nat → Int32) → (Nat → Int32) → (Nat → Int32) → (Nat → Int32) → (Nat → Int32) → (Nat → Int32) → (Nat → Int32) → (Nat → Int32) → (Nat → Int64) → (Nat → Int32) → (Nat → Int32) → (Nat → Int32) → (Nat → Int32) → (Nat → Int32) → (Nat → Int32) → (Nat → Int32) → (Nat → Int32) → (Nat → Int32) → (Nat → Int32) → Prop}
    {a b p c0 : Nat} {G : qc_G} (ha : a < 4) (hb : b < 4) (hp8 : p < 8) :
    ∀ (d j f : Nat) (fk fs fv : Int32) (mk ms mv mc ag : Nat → Int32), j + d = 8 → d < f → qc_XS mk ms mv mc rk rs rv rd re rf rr ag (qc_rp G a b (qc_Sj p j)) →
      (∀ (fk1 fs1 fv1 : Int32) (mk1 ms1 mv1 mc1 ag1 : Nat → Int32), qc_XS mk1 ms1 mv1 mc1 rk rs rv rd re rf rr ag1 (qc_rp G a b (qc_Sf p)) → J (nI (c0 + qc_sm (fun j => qc_df G a b (8 * p + j)) 8 + qc_df G a b (64 + p))) (nI (p + 1)) kh fk1 fs1 fv1 zf zc up mk1 ms1 mv1 mc1 rk rs rv rd re rf rr gk gs gv ag1 qN qK qD qS qV) →
      wX_repair_102 post J (nI a) (nI b) (nI p) f (nI (c0 + qc_sm (fun j => qc_df G a b (8 * p + j)) j)) (nI (8 * p + j)) kh fk fs fv zf zc up mk ms mv mc rk rs rv rd re rf rr gk gs gv ag qN qK qD qS qV := by
  intro d
  induction d with
  | zero =>
    intro j f fk fs fv mk ms mv mc ag hj hf hS hp
    obtain ⟨f', rfl⟩ : ∃ f', f = f' + 1 := ⟨f - 1, by omega⟩
    have : j = 8 := by omega
    subst this
    refine br_t (by rw [qc_8m8]; exact Int32.le_refl _) ?_
    rw [qc_64]
    refine xs_even ha hb (show 64 + p < 72 by omega) hS (fun fk1 fs1 fv1 mk1 ms1 mv1 mc1 ag1 a1 => ?_)
    rw [qc_rp_rp, qc_rp_cg (qc_Sf_eq hp8)] at a1
    rw [qc_rp_df (by unfold qc_Sj; rw [decide_eq_false (show ¬ 64 + p < 8 * p + 8 by omega), Bool.and_false])]
    refine nm_r (nI_add _ _) ?_
    rw [qc_4 a b, qc_4 b a, qc_cl (n := 4 * a + b) (by omega), qc_cl (n := 4 * b + a) (by omega)]
    refine ⟨qc_in (by omega) (by decide), qc_in (by omega) (by decide), nm_e ⟨qc_in (by omega) (by decide), qc_in (by omega) (by decide), nm_e (nm_r (nI_1 p) (hp _ _ _ _ _ _ _ _ ⟨a1.1, a1.2.1, ?_, a1.2.2.2⟩))⟩⟩
    have hab : ∀ k, k < 72 → qc_pt k = p → qc_rp G a b (qc_Sf p) a k = qc_rp G a b (qc_Sf p) b k := by
      intro k hk hpt
      have : qc_Sf p k = true := by unfold qc_Sf; rw [decide_eq_true hk, decide_eq_true hpt]; rfl
      rw [qc_rp_t (Or.inl rfl) this, qc_rp_t (Or.inr rfl) this]
    exact qc_ag_or (qc_ag_or a1.2.2.1 ha hb hp8 hab) hb ha hp8 (fun k hk hpt => (hab k hk hpt).symm)
  | succ d ih =>
    intro j f fk fs fv mk ms mv mc ag hj hf hS hp
    obtain ⟨f', rfl⟩ : ∃ f', f = f' + 1 := ⟨f - 1, by omega⟩
    refine br_f (by rw [qc_8m8]; exact nI_ge (by omega) (by omega)) ?_
    refine xs_even ha hb (show 8 * p + j < 72 by omega) hS (fun fk1 fs1 fv1 mk1 ms1 mv1 mc1 ag1 a1 => ?_)
    rw [qc_rp_rp, qc_rp_cg (qc_Sj_succ p j)] at a1
    rw [qc_rp_df (by unfold qc_Sj; rw [decide_eq_false (show ¬ 8 * p + j < 8 * p + j by omega), Bool.and_false])]
    refine nm_r (e' := nI (c0 + qc_sm (fun j => qc_df G a b (8 * p + j)) (j + 1))) (by rw [nI_add, Nat.add_assoc]; rfl) (nm_r (nI_1 _) ?_)
    exact ih (j + 1) f' _ _ _ _ _ _ _ _ (by omega) (by omega) a1 hp
theorem xs_holds {post : Int32 → Prop} {a p : Nat} (ha : a < 4) (h0 : (p + 3) % 4 = a → post 0) (h1 : ¬ (p + 3) % 4 = a → post 1) : wpX_holds post (nI a) (nI p) := by
  unfold wpX_holds
  rw [show nI p + 3 &&& 3 = nI ((p + 3) % 4) from qc_mod4 p 3]
  have := Nat.mod_lt (p + 3) (show 0 < 4 by decide)
  exact pk_eq _ _ h0 h1
theorem xs_re49 {post : Int32 → SX → Prop} {a b : Nat} {G : qc_G} (ha : a < 4) (hb : b < 4) :
    ∀ (d P f : Nat) (fk fs fv : Int32) (mk ms mv mc ag : Nat → Int32), P + d = 8 → d < f → qc_XS mk ms mv mc rk rs rv rd re rf rr ag (qc_rp G a b (qc_SP a b P)) →
      (∀ (fk1 fs1 fv1 : Int32) (mk1 ms1 mv1 mc1 ag1 : Nat → Int32), qc_XS mk1 ms1 mv1 mc1 rk rs rv rd re rf rr ag1 (qc_rp G a b (qc_SP a b 8)) → post (nI (qc_cP G a b 8)) (kh, fk1, fs1, fv1, zf, zc, up, mk1, ms1, mv1, mc1, rk, rs, rv, rd, re, rf, rr, gk, gs, gv, ag1, qN, qK, qD, qS, qV)) →
      wX_repair_49 post (nI a) (nI b) f (nI (qc_cP G a b P)) (nI P) kh fk fs fv zf zc up mk ms mv mc rk rs rv rd re rf rr gk gs gv ag qN qK qD qS qV := by
  intro d
  induction d with
  | zero =>
    intro P f fk fs fv mk ms mv mc ag hP hf hS hp
    obtain ⟨f', rfl⟩ : ∃ f', f = f' + 1 := ⟨f - 1, by omega⟩
    have : P = 8 := by omega
    subst this
    exact br_t (Int32.le_refl _) (hp _ _ _ _ _ _ _ _ hS)
  | succ d ih =>
    intro P f fk fs fv mk ms mv mc ag hP hf hS hp
    obtain ⟨f', rfl⟩ : ∃ f', f = f' + 1 := ⟨f - 1, by omega⟩
    have hP8 : P < 8 := by omega
    have skip : qc_hl a b P = false → wX_repair_49 post (nI a) (nI b) f' (nI (qc_cP G a b P)) (nI (P + 1)) kh fk fs fv zf zc up mk ms mv mc rk rs rv rd re rf rr gk gs gv ag qN qK qD qS qV := by
      intro hh
      have e : qc_cP G a b (P + 1) = qc_cP G a b P := by
        refine qc_cP_0 hP8 ?_
        intro k hk hpt
        unfold qc_fR
        rw [hpt, hh]
        rfl
      have hS' := hS
      rw [qc_rp_cg (qc_SP_skip hh)] at hS'
      have := ih (P + 1) f' fk fs fv mk ms mv mc ag (by omega) (by omega) hS' hp
      rw [e] at this
      exact this
    refine br_f (nI_ge (b := 8) (by omega) (by decide)) ?_
    refine xs_holds ha (fun h1 => br_t rfl (nm_r (nI_1 P) (skip ?_))) (fun h1 => br_f (by decide) ?_)
    · unfold qc_hl
      rw [decide_eq_true h1]
      rfl
    refine xs_holds hb (fun h2 => br_t rfl (nm_r (nI_1 P) (skip ?_))) (fun h2 => br_f (by decide) ?_)
    · unfold qc_hl
      rw [decide_eq_true h2, Bool.not_true, Bool.and_false]
    have hh : qc_hl a b P = true := by
      unfold qc_hl
      rw [decide_eq_false h1, decide_eq_false h2]
      rfl
    obtain ⟨w, w1, w2, w3⟩ := hS.2.2.1 a ha b hb
    rw [qc_4, qc_cl (n := 4 * a + b) (by omega), w2]
    refine ⟨qc_in (by omega) (by decide), br_c (fun hb0 => nm_r (qc_8m P) ⟨9, ?_⟩) (fun hb1 => nm_r (nI_1 P) ?_)⟩
    · refine xs_re102 (c0 := qc_cP G a b P) (G := qc_rp G a b (qc_SP a b P)) ha hb hP8 8 0 9 _ _ _ _ _ _ _ _ (by omega) (by omega) ?_ (fun fk1 fs1 fv1 mk1 ms1 mv1 mc1 ag1 a1 => ?_)
      · rw [qc_rp_0 (S := qc_Sj P 0)]
        · exact hS
        · intro k
          unfold qc_Sj
          by_cases z : 8 * P ≤ k
          · rw [decide_eq_false (show ¬ k < 8 * P + 0 by omega), Bool.and_false]
          · rw [decide_eq_false z, Bool.false_and]
      · rw [qc_rp_rp, qc_rp_cg (qc_SP_add hh)] at a1
        rw [qc_cP_1 hP8 hh]
        exact ih (P + 1) f' _ _ _ _ _ _ _ _ (by omega) (by omega) a1 hp
    · have hbit : w.testBit P = true := by
        cases hw : w.testBit P with
        | true => rfl
        | false => exact absurd ((nx_bit (by omega) (by omega)).mpr hw) hb1
      have heq : ∀ k, k < 72 → qc_pt k = P → G a k = G b k := by
        intro k hk hpt
        have := w3 P hP8 hbit k hk hpt
        rw [qc_rp_f (by rw [qc_SP_f hpt]; intro z; cases z.2), qc_rp_f (by rw [qc_SP_f hpt]; intro z; cases z.2)] at this
        exact this
      have e : qc_cP G a b (P + 1) = qc_cP G a b P := by
        refine qc_cP_0 hP8 ?_
        intro k hk hpt
        unfold qc_fR qc_df
        rw [if_pos (heq k hk hpt)]
        split <;> rfl
      have hS' := hS
      rw [qc_rp_cg2 (T := qc_SP a b (P + 1))] at hS'
      · have := ih (P + 1) f' fk fs fv mk ms mv mc ag (by omega) (by omega) hS' hp
        rw [e] at this
        exact this
      · intro k
        by_cases z : k < 72 ∧ qc_pt k = P
        · exact Or.inr (heq k z.1 z.2)
        · exact Or.inl (qc_SP_ne z)
theorem qc_SP_8 (a b k : Nat) : qc_SP a b 8 k = qc_rpS a b k := by
  unfold qc_SP qc_rpS
  by_cases h : k < 72
  · rw [decide_eq_true (qc_pt_lt h), Bool.true_and]
  · rw [decide_eq_false h, Bool.false_and, Bool.false_and]
theorem xs_repair {post : Int32 → SX → Prop} {a b : Nat} {G : qc_G} (ha : a < 4) (hb : b < 4) (hab : a ≠ b) (hua : ¬ up a = 0) (hub : ¬ up b = 0) (hS : qc_XS mk ms mv mc rk rs rv rd re rf rr ag G)
    (hp : ∀ (fk1 fs1 fv1 : Int32) (mk1 ms1 mv1 mc1 ag1 : Nat → Int32), qc_XS mk1 ms1 mv1 mc1 rk rs rv rd re rf rr ag1 (qc_rp G a b (qc_rpS a b)) → post (nI (qc_sm (qc_fR G a b) 72)) (kh, fk1, fs1, fv1, zf, zc, up, mk1, ms1, mv1, mc1, rk, rs, rv, rd, re, rf, rr, gk, gs, gv, ag1, qN, qK, qD, qS, qV)) : wpX_repair post (kh, fk, fs, fv, zf, zc, up, mk, ms, mv, mc, rk, rs, rv, rd, re, rf, rr, gk, gs, gv, ag, qN, qK, qD, qS, qV) (nI a) (nI b) := by
  unfold wpX_repair
  dsimp only
  refine xs_bad0 (c := 4) ha (by decide) (br_t rfl (xs_bad0 (c := 4) hb (by decide) (br_t rfl (br_f (fun z => hab ((nI_eq (by omega) (by omega)).mp z)) ?_))))
  rw [qc_cl (n := a) (by omega), qc_cl (n := b) (by omega)]
  refine ⟨qc_in ha (by decide), br_f hua ⟨qc_in hb (by decide), br_f hub ⟨9, ?_⟩⟩⟩
  rw [← qc_cP_8, ← qc_rp_cg (qc_SP_8 a b)] at hp
  refine xs_re49 (G := G) ha hb 8 0 9 _ _ _ _ _ _ _ _ (by omega) (by omega) ?_ hp
  rw [qc_rp_0]
  · exact hS
  · intro k
    unfold qc_SP
    rw [decide_eq_false (show ¬ qc_pt k < 0 by omega), Bool.false_and, Bool.and_false]
theorem xs_lcl {post : Int64 → SX → Prop} {n pl : Nat} {G : qc_G} (hn : n < 4) (hpl : pl < 64) (hS : qc_XS mk ms mv mc rk rs rv rd re rf rr ag G)
    (hp : ∀ a b c, post (qc_val (G n pl) (G n (64 + pl / 8))) (kh, a, b, c, zf, zc, up, mk, ms, mv, mc, rk, rs, rv, rd, re, rf, rr, gk, gs, gv, ag, qN, qK, qD, qS, qV)) : wpX_local post (kh, fk, fs, fv, zf, zc, up, mk, ms, mv, mc, rk, rs, rv, rd, re, rf, rr, gk, gs, gv, ag, qN, qK, qD, qS, qV) (nI n) (nI pl) := by
  unfold wpX_local
  dsimp only
  refine xs_bad0 (c := 4) hn (by decide) (br_t rfl (xs_bad0 (c := 64) hpl (by decide) (br_t rfl ?_)))
  rw [qc_shr3 (by omega), qc_64]
  refine xs_search hS.1 hS.2.1 hn (show 64 + pl / 8 < 72 by omega) (fun x1 s1 v1 e1 => ?_)
  refine xs_search hS.1 hS.2.1 hn (show pl < 72 by omega) (fun x2 s2 v2 e2 => ?_)
  exact xs_worth e2 e1 (hp _ _ _)
theorem xs_stampOf {post : Int64 → SX → Prop} {n k : Nat} {G : qc_G} (hn : n < 4) (hk : k < 72) (hS : qc_XS mk ms mv mc rk rs rv rd re rf rr ag G)
    (hp : ∀ a b c, post (qc_stp (G n k)) (kh, a, b, c, zf, zc, up, mk, ms, mv, mc, rk, rs, rv, rd, re, rf, rr, gk, gs, gv, ag, qN, qK, qD, qS, qV)) : wpX_stampOf post (kh, fk, fs, fv, zf, zc, up, mk, ms, mv, mc, rk, rs, rv, rd, re, rf, rr, gk, gs, gv, ag, qN, qK, qD, qS, qV) (nI n) (nI k) := by
  unfold wpX_stampOf
  refine xs_search hS.1 hS.2.1 hn hk (fun x1 s1 v1 e1 => ?_)
  have hq := hp x1 s1 v1
  rw [← e1] at hq
  refine br_c (fun h0 => ?_) (fun h0 => ?_)
  · rw [qc_rd0 h0] at hq; exact hq
  · rw [qc_rd1 h0] at hq; exact hq
end
end
section
def qc_y (k : Nat) (o : qc_O) (a b c : Int32) : Prop := (o = none ∧ a = 0) ∨ (∃ x, o = some (x, b, c) ∧ a = qc_yk k x)
def qc_yC (kd st va : Nat → Int32) (G : qc_G) : Prop := ∀ n, n < 8 → ∀ k, k < 72 → qc_y k (G n k) (kd (72 * n + k)) (st (72 * n + k)) (va (72 * n + k))
theorem qc_yk_ne {k : Nat} {x : Int32} (h : x = 1 ∨ x = 2) : qc_yk k x = 1 ∨ qc_yk k x = 2 := by
  unfold qc_yk
  split
  · exact h
  · exact Or.inr rfl
theorem qc_12n {x : Int32} (h : x = 1 ∨ x = 2) : ¬ x = 0 := by rcases h with h | h <;> rw [h] <;> decide
theorem qc_y_0 {k : Nat} {a b c : Int32} {o : qc_O} (h : qc_y k o a b c) (ho : qc_ok k o) : (a = 0 ∧ o = none) ∨ (¬ a = 0 ∧ ∃ x, o = some (x, b, c) ∧ a = qc_yk k x ∧ (x = 1 ∨ x = 2)) := by
  rcases h with ⟨h1, h2⟩ | ⟨x, h1, h2⟩
  · exact Or.inl ⟨h2, h1⟩
  · have h12 := (ho _ h1).1
    refine Or.inr ⟨?_, x, h1, h2, h12⟩
    rw [h2]
    exact qc_12n (qc_yk_ne h12)
theorem qc_y_k {k : Nat} {a b c : Int32} {o : qc_O} (h : qc_y k o a b c) (ho : qc_ok k o) : a = 0 ∨ a = 1 ∨ a = 2 := by
  rcases qc_y_0 h ho with z | ⟨_, x, _, h2, h3⟩
  · exact Or.inl z.1
  · rw [h2]; exact Or.inr (qc_yk_ne h3)
theorem qc_yC_cg {kd st va : Nat → Int32} {G G' : qc_G} (h : qc_yC kd st va G) (e : ∀ n, n < 8 → ∀ k, k < 72 → G' n k = G n k) : qc_yC kd st va G' := by
  intro n hn k hk
  rw [e n hn k hk]
  exact h n hn k hk
theorem qc_yC_set {kd st va : Nat → Int32} {G : qc_G} {n k : Nat} {x s v : Int32} (h : qc_yC kd st va G) (hk : k < 72) : qc_yC (upd kd (72 * n + k) (qc_yk k x)) (upd st (72 * n + k) s) (upd va (72 * n + k) v) (qc_set G n k (some (x, s, v))) := by
  intro n' hn' k' hk'
  by_cases z : n' = n ∧ k' = k
  · obtain ⟨rfl, rfl⟩ := z
    rw [qc_set_s, pk_us, pk_us, pk_us]
    exact Or.inr ⟨x, rfl, rfl⟩
  · rw [qc_set_n z, pk_un (by omega), pk_un (by omega), pk_un (by omega)]
    exact h n' hn' k' hk'
theorem qc_tk {k : Nat} {x s v x' c : Int32} (h : qc_ok k (some (x, s, v))) (h' : qc_ok k (some (x', s, c))) :
    qc_nwE (x, s, v) (x', s, c) = decide ((qc_yk k x = 2 ∧ qc_yk k x' = 1) ∨ (¬ qc_yk k x = 2 ∧ qc_yk k x' = 1 ∧ c < v)) := by
  obtain ⟨a1, a2, a3⟩ := h (x, s, v) rfl
  obtain ⟨b1, b2, b3⟩ := h' (x', s, c) rfl
  dsimp only at a1 a2 a3 b1 b2 b3
  rw [Bool.eq_iff_iff, qc_nwE_iff, decide_eq_true_iff]
  dsimp only
  have t1 : (1 : Int32).toInt = 1 := by decide
  have t2 : (2 : Int32).toInt = 2 := by decide
  have t0 : (0 : Int32).toInt = 0 := by decide
  unfold qc_yk
  rcases Nat.lt_or_ge k 64 with z | z
  · rw [if_pos z, if_pos z]
    rcases a1 with a1 | a1 <;> rcases b1 with b1 | b1
    · subst a1 b1
      rw [Int32.lt_iff_toInt_lt]
      simp
    · subst a1 b1
      simp
    · subst a1 b1
      simp
    · subst a1 b1
      rw [a3 (Or.inl rfl), b3 (Or.inl rfl)]
      simp
  · rw [if_neg (by omega), if_neg (by omega), a2 z, b2 z, a3 (Or.inr z), b3 (Or.inr z)]
    simp
def qc_bst (G : qc_G) (k : Nat) (best : Int32) (b : qc_O) : Prop := (best = -1 ∧ b = none) ∨ (∃ nb, nb < 4 ∧ best = nI (72 * nb + k) ∧ G nb k = b ∧ b ≠ none)
section
variable {yi yd : Int32} {kd st va al nN nA nK nS nV : Nat → Int32}
theorem ys_am1 {post : Int32 → Prop} {j c : Nat} (h : j < c) (hc : c < 10000) (hp : post 1) : wpY_among post (yi, yd, kd, st, va, al, nN, nA, nK, nS, nV) (nI j) (nI c) :=
  br_f (nI_pos (by omega)) (br_f (nI_ge h (by omega)) hp)
theorem ys_am0 {post : Int32 → Prop} {x : Int32} {c : Nat} (h : x < 0 ∨ nI c ≤ x) (hp : post 0) : wpY_among post (yi, yd, kd, st, va, al, nN, nA, nK, nS, nV) x (nI c) := by
  by_cases z : x < 0
  · exact br_t z hp
  · rcases h with h | h
    · exact absurd h z
    · exact br_f z (br_t h hp)
theorem ys_rep {post : Int32 → Prop} {p i : Nat} (hb : p + i < 10000) (h : post (nI ((p + i) % 4))) : wpY_replica post (yi, yd, kd, st, va, al, nN, nA, nK, nS, nV) (nI p) (nI i) := by
  unfold wpY_replica
  dsimp only
  rw [qc_rem4 hb]
  exact ⟨by decide, h⟩
theorem ys_uc4 {post : Int32 → Prop} {p : Nat} (hp9 : p < 9000) : ∀ (d i f acc : Nat), i + d = 3 → d < f → post (nI (acc + qc_uc al p d i)) → wY_upCount_4 post (nI p) yi yd kd st va al nN nA nK nS nV f (nI acc) (nI i) := by
  intro d
  induction d with
  | zero =>
    intro i f acc hi hf hp
    obtain ⟨f', rfl⟩ : ∃ f', f = f' + 1 := ⟨f - 1, by omega⟩
    have : i = 3 := by omega
    subst this
    exact br_t (Int32.le_refl _) hp
  | succ d ih =>
    intro i f acc hi hf hp
    obtain ⟨f', rfl⟩ : ∃ f', f = f' + 1 := ⟨f - 1, by omega⟩
    have hr : (p + i) % 4 < 4 := Nat.mod_lt _ (by decide)
    refine br_f (nI_ge (b := 3) (by omega) (by decide)) (ys_rep (by omega) ?_)
    rw [qc_cl (n := (p + i) % 4) (by omega)]
    refine ⟨qc_in hr (by decide), br_c (fun h0 => (nm_r (nI_1 i) (ih (i + 1) f' acc (by omega) (by omega) ?_))) (fun h0 => nm_r (nI_1 acc) (nm_r (nI_1 i) (ih (i + 1) f' (acc + 1) (by omega) (by omega) ?_)))⟩
    · have e : acc + qc_uc al p (d + 1) i = acc + qc_uc al p d (i + 1) := by
        show acc + (qc_bn (al ((p + i) % 4)) + qc_uc al p d (i + 1)) = _
        unfold qc_bn
        rw [if_pos h0]
        omega
      rw [e] at hp
      exact hp
    · have e : acc + qc_uc al p (d + 1) i = acc + 1 + qc_uc al p d (i + 1) := by
        show acc + (qc_bn (al ((p + i) % 4)) + qc_uc al p d (i + 1)) = _
        unfold qc_bn
        rw [if_neg h0]
        omega
      rw [e] at hp
      exact hp
theorem ys_upCount {post : Int32 → Prop} {p : Nat} (hp9 : p < 9000) (hp : post (nI (qc_uc al p 3 0))) : wpY_upCount post (yi, yd, kd, st, va, al, nN, nA, nK, nS, nV) (nI p) := by
  unfold wpY_upCount
  refine ⟨4, ys_uc4 hp9 3 0 4 0 (by omega) (by omega) ?_⟩
  rw [Nat.zero_add]
  exact hp
theorem ys_t113 {post : Int32 → SY → Prop} {i : Nat} {w s v : Int32} (z : Bool) (hi : i < 576) (hw : w = 0 ∨ w = 1 ∨ w = 2)
    (h0 : z = false → post 0 (yi, yd, kd, st, va, al, nN, nA, nK, nS, nV)) (h1 : z = true → post 1 (yi, yd, upd kd i w, upd st i s, upd va i v, al, nN, nA, nK, nS, nV)) : wY_take_113 post w s v (nI i) (qc_b z) yi yd kd st va al nN nA nK nS nV := by
  unfold wY_take_113
  rw [qc_cl (n := i) (by omega), (qc_kb hw).1]
  cases z with
  | false => exact br_t rfl (h0 rfl)
  | true => exact br_f (by decide) ⟨qc_in hi (by decide), nm_e ⟨qc_in hi (by decide), nm_e ⟨qc_in hi (by decide), nm_e (h1 rfl)⟩⟩⟩
theorem ys_take {post : Int32 → SY → Prop} {n k : Nat} {x s v w : Int32} {G : qc_G} (hC : qc_yC kd st va G) (hW : qc_WF G) (hn : n < 8) (hk : k < 72) (hok : qc_ok k (some (x, s, v))) (hw : w = qc_yk k x)
    (hp : ∀ (kd1 st1 va1 : Nat → Int32), qc_yC kd1 st1 va1 (qc_set G n k (qc_mx (G n k) (some (x, s, v)))) → post (qc_b (qc_nw (some (x, s, v)) (G n k))) (yi, yd, kd1, st1, va1, al, nN, nA, nK, nS, nV)) : wpY_take post (yi, yd, kd, st, va, al, nN, nA, nK, nS, nV) (nI n) (nI k) w s v := by
  have hx12 := (hok _ rfl).1
  have hw3 : w = 0 ∨ w = 1 ∨ w = 2 := by rw [hw]; exact Or.inr (qc_yk_ne hx12)
  have T : ∀ z : Bool, z = qc_nw (some (x, s, v)) (G n k) → wY_take_113 post w s v (nI (72 * n + k)) (qc_b z) yi yd kd st va al nN nA nK nS nV := by
    intro z hz
    refine ys_t113 z (by omega) hw3 ?_ ?_
    · intro z0
      rw [z0] at hz
      have := hp kd st va (by rw [qc_mx_f hz.symm, qc_set_id]; exact hC)
      rw [← hz] at this
      exact this
    · intro z1
      rw [z1] at hz
      rw [hw]
      have := hp _ _ _ (by rw [qc_mx_t hz.symm]; exact qc_yC_set (n := n) (x := x) (s := s) (v := v) hC hk)
      rw [← hz] at this
      exact this
  have T1 : qc_nw (some (x, s, v)) (G n k) = true → wY_take_113 post w s v (nI (72 * n + k)) 1 yi yd kd st va al nN nA nK nS nV := fun e => T true e.symm
  have T0 : qc_nw (some (x, s, v)) (G n k) = false → wY_take_113 post w s v (nI (72 * n + k)) 0 yi yd kd st va al nN nA nK nS nV := fun e => T false e.symm
  unfold wpY_take
  refine nm_r (qc_72r n k) ?_
  rw [qc_cl (n := 72 * n + k) (by omega)]
  refine ⟨qc_in (by omega) (by decide), ?_⟩
  rcases qc_y_0 (hC n hn k hk) (hW n hn k hk) with ⟨ha, ho⟩ | ⟨ha, x', ho, hax, hx'⟩
  · refine br_t ha ?_
    unfold wY_take_30 wY_take_35
    rw [qc_cl (n := 72 * n + k) (by omega)]
    exact ⟨qc_in (by omega) (by decide), br_t ha (T1 (by rw [ho]; rfl))⟩
  · rw [ho] at T0 T1
    have hok' := hW n hn k hk
    rw [ho] at hok'
    have key : s = st (72 * n + k) → qc_nwE (x, s, v) (x', st (72 * n + k), va (72 * n + k)) = decide ((w = 2 ∧ kd (72 * n + k) = 1) ∨ (¬ w = 2 ∧ kd (72 * n + k) = 1 ∧ va (72 * n + k) < v)) := by
      intro e
      rw [hw, hax, ← e]
      exact qc_tk hok (by rw [e]; exact hok')
    have keyn : ¬ s = st (72 * n + k) → qc_nwE (x, s, v) (x', st (72 * n + k), va (72 * n + k)) = decide (st (72 * n + k) < s) := by
      intro e
      rw [← Int32.toInt_inj] at e
      rw [Bool.eq_iff_iff, qc_nwE_iff, decide_eq_true_iff, Int32.lt_iff_toInt_lt]
      dsimp only
      omega
    have T35 : ∀ z0 : Int32, (z0 = 0 ∧ s ≤ st (72 * n + k) ∨ z0 = 1 ∧ ¬ s ≤ st (72 * n + k)) → wY_take_35 post w s v (nI (72 * n + k)) z0 yi yd kd st va al nN nA nK nS nV := by
      intro z0 hz0
      unfold wY_take_35
      rw [qc_cl (n := 72 * n + k) (by omega)]
      refine ⟨qc_in (by omega) (by decide), br_f ha ⟨qc_in (by omega) (by decide), br_c (fun e => br_c (fun w2 => ⟨qc_in (by omega) (by decide), br_c (fun a1 => T1 ?_) (fun a1 => T0 ?_)⟩) (fun w2 => ⟨qc_in (by omega) (by decide), br_c (fun a1 => ⟨qc_in (by omega) (by decide), br_c (fun vle => T0 ?_) (fun vgt => T1 ?_)⟩) (fun a1 => T0 ?_)⟩)) (fun ne => ?_)⟩⟩
      · exact (key e).trans (decide_eq_true (Or.inl ⟨w2, a1⟩))
      · refine (key e).trans (decide_eq_false ?_)
        intro z
        rcases z with z | z
        · exact a1 z.2
        · exact a1 z.2.1
      · refine (key e).trans (decide_eq_false ?_)
        intro z
        rcases z with z | z
        · exact w2 z.1
        · exact Int32.not_lt.mpr vle z.2.2
      · exact (key e).trans (decide_eq_true (Or.inr ⟨w2, a1, Int32.not_le.mp vgt⟩))
      · refine (key e).trans (decide_eq_false ?_)
        intro z
        rcases z with z | z
        · exact w2 z.1
        · exact a1 z.2.1
      · rcases hz0 with ⟨y1, y2⟩ | ⟨y1, y2⟩
        · rw [y1]
          exact T0 ((keyn ne).trans (decide_eq_false (Int32.not_lt.mpr y2)))
        · rw [y1]
          exact T1 ((keyn ne).trans (decide_eq_true (Int32.not_le.mp y2)))
    exact br_f ha ⟨qc_in (by omega) (by decide), br_c (fun hle => T35 0 (Or.inl ⟨rfl, hle⟩)) (fun hle => T35 1 (Or.inr ⟨rfl, hle⟩))⟩
theorem ys_ex46 {post : Int32 → SY → Prop} {n k : Nat} {best : Int32} {G : qc_G} (hC : qc_yC kd st va G) (hW : qc_WF G) (hn : n < 4) (hk : k < 72)
    (h0 : G n k = none → post best (yi, yd, kd, st, va, al, nN, nA, nK, nS, nV)) (h1 : ¬ G n k = none → post (nI (72 * n + k)) (yi, yd, kd, st, va, al, nN, nA, nK, nS, nV)) : wY_exchange_46 post best (nI (72 * n + k)) yi yd kd st va al nN nA nK nS nV := by
  unfold wY_exchange_46
  rw [qc_cl (n := 72 * n + k) (by omega)]
  rcases qc_y_0 (hC n (by omega) k hk) (hW n (by omega) k hk) with ⟨ha, ho⟩ | ⟨ha, x', ho, hax, hx'⟩
  · exact ⟨qc_in (by omega) (by decide), br_t ha (h0 ho)⟩
  · exact ⟨qc_in (by omega) (by decide), br_f ha (h1 (by rw [ho]; exact Option.some_ne_none _))⟩
theorem ys_exchange {post : Int32 → SY → Prop} {n k : Nat} {best : Int32} {o : qc_O} {G : qc_G} (hC : qc_yC kd st va G) (hW : qc_WF G) (hn : n < 4) (hk : k < 72) (hb : qc_bst G k best o)
    (hp : ∀ (kd1 st1 va1 : Nat → Int32) (best1 : Int32), qc_yC kd1 st1 va1 (qc_set G n k (qc_mx (G n k) o)) → qc_bst (qc_set G n k (qc_mx (G n k) o)) k best1 (qc_mx (G n k) o) → post best1 (yi, yd, kd1, st1, va1, al, nN, nA, nK, nS, nV)) : wpY_exchange post (yi, yd, kd, st, va, al, nN, nA, nK, nS, nV) (nI n) (nI k) best := by
  unfold wpY_exchange
  refine nm_r (qc_72r n k) ?_
  rcases hb with ⟨hb, ho⟩ | ⟨nb, hnb, hb, ho, hne⟩
  · subst ho hb
    rw [qc_mx_nr, qc_set_id] at hp
    refine br_t (by decide) (ys_ex46 hC hW hn hk (fun z => ?_) (fun z => ?_))
    · exact hp _ _ _ _ hC (Or.inl ⟨rfl, z⟩)
    · exact hp _ _ _ _ hC (Or.inr ⟨n, hn, rfl, rfl, z⟩)
  · subst hb
    rcases qc_y_0 (hC nb (by omega) k hk) (hW nb (by omega) k hk) with ⟨ha, ho'⟩ | ⟨ha, x', ho', hax, hx'⟩
    · exact absurd (ho.symm.trans ho') hne
    · have hok := hW nb (by omega) k hk
      rw [ho'] at hok
      rw [ho] at ho'
      subst ho'
      refine br_f (nI_pos (by omega)) ?_
      rw [qc_cl (n := 72 * nb + k) (by omega)]
      refine ⟨qc_in (by omega) (by decide), br_f ha ⟨qc_in (by omega) (by decide), qc_in (by omega) (by decide), qc_in (by omega) (by decide), ?_⟩⟩
      refine ys_take hC hW (by omega) hk hok hax (fun kd1 st1 va1 hC1 => ?_)
      have hW1 := qc_WF_set (n := n) hW (qc_ok_mx (hW n (by omega) k hk) hok)
      have hne1 : ¬ qc_mx (G n k) (some (x', st (72 * nb + k), va (72 * nb + k))) = none := fun z => Option.some_ne_none _ (qc_mx_none z).2
      refine ys_ex46 hC1 hW1 hn hk (fun z => ?_) (fun z => ?_)
      · rw [qc_set_s] at z
        exact absurd z hne1
      · exact hp _ _ _ _ hC1 (Or.inr ⟨n, hn, rfl, qc_set_s, hne1⟩)
theorem ys_ag18 {post : Int32 → SY → Prop} {J : Int32 → Int32 → Int32 → Int32 → (Nat → Int32) → (Nat → Int32) → (Nat → Int32) → (Nat → Int32) → (Nat → Int32) → (Nat → Int32) → (Nat → Int32) → (Nat → Int32) → (Nat → Int32) → Prop}
    {p k lv rnd : Nat} (hk : k < 72) (hp9 : p < 9000) (hl : lv < 100) :
    ∀ (d i f a b : Nat) (best : Int32) (o : qc_O) (kd st va : Nat → Int32) (G : qc_G), i + d = 3 → d < f → a + b = lv → qc_yC kd st va G → qc_WF G → qc_ok k o → qc_bst G k best o →
      (∀ (kd1 st1 va1 : Nat → Int32) (best1 : Int32), qc_yC kd1 st1 va1 (qc_rn k (qc_ask al p d i b) G o) → qc_WF (qc_rn k (qc_ask al p d i b) G o) → qc_ok k (qc_rb k (qc_ask al p d i b) G o) → qc_bst (qc_rn k (qc_ask al p d i b) G o) k best1 (qc_rb k (qc_ask al p d i b) G o) → J best1 (nI (rnd + 1)) yi yd kd1 st1 va1 al nN nA nK nS nV) →
      wY_agree_18 post J (nI p) (nI k) (nI lv) (nI rnd) f best (nI a) (nI i) yi yd kd st va al nN nA nK nS nV := by
  intro d
  induction d with
  | zero =>
    intro i f a b best o kd st va G hi hf hab hC hW ho hb hp
    obtain ⟨f', rfl⟩ : ∃ f', f = f' + 1 := ⟨f - 1, by omega⟩
    have : i = 3 := by omega
    subst this
    exact br_t (Int32.le_refl _) (nm_r (nI_1 rnd) (hp _ _ _ best hC hW ho hb))
  | succ d ih =>
    intro i f a b best o kd st va G hi hf hab hC hW ho hb hp
    obtain ⟨f', rfl⟩ : ∃ f', f = f' + 1 := ⟨f - 1, by omega⟩
    have hr : (p + i) % 4 < 4 := Nat.mod_lt _ (by decide)
    refine br_f (nI_ge (b := 3) (by omega) (by decide)) (ys_rep (by omega) ?_)
    rw [qc_cl (n := (p + i) % 4) (by omega)]
    refine ⟨qc_in hr (by decide), br_c (fun h0 => ?_) (fun h0 => ?_)⟩
    · rw [qc_ask_dn h0] at hp
      exact nm_r (nI_1 i) (ih (i + 1) f' a b best o _ _ _ G (by omega) (by omega) hab hC hW ho hb hp)
    · cases b with
      | zero =>
        rw [qc_ask_b, ← qc_ask_b al p d (i + 1)] at hp
        exact br_t (nI_le (by omega) (by omega)) (nm_r (nI_1 i) (ih (i + 1) f' a 0 best o _ _ _ G (by omega) (by omega) hab hC hW ho hb hp))
      | succ b =>
        rw [qc_ask_up h0] at hp
        refine br_f (nI_ge (by omega) (by omega)) (nm_r (nI_1 a) ?_)
        refine ys_exchange hC hW hr hk hb (fun kd1 st1 va1 best1 hC1 hb1 => ?_)
        have ho1 := qc_ok_mx (hW ((p + i) % 4) (by omega) k hk) ho
        exact nm_r (nI_1 i) (ih (i + 1) f' (a + 1) b best1 _ _ _ _ _ (by omega) (by omega) (by omega) hC1 (qc_WF_set hW ho1) ho1 hb1 hp)
theorem ys_agree {post : Int32 → SY → Prop} {p k lv : Nat} {G : qc_G} (hk : k < 72) (hp9 : p < 9000) (hl : lv < 100) (hC : qc_yC kd st va G) (hW : qc_WF G)
    (hp : ∀ (kd1 st1 va1 : Nat → Int32) (best1 : Int32), qc_yC kd1 st1 va1 (qc_st G (qc_ask al p 3 0 lv) (qc_one k)) → qc_bst (qc_st G (qc_ask al p 3 0 lv) (qc_one k)) k best1 (qc_fm G k (qc_ask al p 3 0 lv) none) → post best1 (yi, yd, kd1, st1, va1, al, nN, nA, nK, nS, nV)) : wpY_agree post (yi, yd, kd, st, va, al, nN, nA, nK, nS, nV) (nI p) (nI k) (nI lv) := by
  have hb := qc_rn_both G k (qc_ask al p 3 0 lv)
  unfold wpY_agree
  refine ⟨3, br_f (by decide) ⟨4, ?_⟩⟩
  refine ys_ag18 (rnd := 0) hk hp9 hl 3 0 4 0 lv (-1) none _ _ _ G (by omega) (by omega) (by omega) hC hW qc_ok_none (Or.inl ⟨rfl, rfl⟩) (fun kd1 st1 va1 best1 hC1 hW1 ho1 hb1 => ?_)
  refine br_f (by decide) ⟨4, ?_⟩
  refine ys_ag18 (rnd := 1) hk hp9 hl 3 0 4 0 lv best1 _ _ _ _ _ (by omega) (by omega) (by omega) hC1 hW1 ho1 hb1 (fun kd2 st2 va2 best2 hC2 hW2 ho2 hb2 => ?_)
  rw [hb.1, hb.2] at hb2
  rw [hb.2] at hC2
  exact br_t (by decide) (hp _ _ _ best2 hC2 hb2)
theorem qc_one_ne {a b : Nat} (h : b ≠ a) : qc_one a b = false := decide_eq_false h
theorem ys_read {post : Int64 → SY → Prop} {pl lv : Nat} {G : qc_G} (hpl : pl < 64) (h1 : 1 ≤ lv) (h3 : lv ≤ 3) (hu : lv ≤ qc_uc al (pl / 8) 3 0) (hC : qc_yC kd st va G) (hW : qc_WF G)
    (hp : ∀ (kd1 st1 va1 : Nat → Int32), qc_yC kd1 st1 va1 (qc_st G (qc_ask al (pl / 8) 3 0 lv) (fun k => qc_one (64 + pl / 8) k || qc_one pl k)) →
      post (qc_val (qc_fm G pl (qc_ask al (pl / 8) 3 0 lv) none) (qc_fm G (64 + pl / 8) (qc_ask al (pl / 8) 3 0 lv) none)) (yi, yd, kd1, st1, va1, al, nN, nA, nK, nS, nV)) : wpY_read post (yi, yd, kd, st, va, al, nN, nA, nK, nS, nV) (nI pl) (nI lv) := by
  have hle := qc_uc_le al (pl / 8) 3 0
  unfold wpY_read
  dsimp only
  rw [qc_div8 (by omega), qc_64]
  refine ys_am1 (c := 64) hpl (by decide) (br_f (by decide) (br_f (nI_nlt (b := 1) h1 (by omega)) (br_f (nI_nlt (a := 3) h3 (by decide)) ⟨by decide, ?_⟩)))
  refine ys_upCount (by omega) (br_t (nI_le hu (by omega)) ⟨by decide, ?_⟩)
  refine ys_agree (show pl < 72 by omega) (by omega) (by omega) hC hW (fun kd1 st1 va1 r1 hC1 hb1 => ?_)
  dsimp only
  have hA : ∀ n, n ∈ qc_ask al (pl / 8) 3 0 lv → n < 4 := qc_ask_lt _ _ _
  have hW1 : qc_WF (qc_st G (qc_ask al (pl / 8) 3 0 lv) (qc_one pl)) := qc_WF_st hW hA
  refine ⟨by decide, by decide, ?_⟩
  refine ys_agree (show 64 + pl / 8 < 72 by omega) (by omega) (by omega) hC1 hW1 (fun kd2 st2 va2 r2 hC2 hb2 => ?_)
  dsimp only
  have hW2 : qc_WF (qc_st (qc_st G (qc_ask al (pl / 8) 3 0 lv) (qc_one pl)) (qc_ask al (pl / 8) 3 0 lv) (qc_one (64 + pl / 8))) := qc_WF_st hW1 hA
  have hG2 : ∀ n, qc_st (qc_st G (qc_ask al (pl / 8) 3 0 lv) (qc_one pl)) (qc_ask al (pl / 8) 3 0 lv) (qc_one (64 + pl / 8)) n pl = qc_st G (qc_ask al (pl / 8) 3 0 lv) (qc_one pl) n pl :=
    fun n => qc_st_f (fun z => by rw [qc_one_ne (show pl ≠ 64 + pl / 8 by omega)] at z; cases z.2)
  have hp2 := hp kd2 st2 va2 (by
    have := hC2
    rw [qc_st_st, qc_st_cg (T := fun k => qc_one (64 + pl / 8) k || qc_one pl k) (fun k => Bool.or_comm _ _)] at this
    exact this)
  rw [qc_st_fm] at hb2
  generalize qc_fm G pl (qc_ask al (pl / 8) 3 0 lv) none = e at hb1 hp2
  generalize qc_fm G (64 + pl / 8) (qc_ask al (pl / 8) 3 0 lv) none = w at hb2 hp2
  rcases hb1 with ⟨hb, ho⟩ | ⟨nb, hnb, hb, ho, hne⟩
  · subst ho hb
    exact br_t (by decide) hp2
  · subst hb
    rw [← hG2] at ho
    rcases qc_y_0 (hC2 nb (by omega) pl (by omega)) (hW2 nb (by omega) pl (by omega)) with ⟨ha, ho'⟩ | ⟨ha, x', ho', hax, hx'⟩
    · exact absurd (ho.symm.trans ho') hne
    · rw [ho] at ho'
      subst ho'
      have hax' : kd2 (72 * nb + pl) = x' := by rw [hax]; exact if_pos hpl
      have hv : qc_val (some (x', st2 (72 * nb + pl), va2 (72 * nb + pl))) w = if x' = 1 ∧ qc_hid w (st2 (72 * nb + pl)) = false then (va2 (72 * nb + pl)).toInt64 else 1000000000000 := rfl
      rw [hv] at hp2
      refine br_f (nI_pos (by omega)) ?_
      rw [qc_cl (n := 72 * nb + pl) (by omega), hax']
      refine ⟨qc_in (by omega) (by decide), br_c (fun e1 => ?_) (fun e1 => ?_)⟩
      · rcases hb2 with ⟨hb, hw⟩ | ⟨nw, hnw, hb, hw, hwne⟩
        · subst hw hb
          rw [if_pos ⟨e1, rfl⟩] at hp2
          exact br_t (by decide) ⟨qc_in (by omega) (by decide), hp2⟩
        · subst hb
          rcases qc_y_0 (hC2 nw (by omega) (64 + pl / 8) (by omega)) (hW2 nw (by omega) (64 + pl / 8) (by omega)) with ⟨hwa, hwo⟩ | ⟨hwa, xw, hwo, hwx, hw12⟩
          · exact absurd (hw.symm.trans hwo) hwne
          · rw [hw] at hwo
            subst hwo
            have hh : qc_hid (some (xw, st2 (72 * nw + (64 + pl / 8)), va2 (72 * nw + (64 + pl / 8)))) (st2 (72 * nb + pl)) = decide (st2 (72 * nb + pl) ≤ st2 (72 * nw + (64 + pl / 8))) := rfl
            rw [hh] at hp2
            refine br_f (nI_pos (by omega)) ?_
            rw [qc_cl (n := 72 * nw + (64 + pl / 8)) (by omega)]
            refine ⟨qc_in (by omega) (by decide), qc_in (by omega) (by decide), br_c (fun hlt => ?_) (fun hlt => ?_)⟩
            · rw [if_pos ⟨e1, decide_eq_false (Int32.not_le.mpr hlt)⟩] at hp2
              exact ⟨qc_in (by omega) (by decide), hp2⟩
            · rw [if_neg (fun z => by rw [decide_eq_true (Int32.not_lt.mp hlt)] at z; cases z.2)] at hp2
              exact hp2
      · rw [if_neg (fun z => e1 z.1)] at hp2
        exact hp2
def qc_S' (p c : Nat) : Nat → Bool := fun k => decide (0 < c) && qc_S p c k
theorem qc_S'_succ (p c k : Nat) : (qc_S' p c k || (qc_one (64 + p) k || qc_one (8 * p + c) k)) = qc_S' p (c + 1) k := by
  have e1 : qc_S' p (c + 1) k = qc_S p (c + 1) k := by unfold qc_S'; rw [decide_eq_true (show 0 < c + 1 by omega), Bool.true_and]
  rw [e1, ← qc_S_succ]
  cases c with
  | zero =>
    rw [qc_S_0]
    unfold qc_S'
    rw [decide_eq_false (show ¬ 0 < 0 by omega), Bool.false_and, Bool.false_or]
  | succ c =>
    have e2 : qc_S' p (c + 1) k = qc_S p (c + 1) k := by unfold qc_S'; rw [decide_eq_true (show 0 < c + 1 by omega), Bool.true_and]
    rw [e2]
    have e3 : qc_one (64 + p) k = true → qc_S p (c + 1) k = true := by
      intro h
      unfold qc_S
      unfold qc_one at h
      rw [h, Bool.true_or]
    cases h : qc_one (64 + p) k with
    | true => rw [e3 h, Bool.true_or, Bool.true_or]
    | false => rw [Bool.false_or]
theorem ys_su38 {post : Int64 → SY → Prop} {p lv : Nat} {G : qc_G} (hp8 : p < 8) (h1 : 1 ≤ lv) (h3 : lv ≤ 3) (hu : lv ≤ qc_uc al p 3 0) (hW : qc_WF G) :
    ∀ (d c f : Nat) (kd st va : Nat → Int32), c + d = 8 → d < f → qc_yC kd st va (qc_st G (qc_ask al p 3 0 lv) (qc_S' p c)) →
      (∀ (kd1 st1 va1 : Nat → Int32), qc_yC kd1 st1 va1 (qc_st G (qc_ask al p 3 0 lv) (qc_S' p 8)) → post (qc_tot (fun c => qc_val (qc_fm G (8 * p + c) (qc_ask al p 3 0 lv) none) (qc_fm G (64 + p) (qc_ask al p 3 0 lv) none)) 8) (yi, yd, kd1, st1, va1, al, nN, nA, nK, nS, nV)) →
      wY_sum_38 post (nI p) (nI lv) f (qc_tot (fun c => qc_val (qc_fm G (8 * p + c) (qc_ask al p 3 0 lv) none) (qc_fm G (64 + p) (qc_ask al p 3 0 lv) none)) c) (nI c) yi yd kd st va al nN nA nK nS nV := by
  intro d
  induction d with
  | zero =>
    intro c f kd st va hc hf hC hp
    obtain ⟨f', rfl⟩ : ∃ f', f = f' + 1 := ⟨f - 1, by omega⟩
    have : c = 8 := by omega
    subst this
    exact br_t (Int32.le_refl _) (hp _ _ _ hC)
  | succ d ih =>
    intro c f kd st va hc hf hC hp
    obtain ⟨f', rfl⟩ : ∃ f', f = f' + 1 := ⟨f - 1, by omega⟩
    have e8 : nI p * 8 + nI c = nI (8 * p + c) := by
      rw [show (8 : Int32) = nI 8 from rfl, pk_mul, nI_add, Nat.mul_comm]
    have hd : (8 * p + c) / 8 = p := by omega
    refine br_f (nI_ge (b := 8) (by omega) (by decide)) ?_
    rw [e8]
    refine ys_read (show 8 * p + c < 64 by omega) h1 h3 (by rw [hd]; exact hu) hC (qc_WF_st hW (qc_ask_lt _ _ _)) (fun kd1 st1 va1 a1 => ?_)
    rw [hd, qc_st_st, qc_st_cg (qc_S'_succ p c)] at a1
    rw [hd, qc_st_fm, qc_st_fm]
    have hq := ih (c + 1) f' _ _ _ (by omega) (by omega) a1 hp
    refine br_c (fun h => ?_) (fun h => ?_)
    · refine nm_r (nI_1 c) ?_
      refine cast (congrArg (fun t => wY_sum_38 post (nI p) (nI lv) f' t _ yi yd kd1 st1 va1 al nN nA nK nS nV) ?_) hq
      show qc_tot _ c + (if _ then 0 else _) = _
      rw [if_pos h, Int64.add_zero]
    · refine nm_e (nm_r (nI_1 c) ?_)
      refine cast (congrArg (fun t => wY_sum_38 post (nI p) (nI lv) f' t _ yi yd kd1 st1 va1 al nN nA nK nS nV) ?_) hq
      show qc_tot _ c + (if _ then 0 else _) = _
      rw [if_neg h]
theorem ys_sum {post : Int64 → SY → Prop} {p lv : Nat} {G : qc_G} (hp8 : p < 8) (h1 : 1 ≤ lv) (h3 : lv ≤ 3) (hu : lv ≤ qc_uc al p 3 0) (hC : qc_yC kd st va G) (hW : qc_WF G)
    (hp : ∀ (kd1 st1 va1 : Nat → Int32), qc_yC kd1 st1 va1 (qc_st G (qc_ask al p 3 0 lv) (qc_S p 8)) → post (qc_tot (fun c => qc_val (qc_fm G (8 * p + c) (qc_ask al p 3 0 lv) none) (qc_fm G (64 + p) (qc_ask al p 3 0 lv) none)) 8) (yi, yd, kd1, st1, va1, al, nN, nA, nK, nS, nV)) : wpY_sum post (yi, yd, kd, st, va, al, nN, nA, nK, nS, nV) (nI p) (nI lv) := by
  have hle := qc_uc_le al p 3 0
  unfold wpY_sum
  refine ys_am1 (c := 8) hp8 (by decide) (br_f (by decide) (br_f (nI_nlt (b := 1) h1 (by omega)) (br_f (nI_nlt (a := 3) h3 (by decide)) ?_)))
  refine ys_upCount (by omega) (br_t (nI_le hu (by omega)) ⟨9, ?_⟩)
  refine ys_su38 hp8 h1 h3 hu hW 8 0 9 _ _ _ (by omega) (by omega) ?_ (fun kd1 st1 va1 a1 => hp _ _ _ ?_)
  · refine qc_yC_cg hC (fun n hn k hk => qc_st_f ?_)
    intro z
    have z2 := z.2
    unfold qc_S' at z2
    rw [decide_eq_false (show ¬ 0 < 0 by omega), Bool.false_and] at z2
    cases z2
  · rw [qc_st_cg (T := qc_S p 8)] at a1
    · exact a1
    · intro k
      unfold qc_S'
      rw [decide_eq_true (show 0 < 8 by omega), Bool.true_and]
theorem ys_sd3 {post : Int32 → SY → Prop} {p k : Nat} {x s v w : Int32} (hk : k < 72) (hp9 : p < 9000) (hok : qc_ok k (some (x, s, v))) (hw : w = qc_yk k x) :
    ∀ (d i f : Nat) (yd : Int32) (kd st va nN nA nK nS nV : Nat → Int32) (G : qc_G) (H : List qc_H), i + d = 3 → d < f → qc_yC kd st va G → qc_WF G → qc_YH yd nN nA nK nS nV H →
      (∀ (yd1 : Int32) (kd1 st1 va1 nN1 nA1 nK1 nS1 nV1 : Nat → Int32), qc_yC kd1 st1 va1 (qc_spG al p k (x, s, v) d i G) → qc_YH yd1 nN1 nA1 nK1 nS1 nV1 (qc_spH al yi p k (x, s, v) d i H) → post (nI (qc_uc al p 3 0)) (yi, yd1, kd1, st1, va1, al, nN1, nA1, nK1, nS1, nV1)) →
      wY_send_3 post (nI p) (nI k) w s v f (nI i) yi yd kd st va al nN nA nK nS nV := by
  intro d
  induction d with
  | zero =>
    intro i f yd kd st va nN nA nK nS nV G H hi hf hC hW hH hp
    obtain ⟨f', rfl⟩ : ∃ f', f = f' + 1 := ⟨f - 1, by omega⟩
    have : i = 3 := by omega
    subst this
    exact br_t (Int32.le_refl _) (ys_upCount hp9 (hp _ _ _ _ _ _ _ _ _ hC hH))
  | succ d ih =>
    intro i f yd kd st va nN nA nK nS nV G H hi hf hC hW hH hp
    obtain ⟨f', rfl⟩ : ∃ f', f = f' + 1 := ⟨f - 1, by omega⟩
    have hr : (p + i) % 4 < 4 := Nat.mod_lt _ (by decide)
    refine br_f (nI_ge (b := 3) (by omega) (by decide)) (ys_rep (by omega) ?_)
    rw [qc_cl (n := (p + i) % 4) (by omega)]
    refine ⟨qc_in hr (by decide), br_c (fun h0 => ?_) (fun h0 => ?_)⟩
    · rw [qc_spG_0 h0, qc_spH_0 h0] at hp
      refine ys_hint hH hw (fun yd1 nN1 nA1 nK1 nS1 nV1 hH1 => ?_)
      exact nm_r (nI_1 i) (ih (i + 1) f' _ _ _ _ _ _ _ _ _ G _ (by omega) (by omega) hC hW hH1 hp)
    · rw [qc_spG_1 h0, qc_spH_1 h0] at hp
      refine ys_take hC hW (by omega) hk hok hw (fun kd1 st1 va1 hC1 => ?_)
      exact nm_r (nI_1 i) (ih (i + 1) f' _ _ _ _ _ _ _ _ _ _ H (by omega) (by omega) hC1 (qc_WF_set hW (qc_ok_mx (hW _ (by omega) k hk) hok)) hH hp)
theorem ys_send {post : Int32 → SY → Prop} {p k : Nat} {x s v w : Int32} {G : qc_G} {H : List qc_H} (hk : k < 72) (hp9 : p < 9000) (hok : qc_ok k (some (x, s, v))) (hw : w = qc_yk k x) (hC : qc_yC kd st va G) (hW : qc_WF G) (hH : qc_YH yd nN nA nK nS nV H)
    (hp : ∀ (yd1 : Int32) (kd1 st1 va1 nN1 nA1 nK1 nS1 nV1 : Nat → Int32), qc_yC kd1 st1 va1 (qc_spG al p k (x, s, v) 3 0 G) → qc_YH yd1 nN1 nA1 nK1 nS1 nV1 (qc_spH al yi p k (x, s, v) 3 0 H) → post (nI (qc_uc al p 3 0)) (yi, yd1, kd1, st1, va1, al, nN1, nA1, nK1, nS1, nV1)) : wpY_send post (yi, yd, kd, st, va, al, nN, nA, nK, nS, nV) (nI p) (nI k) w s v := by
  unfold wpY_send
  exact ⟨4, ys_sd3 hk hp9 hok hw 3 0 4 _ _ _ _ _ _ _ _ _ G H (by omega) (by omega) hC hW hH hp⟩
end
end
section
theorem qc_en_cg {g g' : Nat → qc_O} : ∀ K, (∀ k, k < K → g' k = g k) → qc_en g' K = qc_en g K
  | 0, _ => rfl
  | K + 1, h => by
    show qc_en g' K + (if g' K = none then 0 else 1) = qc_en g K + (if g K = none then 0 else 1)
    rw [qc_en_cg K (fun k hk => h k (by omega)), h K (by omega)]
def qc_cpy (G : qc_G) (fr to i : Nat) : qc_G := fun n k => if n = to ∧ k < i then G fr k else G n k
theorem qc_cpy_t {G : qc_G} {fr to i n k : Nat} (h : n = to ∧ k < i) : qc_cpy G fr to i n k = G fr k := if_pos h
theorem qc_cpy_f {G : qc_G} {fr to i n k : Nat} (h : ¬ (n = to ∧ k < i)) : qc_cpy G fr to i n k = G n k := if_neg h
def qc_cpi (G : qc_G) (n : Nat) (b : Int32) (i : Nat) : qc_G := fun n' k => if n' = n ∧ k < i then qc_cp (G n) b k else G n' k
theorem qc_cpi_t {G : qc_G} {n i n' k : Nat} {b : Int32} (h : n' = n ∧ k < i) : qc_cpi G n b i n' k = qc_cp (G n) b k := if_pos h
theorem qc_cpi_f {G : qc_G} {n i n' k : Nat} {b : Int32} (h : ¬ (n' = n ∧ k < i)) : qc_cpi G n b i n' k = G n' k := if_neg h
theorem qc_cpi_W {G : qc_G} {n i : Nat} {b : Int32} (hW : qc_WF G) (hn : n < 8) : qc_WF (qc_cpi G n b i) := by
  intro n' hn' k hk
  by_cases z : n' = n ∧ k < i
  · rw [qc_cpi_t z]
    rcases qc_cp_or (G n) b k with e | e
    · rw [e]; exact qc_ok_none
    · rw [e]; exact hW n hn k hk
  · rw [qc_cpi_f z]; exact hW n' hn' k hk
def qc_SY (a b K : Nat) : Nat → Bool := fun k => decide (k < K) && qc_hl a b (qc_pt k)
theorem qc_SY_skip {a b K : Nat} (h : qc_hl a b (qc_pt K) = false) (k : Nat) : qc_SY a b K k = qc_SY a b (K + 1) k := by
  unfold qc_SY
  by_cases e : k = K
  · rw [e, h, Bool.and_false, Bool.and_false]
  · rw [show decide (k < K) = decide (k < K + 1) from decide_eq_decide.mpr (by omega)]
theorem qc_SY_add {a b K : Nat} (h : qc_hl a b (qc_pt K) = true) (k : Nat) : (qc_SY a b K k || qc_one K k) = qc_SY a b (K + 1) k := by
  unfold qc_SY qc_one
  by_cases e : k = K
  · rw [e, h, decide_eq_true rfl, decide_eq_true (show K < K + 1 by omega), Bool.or_true]
    rfl
  · rw [decide_eq_false e, Bool.or_false, show decide (k < K) = decide (k < K + 1) from decide_eq_decide.mpr (by omega)]
theorem qc_SY_f {a b K : Nat} : qc_SY a b K K = false := by
  unfold qc_SY
  rw [decide_eq_false (show ¬ K < K by omega), Bool.false_and]
section
variable {yi yd : Int32} {kd st va al nN nA nK nS nV : Nat → Int32}
theorem ys_up33 {post : Int32 → SY → Prop} {n : Nat} (hn : n < 4) :
    ∀ (R K : List qc_H) (g fu : Nat) (yd : Int32) (kd st va nN nA nK nS nV : Nat → Int32) (G : qc_G), R.length < fu → qc_WH R → qc_yC kd st va G → qc_WF G → qc_YH yd nN nA nK nS nV (K ++ R) →
      (∀ (yd1 : Int32) (kd1 st1 va1 nN1 nA1 nK1 nS1 nV1 : Nat → Int32), qc_yC kd1 st1 va1 (qc_upG n R G) → qc_YH yd1 nN1 nA1 nK1 nS1 nV1 (K ++ qc_upH n R) → post (nI (1 + (g + qc_upC n R))) (yi, yd1, kd1, st1, va1, al, nN1, nA1, nK1, nS1, nV1)) →
      wY_up_33 post (nI n) fu (nI g) (nI K.length) yi yd kd st va al nN nA nK nS nV := by
  intro R
  induction R with
  | nil =>
    intro K g fu yd kd st va nN nA nK nS nV G hfu hW hC hG hH hp
    obtain ⟨f', rfl⟩ : ∃ f', fu = f' + 1 := ⟨fu - 1, by omega⟩
    have hH2 := hH
    rw [List.append_nil] at hH2
    refine br_t (by rw [hH2.1]; exact Int32.le_refl _) ?_
    rw [nI_1]
    have := hp _ _ _ _ _ _ _ _ _ hC hH
    rw [show 1 + (g + qc_upC n []) = g + 1 from by rw [Nat.add_comm]; rfl] at this
    exact this
  | cons h R ih =>
    intro K g fu yd kd st va nN nA nK nS nV G hfu hW hC hG hH hp
    rw [List.length_cons] at hfu
    obtain ⟨f', rfl⟩ : ∃ f', fu = f' + 1 := ⟨fu - 1, by omega⟩
    have hl := hH.2.1
    rw [List.length_append, List.length_cons] at hl
    have hw := hW h List.mem_cons_self
    have hWR : qc_WH R := fun x hx => hW x (List.mem_cons_of_mem h hx)
    have hh : qc_hY nN nA nK nS nV K.length h := hH.2.2 K.length h (by rw [List.getElem?_append_right (Nat.le_refl _), Nat.sub_self]; rfl)
    refine br_f (by rw [hH.1, List.length_append, List.length_cons]; exact nI_ge (by omega) (by omega)) ?_
    rw [qc_cl (n := K.length) (by omega), hh.1, hh.2.1, hh.2.2.1, hh.2.2.2.1, hh.2.2.2.2]
    refine ⟨qc_in (by omega) (by decide), br_c (fun e => ?_) (fun e => ?_)⟩
    · have e' : h.1 = n := (nI_eq (by omega) (by omega)).mp e
      have eG : qc_upG n (h :: R) G = qc_upG n R (qc_set G n h.2.1 (qc_mx (G n h.2.1) (some h.2.2))) := if_pos e'
      have eH : qc_upH n (h :: R) = qc_upH n R := if_pos e'
      have eC : qc_upC n (h :: R) = qc_upC n R + 1 := if_pos e'
      rw [eG, eH, eC] at hp
      refine ⟨qc_in (by omega) (by decide), qc_in (by omega) (by decide), qc_in (by omega) (by decide), qc_in (by omega) (by decide), ?_⟩
      refine ys_take hC hG (by omega) hw.2.1 hw.2.2 rfl (fun kd1 st1 va1 hC1 => ?_)
      refine ys_dropHint hH (fun yd1 nN1 nA1 nK1 nS1 nV1 hH1 => ?_)
      refine nm_r (nI_1 g) (ih K (g + 1) f' _ _ _ _ _ _ _ _ _ _ (by omega) hWR hC1 (qc_WF_set hG (qc_ok_mx (hG n (by omega) _ hw.2.1) hw.2.2)) hH1 ?_)
      intro yd2 kd2 st2 va2 nN2 nA2 nK2 nS2 nV2 a1 a2
      have := hp _ _ _ _ _ _ _ _ _ a1 a2
      rw [show 1 + (g + (qc_upC n R + 1)) = 1 + (g + 1 + qc_upC n R) by omega] at this
      exact this
    · have e' : ¬ h.1 = n := fun z => e (by rw [z])
      have eG : qc_upG n (h :: R) G = qc_upG n R G := if_neg e'
      have eH : qc_upH n (h :: R) = h :: qc_upH n R := if_neg e'
      have eC : qc_upC n (h :: R) = qc_upC n R := if_neg e'
      rw [eG, eH, eC] at hp
      have e1 : K.length + 1 = (K ++ [h]).length := by rw [List.length_append, List.length_singleton]
      have e2 : ∀ L : List qc_H, K ++ h :: L = (K ++ [h]) ++ L := fun L => by rw [List.append_assoc]; rfl
      rw [e2] at hH
      rw [e2] at hp
      refine nm_r (nI_1 _) ?_
      rw [e1]
      exact ih (K ++ [h]) g f' _ _ _ _ _ _ _ _ _ G (by omega) hWR hC hG hH hp
theorem ys_upM {post : Int32 → SY → Prop} {n : Nat} {G : qc_G} {H : List qc_H} (hn : n < 4) (h0 : al n = 0) (hC : qc_yC kd st va G) (hG : qc_WF G) (hH : qc_YH yd nN nA nK nS nV H) (hW : qc_WH H)
    (hp : ∀ (yd1 : Int32) (kd1 st1 va1 nN1 nA1 nK1 nS1 nV1 : Nat → Int32), qc_yC kd1 st1 va1 (qc_upG n H G) → qc_YH yd1 nN1 nA1 nK1 nS1 nV1 (qc_upH n H) → post (nI (1 + qc_upC n H)) (yi, yd1, kd1, st1, va1, upd al n 1, nN1, nA1, nK1, nS1, nV1)) : wpY_up post (yi, yd, kd, st, va, al, nN, nA, nK, nS, nV) (nI n) := by
  unfold wpY_up
  dsimp only
  rw [qc_cl (n := n) (by omega), qc_bo1]
  refine ys_am1 (c := 4) hn (by decide) (br_f (by decide) ⟨qc_in hn (by decide), br_t h0 ⟨qc_in hn (by decide), nm_e ⟨H.length + 1, ?_⟩⟩⟩)
  refine ys_up33 hn H [] 0 (H.length + 1) _ _ _ _ _ _ _ _ _ G (by omega) hW hC hG hH ?_
  intro yd1 kd1 st1 va1 nN1 nA1 nK1 nS1 nV1 a1 a2
  have := hp _ _ _ _ _ _ _ _ _ a1 a2
  rw [← Nat.zero_add (qc_upC n H)] at this
  exact this
theorem ys_cp2 {post : SY → Prop} {fr to : Nat} {G : qc_G} (hf8 : fr < 8) (ht : to < 8) (hne : fr ≠ to) (hW : qc_WF G)
    (hp : ∀ (kd1 st1 va1 : Nat → Int32), qc_yC kd1 st1 va1 (qc_cpy G fr to 72) → post (yi, yd, kd1, st1, va1, al, nN, nA, nK, nS, nV)) :
    ∀ (d i f : Nat) (kd st va : Nat → Int32), i + d = 72 → d < f → qc_yC kd st va (qc_cpy G fr to i) → wY_copy_2 post (nI fr) (nI to) yi yd f (nI i) kd st va al nN nA nK nS nV := by
  intro d
  induction d with
  | zero =>
    intro i f kd st va hi hf hC
    obtain ⟨f', rfl⟩ : ∃ f', f = f' + 1 := ⟨f - 1, by omega⟩
    have : i = 72 := by omega
    subst this
    exact br_t (Int32.le_refl _) (hp _ _ _ hC)
  | succ d ih =>
    intro i f kd st va hi hf hC
    obtain ⟨f', rfl⟩ : ∃ f', f = f' + 1 := ⟨f - 1, by omega⟩
    have hsrc := hC fr hf8 i (by omega)
    rw [qc_cpy_f (fun z => hne z.1)] at hsrc
    have hk3 : vp_nar .byte (kd (72 * fr + i)) = kd (72 * fr + i) := (qc_kb (qc_y_k hsrc (hW fr hf8 i (by omega)))).2
    refine br_f (nI_ge (b := 72) (by omega) (by decide)) ?_
    rw [qc_72r, qc_72r, qc_cl (n := 72 * fr + i) (by omega), qc_cl (n := 72 * to + i) (by omega), hk3]
    refine ⟨qc_in (by omega) (by decide), qc_in (by omega) (by decide), nm_e ⟨qc_in (by omega) (by decide), qc_in (by omega) (by decide), nm_e ⟨qc_in (by omega) (by decide), qc_in (by omega) (by decide), nm_e (nm_r (nI_1 i) (ih (i + 1) f' _ _ _ (by omega) (by omega) ?_))⟩⟩⟩
    intro n' hn' k hk
    by_cases z : n' = to ∧ k = i
    · obtain ⟨rfl, rfl⟩ := z
      rw [qc_cpy_t ⟨rfl, by omega⟩, pk_us, pk_us, pk_us]
      exact hsrc
    · rw [pk_un (by omega), pk_un (by omega), pk_un (by omega)]
      have := hC n' hn' k hk
      by_cases y : n' = to ∧ k < i
      · rw [qc_cpy_t ⟨y.1, by omega⟩]
        rw [qc_cpy_t y] at this
        exact this
      · rw [qc_cpy_f (by omega)]
        rw [qc_cpy_f y] at this
        exact this
theorem ys_copy {post : SY → Prop} {fr to : Nat} {G : qc_G} (hf8 : fr < 8) (ht : to < 8) (hne : fr ≠ to) (hC : qc_yC kd st va G) (hW : qc_WF G)
    (hp : ∀ (kd1 st1 va1 : Nat → Int32), qc_yC kd1 st1 va1 (qc_cpy G fr to 72) → post (yi, yd, kd1, st1, va1, al, nN, nA, nK, nS, nV)) : wpY_copy post (yi, yd, kd, st, va, al, nN, nA, nK, nS, nV) (nI fr) (nI to) := by
  unfold wpY_copy
  exact ⟨73, ys_cp2 hf8 ht hne hW hp 72 0 73 _ _ _ (by omega) (by omega) (qc_yC_cg hC (fun n hn k hk => qc_cpy_f (by omega)))⟩
theorem ys_en4 {post : Int32 → Prop} {n : Nat} {G : qc_G} (hn : n < 8) (hC : qc_yC kd st va G) (hW : qc_WF G) (hp : post (nI (qc_en (G n) 64))) :
    ∀ (d i f : Nat), i + d = 64 → d < f → wY_entries_4 post (nI n) yi yd kd st va al nN nA nK nS nV f (nI (qc_en (G n) i)) (nI i) := by
  intro d
  induction d with
  | zero =>
    intro i f hi hf
    obtain ⟨f', rfl⟩ : ∃ f', f = f' + 1 := ⟨f - 1, by omega⟩
    have : i = 64 := by omega
    subst this
    exact br_t (Int32.le_refl _) hp
  | succ d ih =>
    intro i f hi hf
    obtain ⟨f', rfl⟩ : ∃ f', f = f' + 1 := ⟨f - 1, by omega⟩
    have hq := ih (i + 1) f' (by omega) (by omega)
    have hen : qc_en (G n) (i + 1) = qc_en (G n) i + (if G n i = none then 0 else 1) := rfl
    refine br_f (nI_ge (b := 64) (by omega) (by decide)) ?_
    rw [qc_72r, qc_cl (n := 72 * n + i) (by omega)]
    rcases qc_y_0 (hC n hn i (by omega)) (hW n hn i (by omega)) with ⟨ha, ho⟩ | ⟨ha, x', ho, hax, hx'⟩
    · rw [hen, if_pos ho, Nat.add_zero] at hq
      exact ⟨qc_in (by omega) (by decide), br_t ha (nm_r (nI_1 i) hq)⟩
    · rw [hen, if_neg (by rw [ho]; exact Option.some_ne_none _)] at hq
      exact ⟨qc_in (by omega) (by decide), br_f ha (nm_r (nI_1 _) (nm_r (nI_1 i) hq))⟩
theorem ys_entries {post : Int32 → Prop} {n : Nat} {G : qc_G} (hn : n < 8) (hC : qc_yC kd st va G) (hW : qc_WF G) (hp : post (nI (qc_en (G n) 64))) : wpY_entries post (yi, yd, kd, st, va, al, nN, nA, nK, nS, nV) (nI n) := by
  unfold wpY_entries
  exact ⟨65, ys_en4 hn hC hW hp 64 0 65 (by omega) (by omega)⟩
theorem qc_44 (n : Nat) : (4 : Int32) + nI n = nI (4 + n) := nI_add 4 n
theorem ys_crash {post : Int32 → SY → Prop} {n : Nat} {G : qc_G} (hn : n < 4) (hC : qc_yC kd st va G) (hW : qc_WF G)
    (hp : ∀ (kd1 st1 va1 : Nat → Int32), qc_yC kd1 st1 va1 (qc_crG G n) → post (nI (qc_en (qc_crG G n n) 64)) (yi, yd, kd1, st1, va1, upd al n 0, nN, nA, nK, nS, nV)) : wpY_crash post (yi, yd, kd, st, va, al, nN, nA, nK, nS, nV) (nI n) := by
  unfold wpY_crash
  dsimp only
  rw [qc_cl (n := n) (by omega), qc_bo0, qc_44]
  refine ys_am1 (c := 4) hn (by decide) (br_f (by decide) ⟨qc_in hn (by decide), nm_e ?_⟩)
  refine ys_copy (show 4 + n < 8 by omega) (by omega) (by omega) hC hW (fun kd1 st1 va1 hC1 => ?_)
  have hC2 : qc_yC kd1 st1 va1 (qc_crG G n) := by
    refine qc_yC_cg hC1 (fun n' hn' k hk => ?_)
    by_cases z : n' = n
    · rw [z, qc_crG_s, qc_cpy_t ⟨rfl, hk⟩]
    · rw [qc_crG_n z, qc_cpy_f (fun y => z y.1)]
  exact ys_entries (by omega) hC2 (qc_WF_cr hW hn) (hp _ _ _ hC2)
theorem ys_flush {post : Int32 → SY → Prop} {n : Nat} {G : qc_G} (hn : n < 4) (hu : ¬ al n = 0) (hC : qc_yC kd st va G) (hW : qc_WF G)
    (hp : ∀ (kd1 st1 va1 : Nat → Int32), qc_yC kd1 st1 va1 (qc_flG G n) → post (nI (qc_en (qc_flG G n n) 64)) (yi, yd, kd1, st1, va1, al, nN, nA, nK, nS, nV)) : wpY_flush post (yi, yd, kd, st, va, al, nN, nA, nK, nS, nV) (nI n) := by
  unfold wpY_flush
  dsimp only
  rw [qc_cl (n := n) (by omega), qc_44]
  refine ys_am1 (c := 4) hn (by decide) (br_f (by decide) ⟨qc_in hn (by decide), br_f hu ?_⟩)
  refine ys_copy (show n < 8 by omega) (show 4 + n < 8 by omega) (by omega) hC hW (fun kd1 st1 va1 hC1 => ?_)
  have hC2 : qc_yC kd1 st1 va1 (qc_flG G n) := by
    refine qc_yC_cg hC1 (fun n' hn' k hk => ?_)
    by_cases z : n' = 4 + n
    · rw [z, qc_flG_s, qc_cpy_t ⟨rfl, hk⟩]
    · rw [qc_flG_n z, qc_cpy_f (fun y => z y.1)]
  exact ys_entries (by omega) hC2 (qc_WF_fl hW hn) (hp _ _ _ hC2)
theorem qc_yC_cpi {G : qc_G} {n i : Nat} {b : Int32} (hi : i < 72) (hC : qc_yC kd st va (qc_cpi G n b i)) (h : qc_y i (qc_cp (G n) b i) (kd (72 * n + i)) (st (72 * n + i)) (va (72 * n + i))) : qc_yC kd st va (qc_cpi G n b (i + 1)) := by
  intro n' hn' k hk
  by_cases z : n' = n ∧ k = i
  · obtain ⟨rfl, rfl⟩ := z
    rw [qc_cpi_t ⟨rfl, by omega⟩]
    exact h
  · have := hC n' hn' k hk
    by_cases y : n' = n ∧ k < i
    · rw [qc_cpi_t ⟨y.1, by omega⟩]
      rw [qc_cpi_t y] at this
      exact this
    · rw [qc_cpi_f (by omega)]
      rw [qc_cpi_f y] at this
      exact this
theorem qc_yC_cp0 {G : qc_G} {n i : Nat} {b : Int32} (hi : i < 72) (hC : qc_yC kd st va (qc_cpi G n b i)) (h : qc_cp (G n) b i = none) : qc_yC (upd kd (72 * n + i) 0) st va (qc_cpi G n b (i + 1)) := by
  intro n' hn' k hk
  by_cases z : n' = n ∧ k = i
  · obtain ⟨rfl, rfl⟩ := z
    rw [qc_cpi_t ⟨rfl, by omega⟩, pk_us]
    exact Or.inl ⟨h, rfl⟩
  · have := hC n' hn' k hk
    rw [pk_un (by omega)]
    by_cases y : n' = n ∧ k < i
    · rw [qc_cpi_t ⟨y.1, by omega⟩]
      rw [qc_cpi_t y] at this
      exact this
    · rw [qc_cpi_f (by omega)]
      rw [qc_cpi_f y] at this
      exact this
theorem ys_cm132 {post : Int32 → SY → Prop} {n : Nat} {b : Int32} {G : qc_G} (hn : n < 4) (hW : qc_WF G)
    (hp : ∀ kd : Nat → Int32, qc_yC kd st va (qc_cpi G n b 72) → wpY_flush (fun r u => match u with | (yi9, yd9, kd9, st9, va9, al9, nN9, nA9, nK9, nS9, nV9) => post r (yi9, yd9, kd9, st9, va9, al9, nN9, nA9, nK9, nS9, nV9)) (yi, yd, kd, st, va, al, nN, nA, nK, nS, nV) (nI n)) :
    ∀ (d i f : Nat) (kd : Nat → Int32), i + d = 72 → 64 ≤ i → d < f → qc_yC kd st va (qc_cpi G n b i) → wY_compact_132 post (nI n) b yi yd f (nI (72 * n + i)) kd st va al nN nA nK nS nV := by
  have e72 : nI n * 72 + 72 = nI (72 * n + 72) := qc_72r n 72
  intro d
  induction d with
  | zero =>
    intro i f kd hi h64 hf hC
    obtain ⟨f', rfl⟩ : ∃ f', f = f' + 1 := ⟨f - 1, by omega⟩
    have : i = 72 := by omega
    subst this
    exact br_t (by rw [e72]; exact Int32.le_refl _) (hp kd hC)
  | succ d ih =>
    intro i f kd hi h64 hf hC
    obtain ⟨f', rfl⟩ : ∃ f', f = f' + 1 := ⟨f - 1, by omega⟩
    have hy := hC n (by omega) i (by omega)
    rw [qc_cpi_f (by omega)] at hy
    refine br_f (by rw [e72]; exact nI_ge (by omega) (by omega)) ?_
    rw [qc_cl (n := 72 * n + i) (by omega), qc_by0]
    refine ⟨qc_in (by omega) (by decide), br_c (fun hb => nm_r (nI_1 _) (ih (i + 1) f' kd (by omega) (by omega) (by omega) (qc_yC_cpi (by omega) hC ?_))) (fun hb => ⟨qc_in (by omega) (by decide), nm_e (nm_r (nI_1 _) (ih (i + 1) f' _ (by omega) (by omega) (by omega) (qc_yC_cp0 (by omega) hC ?_)))⟩)⟩
    · rcases qc_y_0 hy (hW n (by omega) i (by omega)) with ⟨ha, ho⟩ | ⟨ha, x', ho, hax, hx'⟩
      · rw [qc_cp_none ho]; exact Or.inl ⟨rfl, ha⟩
      · rw [qc_cp_hi ho h64, if_neg (Int32.not_lt.mpr hb), ← ho]
        exact hy
    · rcases qc_y_0 hy (hW n (by omega) i (by omega)) with ⟨ha, ho⟩ | ⟨ha, x', ho, hax, hx'⟩
      · exact qc_cp_none ho
      · rw [qc_cp_hi ho h64, if_pos (Int32.not_le.mp hb)]
theorem ys_cm88 {post : Int32 → SY → Prop} {J : Int32 → (Nat → Int32) → (Nat → Int32) → (Nat → Int32) → (Nat → Int32) → (Nat → Int32) → (Nat → Int32) → (Nat → Int32) → (Nat → Int32) → (Nat → Int32) → Prop}
    {x1 b : Int32} {i j : Nat} (hj : j < 576) (h1 : kd j = 2 ∧ st j < b → J (nI (i + 1)) (upd kd j 0) st va al nN nA nK nS nV) (h2 : ¬ (kd j = 2 ∧ st j < b) → J (nI (i + 1)) kd st va al nN nA nK nS nV) : wY_compact_88 post J x1 b (nI i) (nI j) yi yd kd st va al nN nA nK nS nV := by
  unfold wY_compact_88
  rw [qc_cl (n := j) (by omega), qc_by0]
  exact ⟨qc_in hj (by decide), br_c (fun h3 => ⟨qc_in hj (by decide), br_c (fun h4 => nm_r (nI_1 i) (h2 (fun q => Int32.not_lt.mpr h4 q.2))) (fun h4 => ⟨qc_in hj (by decide), nm_e (nm_r (nI_1 i) (h1 ⟨h3, Int32.not_le.mp h4⟩))⟩)⟩) (fun h3 => nm_r (nI_1 i) (h2 (fun q => h3 q.1)))⟩
theorem ys_cm25 {post : Int32 → SY → Prop} {n : Nat} {b : Int32} {G : qc_G} (hn : n < 4) (hW : qc_WF G)
    (hp : ∀ kd : Nat → Int32, qc_yC kd st va (qc_cpi G n b 64) → wY_compact_132 post (nI n) b yi yd 9 (nI (72 * n + 64)) kd st va al nN nA nK nS nV) :
    ∀ (d i f : Nat) (kd : Nat → Int32), i + d = 64 → d < f → qc_yC kd st va (qc_cpi G n b i) → wY_compact_25 post (nI n) b yi yd f (nI i) kd st va al nN nA nK nS nV := by
  have e64 : nI n * 72 + 64 = nI (72 * n + 64) := qc_72r n 64
  intro d
  induction d with
  | zero =>
    intro i f kd hi hf hC
    obtain ⟨f', rfl⟩ : ∃ f', f = f' + 1 := ⟨f - 1, by omega⟩
    have : i = 64 := by omega
    subst this
    exact br_t (Int32.le_refl _) (nm_r e64 ⟨9, hp kd hC⟩)
  | succ d ih =>
    intro i f kd hi hf hC
    obtain ⟨f', rfl⟩ : ∃ f', f = f' + 1 := ⟨f - 1, by omega⟩
    have hy := hC n (by omega) i (by omega)
    rw [qc_cpi_f (by omega)] at hy
    have hw := hC n (by omega) (64 + i / 8) (by omega)
    rw [qc_cpi_f (by omega)] at hw
    rw [show 72 * n + (64 + i / 8) = 72 * n + 64 + i / 8 by omega] at hw
    have hWi := hW n (by omega) i (by omega)
    have hWw := hW n (by omega) (64 + i / 8) (by omega)
    have nohid : qc_hid (G n (64 + i / 8)) (st (72 * n + i)) = false → wY_compact_88 post (wY_compact_25 post (nI n) b yi yd f') (nI n) b (nI i) (nI (72 * n + i)) yi yd kd st va al nN nA nK nS nV := by
      intro hh
      refine ys_cm88 (by omega) (fun hc => ih (i + 1) f' _ (by omega) (by omega) (qc_yC_cp0 (by omega) hC ?_)) (fun hc => ih (i + 1) f' _ (by omega) (by omega) (qc_yC_cpi (by omega) hC ?_))
      · rcases qc_y_0 hy hWi with ⟨ha, ho⟩ | ⟨ha, x', ho, hax, hx'⟩
        · exact qc_cp_none ho
        · have hax' : kd (72 * n + i) = x' := by rw [hax]; exact if_pos (by omega)
          rw [qc_cp_lo ho (by omega), if_pos]
          exact Or.inr ⟨hax'.symm.trans hc.1, hc.2⟩
      · rcases qc_y_0 hy hWi with ⟨ha, ho⟩ | ⟨ha, x', ho, hax, hx'⟩
        · rw [qc_cp_none ho]; exact Or.inl ⟨rfl, ha⟩
        · have hax' : kd (72 * n + i) = x' := by rw [hax]; exact if_pos (by omega)
          rw [qc_cp_lo ho (by omega), if_neg, ← ho]
          · exact hy
          · intro z
            rcases z with z | z
            · have z' : qc_hid (G n (64 + i / 8)) (st (72 * n + i)) = true := z
              rw [hh] at z'; cases z'
            · exact hc ⟨hax'.trans z.1, z.2⟩
    refine br_f (nI_ge (b := 64) (by omega) (by decide)) (nm_r (qc_72r n i) ⟨by decide, nm_r (e' := nI (72 * n + 64 + i / 8)) (by rw [e64, qc_div8 (by omega), nI_add]) ?_⟩)
    rw [qc_cl (n := 72 * n + 64 + i / 8) (by omega), qc_cl (n := 72 * n + i) (by omega), qc_by0]
    refine ⟨qc_in (by omega) (by decide), ?_⟩
    rcases qc_y_0 hw hWw with ⟨hwa, hwo⟩ | ⟨hwa, xw, hwo, hwx, hw12⟩
    · exact br_t hwa (nohid (by rw [hwo]; rfl))
    · have hhid : qc_hid (G n (64 + i / 8)) (st (72 * n + i)) = decide (st (72 * n + i) ≤ st (72 * n + 64 + i / 8)) := by rw [hwo]; rfl
      refine br_f hwa ⟨qc_in (by omega) (by decide), qc_in (by omega) (by decide), br_c (fun hlt => nohid ?_) (fun hlt => ⟨qc_in (by omega) (by decide), nm_e ?_⟩)⟩
      · rw [hhid]; exact decide_eq_false (Int32.not_le.mpr hlt)
      · have hcp : qc_cp (G n) b i = none := by
          rcases qc_y_0 hy hWi with ⟨ha, ho⟩ | ⟨ha, x', ho, hax, hx'⟩
          · exact qc_cp_none ho
          · rw [qc_cp_lo ho (by omega), if_pos]
            exact Or.inl (hhid.trans (decide_eq_true (Int32.not_lt.mp hlt)))
        refine ys_cm88 (by omega) (fun hc => ?_) (fun hc => ih (i + 1) f' _ (by omega) (by omega) (qc_yC_cp0 (by omega) hC hcp))
        rw [pk_us] at hc
        exact absurd hc.1 (by decide)
theorem ys_compact {post : Int32 → SY → Prop} {n : Nat} {b : Int32} {G : qc_G} (hn : n < 4) (hu : ¬ al n = 0) (hC : qc_yC kd st va G) (hW : qc_WF G)
    (hp : ∀ (kd1 st1 va1 : Nat → Int32), qc_yC kd1 st1 va1 (qc_cmG G n b) → post (nI (qc_en (qc_cmG G n b n) 64)) (yi, yd, kd1, st1, va1, al, nN, nA, nK, nS, nV)) : wpY_compact post (yi, yd, kd, st, va, al, nN, nA, nK, nS, nV) (nI n) b := by
  unfold wpY_compact
  dsimp only
  rw [qc_cl (n := n) (by omega)]
  refine ys_am1 (c := 4) hn (by decide) (br_f (by decide) ⟨qc_in hn (by decide), br_f hu ⟨65, ?_⟩⟩)
  refine ys_cm25 (G := G) hn hW (fun kd1 hC1 => ?_) 64 0 65 kd (by omega) (by omega) (qc_yC_cg hC (fun n' hn' k hk => qc_cpi_f (by omega)))
  refine ys_cm132 (G := G) hn hW (fun kd2 hC2 => ?_) 8 64 9 kd1 (by omega) (by omega) (by omega) hC1
  refine ys_flush hn hu hC2 (qc_cpi_W hW (by omega)) (fun kd3 st3 va3 hC3 => ?_)
  have hC4 : qc_yC kd3 st3 va3 (qc_cmG G n b) := by
    refine qc_yC_cg hC3 (fun n' hn' k hk => ?_)
    by_cases z : n' = 4 + n
    · rw [z, qc_cmG_s (Or.inr rfl), qc_flG_s, qc_cpi_t ⟨rfl, hk⟩]
    · rw [qc_flG_n z]
      by_cases y : n' = n
      · rw [y, qc_cmG_s (Or.inl rfl), qc_cpi_t ⟨rfl, hk⟩]
      · rw [qc_cmG_n (by omega), qc_cpi_f (fun w => y w.1)]
  have he : qc_en (qc_flG (qc_cpi G n b 72) n n) 64 = qc_en (qc_cmG G n b n) 64 := by
    refine qc_en_cg 64 (fun k hk => ?_)
    rw [qc_flG_n (by omega), qc_cpi_t ⟨rfl, by omega⟩, qc_cmG_s (Or.inl rfl)]
  rw [he]
  exact hp _ _ _ hC4
end
end
section
theorem qc_ev1 {G : qc_G} {a b k : Nat} (h : qc_nw (G a k) (G b k) = false) : qc_set G a k (qc_mx (G a k) (G b k)) = qc_rp G a b (qc_one k) ∧ (qc_nw (G b k) (G a k)).toNat = qc_df G a b k := by
  cases h2 : qc_nw (G b k) (G a k) with
  | true =>
    refine ⟨qc_rp_1 h2, ?_⟩
    unfold qc_df
    rw [if_neg (fun z => by rw [z, qc_nw_irr] at h2; cases h2)]
    rfl
  | false =>
    have e := qc_nw_tot h h2
    refine ⟨?_, ?_⟩
    · rw [← qc_rp_2 h2, qc_mx_f h2, qc_mx_f h, qc_set_id, qc_set_id]
    · unfold qc_df
      rw [if_pos e]
      rfl
theorem qc_ev2 {G : qc_G} {a b k : Nat} (h : qc_nw (G a k) (G b k) = true) : qc_set G b k (qc_mx (G b k) (G a k)) = qc_rp G a b (qc_one k) ∧ qc_df G a b k = 1 := by
  refine ⟨qc_rp_2 (qc_nw_asym h), ?_⟩
  unfold qc_df
  rw [if_neg (fun z => by rw [z, qc_nw_irr] at h; cases h)]
section
variable {yi yd : Int32} {kd st va al nN nA nK nS nV : Nat → Int32}
theorem ys_rp162 {post : Int32 → SY → Prop} {J : Int32 → Int32 → Int32 → Int32 → (Nat → Int32) → (Nat → Int32) → (Nat → Int32) → (Nat → Int32) → (Nat → Int32) → (Nat → Int32) → (Nat → Int32) → (Nat → Int32) → (Nat → Int32) → Prop}
    {a b c K : Nat} {G : qc_G} (ha : a < 4) (hb : b < 4) (hK : K < 72) (hC : qc_yC kd st va G) (hW : qc_WF G)
    (hp : ∀ (kd1 st1 va1 : Nat → Int32), qc_yC kd1 st1 va1 (qc_set G a K (qc_mx (G a K) (G b K))) → J (nI (c + (qc_nw (G b K) (G a K)).toNat)) (nI (K + 1)) yi yd kd1 st1 va1 al nN nA nK nS nV) : wY_repair_162 post J (nI a) (nI b) (nI c) (nI K) (nI (72 * b + K)) yi yd kd st va al nN nA nK nS nV := by
  unfold wY_repair_162
  rw [qc_cl (n := 72 * b + K) (by omega)]
  refine ⟨qc_in (by omega) (by decide), ?_⟩
  have hok := hW b (by omega) K hK
  rcases qc_y_0 (hC b (by omega) K hK) hok with ⟨hx, ho⟩ | ⟨hx, x', ho, hax, hx'⟩
  · rw [ho, qc_mx_nr, qc_set_id] at hp
    exact br_t hx (nm_r (nI_1 K) (hp _ _ _ hC))
  · rw [ho] at hp hok
    refine br_f hx ⟨qc_in (by omega) (by decide), qc_in (by omega) (by decide), qc_in (by omega) (by decide), ?_⟩
    refine ys_take hC hW (by omega) hK hok hax (fun kd1 st1 va1 hC1 => ?_)
    have hq := hp _ _ _ hC1
    cases hn : qc_nw (some (x', st (72 * b + K), va (72 * b + K))) (G a K) with
    | false =>
      rw [hn] at hq
      exact br_t rfl (nm_r (nI_1 K) hq)
    | true =>
      rw [hn] at hq
      exact br_f (by decide) (nm_r (nI_1 c) (nm_r (nI_1 K) hq))
theorem ys_rp78 {post : Int32 → SY → Prop} {J : Int32 → Int32 → Int32 → Int32 → (Nat → Int32) → (Nat → Int32) → (Nat → Int32) → (Nat → Int32) → (Nat → Int32) → (Nat → Int32) → (Nat → Int32) → (Nat → Int32) → (Nat → Int32) → Prop}
    {a b c K p : Nat} {G : qc_G} (ha : a < 4) (hb : b < 4) (hab : a ≠ b) (hK : K < 72) (hp9 : p < 9000) (hC : qc_yC kd st va G) (hW : qc_WF G)
    (h0 : qc_hl a b p = false → J (nI c) (nI (K + 1)) yi yd kd st va al nN nA nK nS nV)
    (hp : qc_hl a b p = true → ∀ (kd1 st1 va1 : Nat → Int32), qc_yC kd1 st1 va1 (qc_rp G a b (qc_one K)) → J (nI (c + qc_df G a b K)) (nI (K + 1)) yi yd kd1 st1 va1 al nN nA nK nS nV) : wY_repair_78 post J (nI a) (nI b) (nI c) (nI K) (nI p) yi yd kd st va al nN nA nK nS nV := by
  have hr : (p + 3) % 4 < 4 := Nat.mod_lt _ (by decide)
  unfold wY_repair_78
  refine ⟨by decide, nm_r (qc_rem4 (b := 3) (by omega)) (nm_r (qc_72r a K) (nm_r (qc_72r b K) ?_))⟩
  refine pk_eq _ _ (fun e1 => nm_r (nI_1 K) (h0 ?_)) (fun e1 => ?_)
  · unfold qc_hl
    rw [decide_eq_true e1]
    rfl
  refine pk_eq _ _ (fun e2 => nm_r (nI_1 K) (h0 ?_)) (fun e2 => ?_)
  · unfold qc_hl
    rw [decide_eq_true e2, Bool.not_true, Bool.and_false]
  have hh : qc_hl a b p = true := by
    unfold qc_hl
    rw [decide_eq_false e1, decide_eq_false e2]
    rfl
  have hp1 := hp hh
  rw [qc_cl (n := 72 * a + K) (by omega)]
  refine ⟨qc_in (by omega) (by decide), ?_⟩
  have hok := hW a (by omega) K hK
  rcases qc_y_0 (hC a (by omega) K hK) hok with ⟨hx, ho⟩ | ⟨hx, x', ho, hax, hx'⟩
  · have hn : qc_nw (G a K) (G b K) = false := by rw [ho]; rfl
    refine br_t hx (ys_rp162 ha hb hK hC hW (fun kd1 st1 va1 hC1 => ?_))
    rw [(qc_ev1 hn).1] at hC1
    rw [(qc_ev1 hn).2]
    exact hp1 _ _ _ hC1
  · have hok' := hok
    rw [ho] at hok'
    refine br_f hx ⟨qc_in (by omega) (by decide), qc_in (by omega) (by decide), qc_in (by omega) (by decide), ?_⟩
    refine ys_take hC hW (by omega) hK hok' hax (fun kd1 st1 va1 hC1 => ?_)
    rw [← ho] at hC1 ⊢
    have hW1 := qc_WF_set (n := b) hW (qc_ok_mx (hW b (by omega) K hK) hok)
    have sa : qc_set G b K (qc_mx (G b K) (G a K)) a K = G a K := qc_set_n (fun z => hab z.1)
    have sb : qc_set G b K (qc_mx (G b K) (G a K)) b K = qc_mx (G b K) (G a K) := qc_set_s
    cases hn : qc_nw (G a K) (G b K) with
    | false =>
      refine br_t rfl (ys_rp162 ha hb hK hC1 hW1 (fun kd2 st2 va2 hC2 => ?_))
      rw [sa, sb, qc_mx_f hn, qc_set_id, (qc_ev1 hn).1] at hC2
      rw [sa, sb, qc_mx_f hn, (qc_ev1 hn).2]
      exact hp1 _ _ _ hC2
    | true =>
      refine br_f (by decide) (nm_r (nI_1 c) (ys_rp162 ha hb hK hC1 hW1 (fun kd2 st2 va2 hC2 => ?_)))
      have e1 : qc_set (qc_set G b K (G a K)) a K (G a K) = qc_set G b K (G a K) := by
        have := qc_set_id (qc_set G b K (G a K)) a K
        rw [show qc_set G b K (G a K) a K = G a K from qc_set_n (fun z => hab z.1)] at this
        exact this
      have e2 := qc_ev2 hn
      rw [qc_mx_t hn] at e2
      rw [sa, sb, qc_mx_t hn, qc_mx_self, e1, e2.1] at hC2
      rw [sa, sb, qc_mx_t hn, qc_nw_irr]
      have := hp1 _ _ _ hC2
      rw [e2.2] at this
      exact this
theorem ys_rp51 {post : Int32 → SY → Prop} {a b : Nat} {G : qc_G} (ha : a < 4) (hb : b < 4) (hab : a ≠ b) (hW : qc_WF G)
    (hp : ∀ (kd1 st1 va1 : Nat → Int32), qc_yC kd1 st1 va1 (qc_rp G a b (qc_SY a b 72)) → post (nI (qc_sm (qc_fR G a b) 72)) (yi, yd, kd1, st1, va1, al, nN, nA, nK, nS, nV)) :
    ∀ (d K f : Nat) (kd st va : Nat → Int32), K + d = 72 → d < f → qc_yC kd st va (qc_rp G a b (qc_SY a b K)) → wY_repair_51 post (nI a) (nI b) f (nI (qc_sm (qc_fR G a b) K)) (nI K) yi yd kd st va al nN nA nK nS nV := by
  intro d
  induction d with
  | zero =>
    intro K f kd st va hK hf hC
    obtain ⟨f', rfl⟩ : ∃ f', f = f' + 1 := ⟨f - 1, by omega⟩
    have : K = 72 := by omega
    subst this
    exact br_t (Int32.le_refl _) (hp _ _ _ hC)
  | succ d ih =>
    intro K f kd st va hK hf hC
    obtain ⟨f', rfl⟩ : ∃ f', f = f' + 1 := ⟨f - 1, by omega⟩
    have hsm : qc_sm (qc_fR G a b) (K + 1) = qc_sm (qc_fR G a b) K + qc_fR G a b K := rfl
    have hpt := qc_pt_lt (show K < 72 by omega)
    have key : wY_repair_78 post (wY_repair_51 post (nI a) (nI b) f') (nI a) (nI b) (nI (qc_sm (qc_fR G a b) K)) (nI K) (nI (qc_pt K)) yi yd kd st va al nN nA nK nS nV := by
      refine ys_rp78 ha hb hab (by omega) (by omega) hC (qc_WF_rp hW ha hb) (fun hh => ?_) (fun hh => fun kd1 st1 va1 hC1 => ?_)
      · have hf0 : qc_fR G a b K = 0 := by unfold qc_fR; rw [hh]; rfl
        have hC2 := hC
        rw [qc_rp_cg (qc_SY_skip hh)] at hC2
        have := ih (K + 1) f' _ _ _ (by omega) (by omega) hC2
        rw [hsm, hf0] at this
        exact this
      · have hf1 : qc_fR G a b K = qc_df G a b K := by unfold qc_fR; rw [hh]; rfl
        rw [qc_rp_rp, qc_rp_cg (qc_SY_add hh)] at hC1
        rw [qc_rp_df qc_SY_f]
        have := ih (K + 1) f' _ _ _ (by omega) (by omega) hC1
        rw [hsm, hf1] at this
        exact this
    refine br_f (nI_ge (b := 72) (by omega) (by decide)) ?_
    rcases Nat.lt_or_ge K 64 with z | z
    · refine br_f (nI_ge (b := 64) z (by decide)) ⟨by decide, ?_⟩
      rw [qc_div8 (by omega), ← qc_pt_lo z]
      exact key
    · refine br_t (nI_le (a := 64) z (by omega)) ?_
      rw [show nI K - 64 = nI (K - 64) from pk_sub (b := 64) z, ← qc_pt_hi z]
      exact key
theorem ys_repair {post : Int32 → SY → Prop} {a b : Nat} {G : qc_G} (ha : a < 4) (hb : b < 4) (hab : a ≠ b) (hua : ¬ al a = 0) (hub : ¬ al b = 0) (hC : qc_yC kd st va G) (hW : qc_WF G)
    (hp : ∀ (kd1 st1 va1 : Nat → Int32), qc_yC kd1 st1 va1 (qc_rp G a b (qc_rpS a b)) → post (nI (qc_sm (qc_fR G a b) 72)) (yi, yd, kd1, st1, va1, al, nN, nA, nK, nS, nV)) : wpY_repair post (yi, yd, kd, st, va, al, nN, nA, nK, nS, nV) (nI a) (nI b) := by
  unfold wpY_repair
  dsimp only
  rw [qc_cl (n := a) (by omega), qc_cl (n := b) (by omega)]
  refine ys_am1 (c := 4) ha (by decide) (br_f (by decide) (ys_am1 (c := 4) hb (by decide) (br_f (by decide) (br_f (fun z => hab ((nI_eq (by omega) (by omega)).mp z)) ⟨qc_in ha (by decide), br_f hua ⟨qc_in hb (by decide), br_f hub ⟨73, ?_⟩⟩⟩))))
  refine ys_rp51 (G := G) ha hb hab hW hp 72 0 73 _ _ _ (by omega) (by omega) ?_
  rw [qc_rp_0]
  · exact hC
  · intro k
    unfold qc_SY
    rw [decide_eq_false (show ¬ k < 0 by omega), Bool.false_and]
theorem ys_lcl {post : Int64 → Prop} {n pl : Nat} {G : qc_G} (hn : n < 4) (hpl : pl < 64) (hC : qc_yC kd st va G) (hW : qc_WF G)
    (hp : post (qc_val (G n pl) (G n (64 + pl / 8)))) : wpY_local post (yi, yd, kd, st, va, al, nN, nA, nK, nS, nV) (nI n) (nI pl) := by
  have e64 : nI n * 72 + 64 + nI (pl / 8) = nI (72 * n + (64 + pl / 8)) := by
    rw [show nI n * 72 + 64 = nI (72 * n + 64) from qc_72r n 64, nI_add, Nat.add_assoc]
  unfold wpY_local
  dsimp only
  rw [qc_div8 (by omega), e64]
  refine ys_am1 (c := 4) hn (by decide) (br_f (by decide) (ys_am1 (c := 64) hpl (by decide) (br_f (by decide) (nm_r (qc_72r n pl) ⟨by decide, ?_⟩))))
  unfold wpY_live
  dsimp only
  rw [qc_cl (n := 72 * n + pl) (by omega), qc_cl (n := 72 * n + (64 + pl / 8)) (by omega)]
  refine ⟨qc_in (by omega) (by decide), ?_⟩
  rcases qc_y_0 (hC n (by omega) pl (by omega)) (hW n (by omega) pl (by omega)) with ⟨hx, ho⟩ | ⟨hx, x', ho, hax, hx'⟩
  · rw [ho] at hp
    exact br_f (by rw [hx]; decide) (br_t rfl hp)
  · have hax' : kd (72 * n + pl) = x' := by rw [hax]; exact if_pos hpl
    rw [ho] at hp
    have hp2 : post (if x' = 1 ∧ qc_hid (G n (64 + pl / 8)) (st (72 * n + pl)) = false then (va (72 * n + pl)).toInt64 else 1000000000000) := hp
    rw [hax']
    refine br_c (fun e1 => ⟨qc_in (by omega) (by decide), ?_⟩) (fun e1 => ?_)
    · rcases qc_y_0 (hC n (by omega) (64 + pl / 8) (by omega)) (hW n (by omega) (64 + pl / 8) (by omega)) with ⟨hwa, hwo⟩ | ⟨hwa, xw, hwo, hwx, hw12⟩
      · rw [hwo, if_pos ⟨e1, rfl⟩] at hp2
        exact br_t hwa (br_f (by decide) ⟨qc_in (by omega) (by decide), hp2⟩)
      · have hhid : qc_hid (G n (64 + pl / 8)) (st (72 * n + pl)) = decide (st (72 * n + pl) ≤ st (72 * n + (64 + pl / 8))) := by rw [hwo]; rfl
        rw [hhid] at hp2
        refine br_f hwa ⟨qc_in (by omega) (by decide), qc_in (by omega) (by decide), br_c (fun hle => ?_) (fun hle => ?_)⟩
        · rw [if_neg (fun z => by rw [decide_eq_true hle] at z; cases z.2)] at hp2
          exact br_t rfl hp2
        · rw [if_pos ⟨e1, decide_eq_false hle⟩] at hp2
          exact br_f (by decide) ⟨qc_in (by omega) (by decide), hp2⟩
    · rw [if_neg (fun z => e1 z.1)] at hp2
      exact br_t rfl hp2
theorem ys_stampAt {post : Int64 → Prop} {n k : Nat} {G : qc_G} (hn : n < 4) (hk : k < 72) (hC : qc_yC kd st va G) (hW : qc_WF G)
    (hp : post (qc_stp (G n k))) : wpY_stampAt post (yi, yd, kd, st, va, al, nN, nA, nK, nS, nV) (nI (72 * n + k)) := by
  unfold wpY_stampAt
  dsimp only
  rw [qc_cl (n := 72 * n + k) (by omega)]
  refine ⟨qc_in (by omega) (by decide), ?_⟩
  rcases qc_y_0 (hC n (by omega) k hk) (hW n (by omega) k hk) with ⟨hx, ho⟩ | ⟨hx, x', ho, hax, hx'⟩
  · rw [ho] at hp
    exact br_t hx hp
  · rw [ho] at hp
    exact br_f hx ⟨qc_in (by omega) (by decide), hp⟩
end
end
section
def qc_RX (G : qc_G) (H : List qc_H) (kh0 : Int32) (up0 : Nat → Int32) (u : SX) : Prop := match u with
  | (kh9, fk9, fs9, fv9, zf9, zc9, up9, mk9, ms9, mv9, mc9, rk9, rs9, rv9, rd9, re9, rf9, rr9, gk9, gs9, gv9, ag9, qN9, qK9, qD9, qS9, qV9) => (kh9 = kh0 ∧ up9 = up0) ∧ qc_XS mk9 ms9 mv9 mc9 rk9 rs9 rv9 rd9 re9 rf9 rr9 ag9 G ∧ qc_XH zf9 zc9 qN9 qK9 qD9 qS9 qV9 H
def qc_RY (G : qc_G) (H : List qc_H) (kh0 : Int32) (up0 : Nat → Int32) (v : SY) : Prop := match v with
  | (yi9, yd9, kd9, st9, va9, al9, nN9, nA9, nK9, nS9, nV9) => (yi9 = kh0 ∧ al9 = up0) ∧ qc_yC kd9 st9 va9 G ∧ qc_YH yd9 nN9 nA9 nK9 nS9 nV9 H
def i_Rel (k : Nat) (u : SX) (v : SY) : Prop := ∃ (G : qc_G) (H : List qc_H) (kh : Int32) (up : Nat → Int32), qc_WF G ∧ qc_WH H ∧ qc_RX G H kh up u ∧ qc_RY G H kh up v
theorem i_up {k : Nat} {u : SX} {v : SY} (h : i_Rel k u v) : i_Rel (k + 5) u v := h
theorem qc_el {k : Nat} {P : SX → SY → Prop} {u : SX} {v : SY} (I : i_Rel k u v)
    (h : ∀ (G : qc_G) (H : List qc_H) (kh fk fs fv zf zc : Int32) (up mk ms mv mc rk rs rv rd re : Nat → Int32) (rf : Nat → Int64) (rr gk gs gv ag qN qK qD qS qV : Nat → Int32) (yd : Int32) (kd st va nN nA nK nS nV : Nat → Int32),
      qc_WF G → qc_WH H → qc_XS mk ms mv mc rk rs rv rd re rf rr ag G → qc_XH zf zc qN qK qD qS qV H → qc_yC kd st va G → qc_YH yd nN nA nK nS nV H → P (kh, fk, fs, fv, zf, zc, up, mk, ms, mv, mc, rk, rs, rv, rd, re, rf, rr, gk, gs, gv, ag, qN, qK, qD, qS, qV) (kh, yd, kd, st, va, up, nN, nA, nK, nS, nV)) : P u v := by
  obtain ⟨G, H, kh0, up0, hW, hWH, hX, hY⟩ := I
  obtain ⟨kh, fk, fs, fv, zf, zc, up, mk, ms, mv, mc, rk, rs, rv, rd, re, rf, rr, gk, gs, gv, ag, qN, qK, qD, qS, qV⟩ := u
  obtain ⟨yi, yd, kd, st, va, al, nN, nA, nK, nS, nV⟩ := v
  obtain ⟨⟨e1, e2⟩, hS, hXH⟩ := hX
  obtain ⟨⟨e3, e4⟩, hC, hYH⟩ := hY
  subst e1 e2 e3 e4
  exact h G H _ _ _ _ _ _ _ _ _ _ _ _ _ _ _ _ _ _ _ _ _ _ _ _ _ _ _ _ _ _ _ _ _ _ _ _ hW hWH hS hXH hC hYH
section
variable {kh fk fs fv zf zc : Int32} {up mk ms mv mc rk rs rv rd re : Nat → Int32} {rf : Nat → Int64} {rr gk gs gv ag qN qK qD qS qV : Nat → Int32}
variable {yd : Int32} {kd st va nN nA nK nS nV : Nat → Int32}
theorem qc_mk {k : Nat} {G : qc_G} {H : List qc_H} (hW : qc_WF G) (hWH : qc_WH H) (hS : qc_XS mk ms mv mc rk rs rv rd re rf rr ag G) (hXH : qc_XH zf zc qN qK qD qS qV H) (hC : qc_yC kd st va G) (hYH : qc_YH yd nN nA nK nS nV H) : i_Rel k (kh, fk, fs, fv, zf, zc, up, mk, ms, mv, mc, rk, rs, rv, rd, re, rf, rr, gk, gs, gv, ag, qN, qK, qD, qS, qV) (kh, yd, kd, st, va, up, nN, nA, nK, nS, nV) :=
  ⟨G, H, kh, up, hW, hWH, ⟨⟨rfl, rfl⟩, hS, hXH⟩, ⟨⟨rfl, rfl⟩, hC, hYH⟩⟩
end
def qc_u (i : Nat) : Nat → Int32 := fun j => if j < i then 1 else 0
theorem qc_u_0 : qc_u 0 = fun _ => 0 := by
  funext j
  exact if_neg (by omega)
theorem qc_u_s (i : Nat) : upd (qc_u i) i 1 = qc_u (i + 1) := by
  funext j
  unfold upd qc_u
  by_cases h : j = i
  · rw [if_pos h, if_pos (by omega)]
  · rw [if_neg h]
    by_cases h2 : j < i
    · rw [if_pos h2, if_pos (by omega)]
    · rw [if_neg h2, if_neg (by omega)]
theorem qc_upd_id {a : Nat → Int32} {i : Nat} {x : Int32} (h : a i = x) : upd a i x = a := by
  funext j
  unfold upd
  by_cases z : j = i
  · rw [if_pos z, z, h]
  · rw [if_neg z]
section
variable {kh fk fs fv zf zc : Int32} {up mk ms mv mc rk rs rv rd re : Nat → Int32} {rf : Nat → Int64} {rr gk gs gv ag qN qK qD qS qV : Nat → Int32}
theorem xs_init {post : SX → Prop} (hp : post (kh, fk, fs, fv, zf, zc, qc_u 4, mk, ms, mv, mc, rk, rs, rv, rd, re, rf, rr, gk, gs, gv, ag, qN, qK, qD, qS, qV)) : ∀ (d i f : Nat), i + d = 4 → d < f → wX_init_191 post kh fk fs fv zf zc f (nI i) (qc_u i) mk ms mv mc rk rs rv rd re rf rr gk gs gv ag qN qK qD qS qV := by
  intro d
  induction d with
  | zero =>
    intro i f hi hf
    obtain ⟨f', rfl⟩ : ∃ f', f = f' + 1 := ⟨f - 1, by omega⟩
    have : i = 4 := by omega
    subst this
    exact br_t (Int32.le_refl _) hp
  | succ d ih =>
    intro i f hi hf
    obtain ⟨f', rfl⟩ : ∃ f', f = f' + 1 := ⟨f - 1, by omega⟩
    refine br_f (nI_ge (b := 4) (by omega) (by decide)) ?_
    rw [qc_cl (n := i) (by omega), qc_bo1, qc_u_s]
    exact ⟨qc_in (by omega) (by decide), nm_e (nm_r (nI_1 i) (ih (i + 1) f' (by omega) (by omega)))⟩
theorem xs_init0 {post : SX → Prop} (hp : post (kh, fk, fs, fv, zf, zc, qc_u 4, mk, ms, mv, mc, rk, rs, rv, rd, re, rf, rr, gk, gs, gv, ag, qN, qK, qD, qS, qV)) : ∃ n : Nat, wX_init_191 post kh fk fs fv zf zc n 0 (fun _ => 0) mk ms mv mc rk rs rv rd re rf rr gk gs gv ag qN qK qD qS qV := by
  have h := xs_init hp 4 0 5 (by omega) (by omega)
  rw [qc_u_0] at h
  exact ⟨5, h⟩
end
section
variable {yi yd : Int32} {kd st va al nN nA nK nS nV : Nat → Int32}
theorem ys_init {post : SY → Prop} (hp : post (yi, yd, kd, st, va, qc_u 4, nN, nA, nK, nS, nV)) : ∀ (d i f : Nat), i + d = 4 → d < f → wY_init_93 post yi yd f (nI i) kd st va (qc_u i) nN nA nK nS nV := by
  intro d
  induction d with
  | zero =>
    intro i f hi hf
    obtain ⟨f', rfl⟩ : ∃ f', f = f' + 1 := ⟨f - 1, by omega⟩
    have : i = 4 := by omega
    subst this
    exact br_t (Int32.le_refl _) hp
  | succ d ih =>
    intro i f hi hf
    obtain ⟨f', rfl⟩ : ∃ f', f = f' + 1 := ⟨f - 1, by omega⟩
    refine br_f (nI_ge (b := 4) (by omega) (by decide)) ?_
    rw [qc_cl (n := i) (by omega), qc_bo1, qc_u_s]
    exact ⟨qc_in (by omega) (by decide), nm_e (nm_r (nI_1 i) (ih (i + 1) f' (by omega) (by omega)))⟩
theorem ys_init0 {post : SY → Prop} (hp : post (yi, yd, kd, st, va, qc_u 4, nN, nA, nK, nS, nV)) : ∃ n : Nat, wY_init_93 post yi yd n 0 kd st va (fun _ => 0) nN nA nK nS nV := by
  have h := ys_init hp 4 0 5 (by omega) (by omega)
  rw [qc_u_0] at h
  exact ⟨5, h⟩
end
theorem qc_XS0 : qc_XS (fun _ => 0) (fun _ => 0) (fun _ => 0) (fun _ => 0) (fun _ => 0) (fun _ => 0) (fun _ => 0) (fun _ => 0) (fun _ => 0) (fun _ => 0) (fun _ => 0) (fun _ => 0) (fun _ _ => none) := by
  refine ⟨fun n hn => ⟨fun k hk => rfl, ?_⟩, fun n hn => ?_, fun a ha b hb => ?_, fun n hn k hk => qc_ok_none⟩
  · rw [qc_ct_0 72 (fun _ _ _ => rfl)]
    rfl
  · refine ⟨0, fun _ => 144 * n, ⟨⟨rfl, by omega, rfl, Nat.le_add_right _ _⟩, fun r hr => by omega, fun r hr => by omega, fun r hr => by omega⟩, fun k hk => ?_⟩
    rw [Nat.sub_self]
    rfl
  · refine ⟨0, by omega, rfl, fun q hq h => ?_⟩
    rw [Nat.zero_testBit] at h
    cases h
theorem qc_ini (kh : Int32) : i_Rel 1 (kh, 0, 0, 0, 0, 0, qc_u 4, fun _ => 0, fun _ => 0, fun _ => 0, fun _ => 0, fun _ => 0, fun _ => 0, fun _ => 0, fun _ => 0, fun _ => 0, fun _ => 0, fun _ => 0, fun _ => 0, fun _ => 0, fun _ => 0, fun _ => 0, fun _ => 0, fun _ => 0, fun _ => 0, fun _ => 0, fun _ => 0)
    (kh, 0, fun _ => 0, fun _ => 0, fun _ => 0, qc_u 4, fun _ => 0, fun _ => 0, fun _ => 0, fun _ => 0, fun _ => 0) :=
  qc_mk (G := fun _ _ => none) (H := []) (fun n hn k hk => qc_ok_none) (fun h hh => nomatch hh) qc_XS0 ⟨0, by omega, rfl, rfl, Nat.zero_le _, fun j h e => nomatch e⟩ (fun n hn k hk => Or.inl ⟨rfl, rfl⟩) ⟨rfl, Nat.zero_le _, fun j h e => nomatch e⟩
theorem i_vc0 (k0 : Int32) : wpX_init (fun u => wpY_init (fun v => i_Rel 1 u v) k0) k0 := by
  unfold wpX_init wpY_init
  by_cases h : k0 = 0
  · exact br_t h (xs_init0 (br_t h (ys_init0 (qc_ini 0))))
  · exact br_f h (xs_init0 (br_f h (ys_init0 (qc_ini 1))))
end
section
theorem ys_lf {A B : Prop} {L : Int32} (h : L < 1 ∨ ¬ L ≤ 3) (a : A) : (L < 1 → A) ∧ (¬ L < 1 → ((L ≤ 3 → B) ∧ (¬ L ≤ 3 → A))) := by
  by_cases z : L < 1
  · exact br_t z a
  · rcases h with h | h
    · exact absurd h z
    · exact br_f z (br_f h a)
theorem ys_lt {A B : Prop} {l : Nat} (h1 : 1 ≤ l) (h3 : l ≤ 3) (b : B) : (nI l < 1 → A) ∧ (¬ nI l < 1 → ((nI l ≤ 3 → B) ∧ (¬ nI l ≤ 3 → A))) :=
  br_f (nI_nlt (b := 1) h1 (by omega)) (br_t (nI_le (b := 3) h3 (by decide)) b)
theorem ys_lf2 {A B : Prop} {L : Int32} (h : L < 1 ∨ ¬ L ≤ 3) (a : A) : (L < 1 → A) ∧ (¬ L < 1 → ((3 < L → A) ∧ (¬ 3 < L → B))) := by
  by_cases z : L < 1
  · exact br_t z a
  · rcases h with h | h
    · exact absurd h z
    · exact br_f z (br_t (Int32.not_le.mp h) a)
theorem qc_ix (x : Int32) {n : Nat} (hn : n < 10000) : (x < 0 ∨ nI n ≤ x) ∨ ∃ j : Nat, j < n ∧ x = nI j := by
  rcases pk_ix x (show n < 2 ^ 31 by omega) with h | h | h
  · exact Or.inl (Or.inl h)
  · exact Or.inl (Or.inr h)
  · exact Or.inr h
theorem qc_spG_W {up : Nat → Int32} {p k : Nat} {e : qc_E} (hk : k < 72) (he : qc_ok k (some e)) : ∀ (d i : Nat) (G : qc_G), qc_WF G → qc_WF (qc_spG up p k e d i G)
  | 0, _, G, h => h
  | d + 1, i, G, h => by
    by_cases z : up ((p + i) % 4) = 0
    · rw [qc_spG_0 z]
      exact qc_spG_W hk he d (i + 1) G h
    · rw [qc_spG_1 z]
      exact qc_spG_W hk he d (i + 1) _ (qc_WF_set h (qc_ok_mx (h _ (by have := Nat.mod_lt (p + i) (show 0 < 4 by decide); omega) k hk) he))
theorem i_vc_write {k : Nat} {u : SX} {v : SY} (I : i_Rel k u v) (hk : k + 5 ≤ 2561) (v1 : Int32) (v2 : Int32) (v3 : Int32) (v4 : Int32) : wpX_write (fun r u' => wpY_write (fun r' v' => r' = r ∧ i_Rel (k + 5) u' v') v v1 v2 v3 v4) u v1 v2 v3 v4 := by
  refine qc_el (P := fun u v => wpX_write (fun r u' => wpY_write (fun r' v' => r' = r ∧ i_Rel (k + 5) u' v') v v1 v2 v3 v4) u v1 v2 v3 v4) I ?_
  intro G H kh fk fs fv zf zc up mk ms mv mc rk rs rv rd re rf rr gk gs gv ag qN qK qD qS qV yd kd st va nN nA nK nS nV hW hWH hS hXH hC hYH
  have hr : i_Rel (k + 5) (kh, fk, fs, fv, zf, zc, up, mk, ms, mv, mc, rk, rs, rv, rd, re, rf, rr, gk, gs, gv, ag, qN, qK, qD, qS, qV) (kh, yd, kd, st, va, up, nN, nA, nK, nS, nV) := qc_mk hW hWH hS hXH hC hYH
  unfold wpX_write wpY_write
  dsimp only
  rcases qc_ix v1 (n := 64) (by decide) with h1 | ⟨pl, hpl, rfl⟩
  · exact xs_badP (c := 64) (by decide) h1 (br_f (by decide) (ys_am0 (c := 64) h1 (br_t rfl ⟨rfl, hr⟩)))
  · refine xs_bad0 (c := 64) hpl (by decide) (br_t rfl ?_)
    rcases qc_lev v4 with ⟨l, l1, l3, rfl⟩ | ⟨h2, h3⟩
    · refine xs_badL0 l1 l3 (br_t rfl ?_)
      have hok : qc_ok pl (some (1, v3, v2)) := fun e he => by
        cases he
        exact ⟨Or.inl rfl, fun _ => rfl, fun z => by rcases z with z | z; exact absurd (show (1 : Int32) = 2 from z) (by decide); omega⟩
      have hle := qc_uc_le up (qc_pt pl) 3 0
      have hpt := qc_pt_lt (show pl < 72 by omega)
      rw [qc_div8 (by omega), ← qc_pt_lo hpl]
      refine xs_spread (show pl < 72 by omega) (by omega) (by decide) hok hS hXH (fun hu => ?_) (fun hu => fun fk1 fs1 fv1 zf1 zc1 mk1 ms1 mv1 mc1 ag1 qN1 qK1 qD1 qS1 qV1 hS1 hXH1 => ?_)
      · refine ys_am1 (c := 64) hpl (by decide) (br_f (by decide) (ys_lt l1 l3 ⟨by decide, ys_upCount (by omega) (br_f (nI_ge hu (by omega)) ⟨rfl, hr⟩)⟩))
      · refine ys_am1 (c := 64) hpl (by decide) (br_f (by decide) (ys_lt l1 l3 ⟨by decide, ys_upCount (by omega) (br_t (nI_le hu (by omega)) ⟨by decide, ?_⟩)⟩))
        refine ys_send (x := 1) (show pl < 72 by omega) (by omega) hok (if_pos hpl).symm hC hW hYH (fun yd1 kd1 st1 va1 nN1 nA1 nK1 nS1 nV1 hC1 hYH1 => ?_)
        exact ⟨rfl, qc_mk (qc_spG_W (by omega) hok _ _ _ hW) (qc_spH_W (by omega) hok _ _ _ hWH) hS1 hXH1 hC1 hYH1⟩
    · exact xs_badL h2 (br_f (by decide) (ys_am1 (c := 64) hpl (by decide) (br_f (by decide) (ys_lf h3 ⟨rfl, hr⟩))))
theorem i_vc_erase {k : Nat} {u : SX} {v : SY} (I : i_Rel k u v) (hk : k + 5 ≤ 2561) (v1 : Int32) (v2 : Int32) (v3 : Int32) : wpX_erase (fun r u' => wpY_erase (fun r' v' => r' = r ∧ i_Rel (k + 5) u' v') v v1 v2 v3) u v1 v2 v3 := by
  refine qc_el (P := fun u v => wpX_erase (fun r u' => wpY_erase (fun r' v' => r' = r ∧ i_Rel (k + 5) u' v') v v1 v2 v3) u v1 v2 v3) I ?_
  intro G H kh fk fs fv zf zc up mk ms mv mc rk rs rv rd re rf rr gk gs gv ag qN qK qD qS qV yd kd st va nN nA nK nS nV hW hWH hS hXH hC hYH
  have hr : i_Rel (k + 5) (kh, fk, fs, fv, zf, zc, up, mk, ms, mv, mc, rk, rs, rv, rd, re, rf, rr, gk, gs, gv, ag, qN, qK, qD, qS, qV) (kh, yd, kd, st, va, up, nN, nA, nK, nS, nV) := qc_mk hW hWH hS hXH hC hYH
  unfold wpX_erase wpY_erase
  dsimp only
  rcases qc_ix v1 (n := 64) (by decide) with h1 | ⟨pl, hpl, rfl⟩
  · exact xs_badP (c := 64) (by decide) h1 (br_f (by decide) (ys_am0 (c := 64) h1 (br_t rfl ⟨rfl, hr⟩)))
  · refine xs_bad0 (c := 64) hpl (by decide) (br_t rfl ?_)
    rcases qc_lev v3 with ⟨l, l1, l3, rfl⟩ | ⟨h2, h3⟩
    · refine xs_badL0 l1 l3 (br_t rfl ?_)
      have hok : qc_ok pl (some (2, v2, 0)) := fun e he => by
        cases he
        exact ⟨Or.inr rfl, fun z => by omega, fun _ => rfl⟩
      have hle := qc_uc_le up (qc_pt pl) 3 0
      have hpt := qc_pt_lt (show pl < 72 by omega)
      rw [qc_div8 (by omega), ← qc_pt_lo hpl]
      refine xs_spread (show pl < 72 by omega) (by omega) (by decide) hok hS hXH (fun hu => ?_) (fun hu => fun fk1 fs1 fv1 zf1 zc1 mk1 ms1 mv1 mc1 ag1 qN1 qK1 qD1 qS1 qV1 hS1 hXH1 => ?_)
      · refine ys_am1 (c := 64) hpl (by decide) (br_f (by decide) (ys_lt l1 l3 ⟨by decide, ys_upCount (by omega) (br_f (nI_ge hu (by omega)) ⟨rfl, hr⟩)⟩))
      · refine ys_am1 (c := 64) hpl (by decide) (br_f (by decide) (ys_lt l1 l3 ⟨by decide, ys_upCount (by omega) (br_t (nI_le hu (by omega)) ⟨by decide, ?_⟩)⟩))
        refine ys_send (x := 2) (show pl < 72 by omega) (by omega) hok (if_pos hpl).symm hC hW hYH (fun yd1 kd1 st1 va1 nN1 nA1 nK1 nS1 nV1 hC1 hYH1 => ?_)
        exact ⟨rfl, qc_mk (qc_spG_W (by omega) hok _ _ _ hW) (qc_spH_W (by omega) hok _ _ _ hWH) hS1 hXH1 hC1 hYH1⟩
    · exact xs_badL h2 (br_f (by decide) (ys_am1 (c := 64) hpl (by decide) (br_f (by decide) (ys_lf h3 ⟨rfl, hr⟩))))
theorem i_vc_wipe {k : Nat} {u : SX} {v : SY} (I : i_Rel k u v) (hk : k + 5 ≤ 2561) (v1 : Int32) (v2 : Int32) (v3 : Int32) : wpX_wipe (fun r u' => wpY_wipe (fun r' v' => r' = r ∧ i_Rel (k + 5) u' v') v v1 v2 v3) u v1 v2 v3 := by
  refine qc_el (P := fun u v => wpX_wipe (fun r u' => wpY_wipe (fun r' v' => r' = r ∧ i_Rel (k + 5) u' v') v v1 v2 v3) u v1 v2 v3) I ?_
  intro G H kh fk fs fv zf zc up mk ms mv mc rk rs rv rd re rf rr gk gs gv ag qN qK qD qS qV yd kd st va nN nA nK nS nV hW hWH hS hXH hC hYH
  have hr : i_Rel (k + 5) (kh, fk, fs, fv, zf, zc, up, mk, ms, mv, mc, rk, rs, rv, rd, re, rf, rr, gk, gs, gv, ag, qN, qK, qD, qS, qV) (kh, yd, kd, st, va, up, nN, nA, nK, nS, nV) := qc_mk hW hWH hS hXH hC hYH
  unfold wpX_wipe wpY_wipe
  dsimp only
  rcases qc_ix v1 (n := 8) (by decide) with h1 | ⟨p, hp8, rfl⟩
  · exact xs_badP (c := 8) (by decide) h1 (br_f (by decide) (ys_am0 (c := 8) h1 (br_t rfl ⟨rfl, hr⟩)))
  · refine xs_bad0 (c := 8) hp8 (by decide) (br_t rfl ?_)
    rcases qc_lev v3 with ⟨l, l1, l3, rfl⟩ | ⟨h2, h3⟩
    · refine xs_badL0 l1 l3 (br_t rfl ?_)
      have hok : qc_ok (64 + p) (some (1, v2, 0)) := fun e he => by
        cases he
        exact ⟨Or.inl rfl, fun _ => rfl, fun _ => rfl⟩
      have hle := qc_uc_le up p 3 0
      have hpt := qc_pt_64 hp8
      rw [qc_64]
      refine xs_spread (show 64 + p < 72 by omega) (by omega) (by decide) hok hS hXH (fun hu => ?_) (fun hu => fun fk1 fs1 fv1 zf1 zc1 mk1 ms1 mv1 mc1 ag1 qN1 qK1 qD1 qS1 qV1 hS1 hXH1 => ?_)
      · rw [hpt] at hu
        refine ys_am1 (c := 8) hp8 (by decide) (br_f (by decide) (ys_lt l1 l3 (ys_upCount (by omega) (br_f (nI_ge hu (by omega)) ⟨rfl, hr⟩))))
      · rw [hpt] at hu hS1 hXH1 ⊢
        refine ys_am1 (c := 8) hp8 (by decide) (br_f (by decide) (ys_lt l1 l3 (ys_upCount (by omega) (br_t (nI_le hu (by omega)) ?_))))
        refine ys_send (x := 1) (show 64 + p < 72 by omega) (by omega) hok (if_neg (by omega)).symm hC hW hYH (fun yd1 kd1 st1 va1 nN1 nA1 nK1 nS1 nV1 hC1 hYH1 => ?_)
        exact ⟨rfl, qc_mk (qc_spG_W (by omega) hok _ _ _ hW) (qc_spH_W (by omega) hok _ _ _ hWH) hS1 hXH1 hC1 hYH1⟩
    · exact xs_badL h2 (br_f (by decide) (ys_am1 (c := 8) hp8 (by decide) (br_f (by decide) (ys_lf h3 ⟨rfl, hr⟩))))
theorem i_vc_read {k : Nat} {u : SX} {v : SY} (I : i_Rel k u v) (hk : k + 5 ≤ 2561) (v1 : Int32) (v2 : Int32) : wpX_read (fun r u' => wpY_read (fun r' v' => r' = r ∧ i_Rel (k + 5) u' v') v v1 v2) u v1 v2 := by
  refine qc_el (P := fun u v => wpX_read (fun r u' => wpY_read (fun r' v' => r' = r ∧ i_Rel (k + 5) u' v') v v1 v2) u v1 v2) I ?_
  intro G H kh fk fs fv zf zc up mk ms mv mc rk rs rv rd re rf rr gk gs gv ag qN qK qD qS qV yd kd st va nN nA nK nS nV hW hWH hS hXH hC hYH
  have hr : i_Rel (k + 5) (kh, fk, fs, fv, zf, zc, up, mk, ms, mv, mc, rk, rs, rv, rd, re, rf, rr, gk, gs, gv, ag, qN, qK, qD, qS, qV) (kh, yd, kd, st, va, up, nN, nA, nK, nS, nV) := qc_mk hW hWH hS hXH hC hYH
  rcases qc_ix v1 (n := 64) (by decide) with h1 | ⟨pl, hpl, rfl⟩
  · unfold wpX_read wpY_read
    exact xs_badP (c := 64) (by decide) h1 (br_f (by decide) (ys_am0 (c := 64) h1 (br_t rfl ⟨rfl, hr⟩)))
  · rcases qc_lev v2 with ⟨l, l1, l3, rfl⟩ | ⟨h2, h3⟩
    · have hle := qc_uc_le up (pl / 8) 3 0
      rcases Nat.lt_or_ge (qc_uc up (pl / 8) 3 0) l with hu | hu
      · unfold wpX_read wpY_read
        dsimp only
        refine xs_bad0 (c := 64) hpl (by decide) (br_t rfl (xs_badL0 l1 l3 (br_t rfl ?_)))
        rw [qc_shr3 (by omega), qc_div8 (by omega)]
        refine xs_upCount (br_f (nI_ge hu (by omega)) ?_)
        exact ys_am1 (c := 64) hpl (by decide) (br_f (by decide) (br_f (nI_nlt (b := 1) l1 (by omega)) (br_f (nI_nlt (a := 3) l3 (by decide)) ⟨by decide, ys_upCount (by omega) (br_f (nI_ge hu (by omega)) ⟨rfl, hr⟩)⟩)))
      · refine xs_read hpl l1 l3 hu hS (fun fk1 fs1 fv1 mk1 ms1 mv1 mc1 ag1 hS1 => ?_)
        refine ys_read hpl l1 l3 hu hC hW (fun kd1 st1 va1 hC1 => ?_)
        exact ⟨rfl, qc_mk (qc_WF_st hW (qc_ask_lt _ _ _)) hWH hS1 hXH hC1 hYH⟩
    · unfold wpX_read wpY_read
      exact xs_bad0 (c := 64) hpl (by decide) (br_t rfl (xs_badL h2 (br_f (by decide) (ys_am1 (c := 64) hpl (by decide) (br_f (by decide) (ys_lf2 h3 ⟨rfl, hr⟩))))))
theorem i_vc_sum {k : Nat} {u : SX} {v : SY} (I : i_Rel k u v) (hk : k + 5 ≤ 2561) (v1 : Int32) (v2 : Int32) : wpX_sum (fun r u' => wpY_sum (fun r' v' => r' = r ∧ i_Rel (k + 5) u' v') v v1 v2) u v1 v2 := by
  refine qc_el (P := fun u v => wpX_sum (fun r u' => wpY_sum (fun r' v' => r' = r ∧ i_Rel (k + 5) u' v') v v1 v2) u v1 v2) I ?_
  intro G H kh fk fs fv zf zc up mk ms mv mc rk rs rv rd re rf rr gk gs gv ag qN qK qD qS qV yd kd st va nN nA nK nS nV hW hWH hS hXH hC hYH
  have hr : i_Rel (k + 5) (kh, fk, fs, fv, zf, zc, up, mk, ms, mv, mc, rk, rs, rv, rd, re, rf, rr, gk, gs, gv, ag, qN, qK, qD, qS, qV) (kh, yd, kd, st, va, up, nN, nA, nK, nS, nV) := qc_mk hW hWH hS hXH hC hYH
  rcases qc_ix v1 (n := 8) (by decide) with h1 | ⟨p, hp8, rfl⟩
  · unfold wpX_sum wpY_sum
    exact xs_badP (c := 8) (by decide) h1 (br_f (by decide) (ys_am0 (c := 8) h1 (br_t rfl ⟨rfl, hr⟩)))
  · rcases qc_lev v2 with ⟨l, l1, l3, rfl⟩ | ⟨h2, h3⟩
    · have hle := qc_uc_le up p 3 0
      rcases Nat.lt_or_ge (qc_uc up p 3 0) l with hu | hu
      · unfold wpX_sum wpY_sum
        dsimp only
        refine xs_bad0 (c := 8) hp8 (by decide) (br_t rfl (xs_badL0 l1 l3 (br_t rfl ?_)))
        refine xs_upCount (br_f (nI_ge hu (by omega)) ?_)
        exact ys_am1 (c := 8) hp8 (by decide) (br_f (by decide) (br_f (nI_nlt (b := 1) l1 (by omega)) (br_f (nI_nlt (a := 3) l3 (by decide)) (ys_upCount (by omega) (br_f (nI_ge hu (by omega)) ⟨rfl, hr⟩)))))
      · refine xs_sum hp8 l1 l3 hu hS (fun fk1 fs1 fv1 mk1 ms1 mv1 mc1 ag1 hS1 => ?_)
        refine ys_sum hp8 l1 l3 hu hC hW (fun kd1 st1 va1 hC1 => ?_)
        exact ⟨rfl, qc_mk (qc_WF_st hW (qc_ask_lt _ _ _)) hWH hS1 hXH hC1 hYH⟩
    · unfold wpX_sum wpY_sum
      exact xs_bad0 (c := 8) hp8 (by decide) (br_t rfl (xs_badL h2 (br_f (by decide) (ys_am1 (c := 8) hp8 (by decide) (br_f (by decide) (ys_lf2 h3 ⟨rfl, hr⟩))))))
theorem i_vc_down {k : Nat} {u : SX} {v : SY} (I : i_Rel k u v) (hk : k + 5 ≤ 2561) (v1 : Int32) : wpX_down (fun r u' => wpY_down (fun r' v' => r' = r ∧ i_Rel (k + 5) u' v') v v1) u v1 := by
  refine qc_el (P := fun u v => wpX_down (fun r u' => wpY_down (fun r' v' => r' = r ∧ i_Rel (k + 5) u' v') v v1) u v1) I ?_
  intro G H kh fk fs fv zf zc up mk ms mv mc rk rs rv rd re rf rr gk gs gv ag qN qK qD qS qV yd kd st va nN nA nK nS nV hW hWH hS hXH hC hYH
  have hr : ∀ up : Nat → Int32, i_Rel (k + 5) (kh, fk, fs, fv, zf, zc, up, mk, ms, mv, mc, rk, rs, rv, rd, re, rf, rr, gk, gs, gv, ag, qN, qK, qD, qS, qV) (kh, yd, kd, st, va, up, nN, nA, nK, nS, nV) := fun up => qc_mk hW hWH hS hXH hC hYH
  unfold wpX_down wpY_down
  dsimp only
  rcases qc_ix v1 (n := 4) (by decide) with h1 | ⟨n, hn, rfl⟩
  · exact xs_badP (c := 4) (by decide) h1 (br_f (by decide) (ys_am0 (c := 4) h1 (br_t rfl ⟨rfl, hr up⟩)))
  · refine xs_bad0 (c := 4) hn (by decide) (br_t rfl ?_)
    unfold wX_down_24
    rw [qc_cl (n := n) (by omega), qc_bo0]
    refine ⟨qc_in hn (by decide), br_c (fun h0 => ⟨qc_in hn (by decide), nm_r (qc_upd_id h0) ?_⟩) (fun h0 => ⟨qc_in hn (by decide), nm_e ?_⟩)⟩
    · exact ys_am1 (c := 4) hn (by decide) (br_f (by decide) ⟨qc_in hn (by decide), br_t h0 ⟨rfl, hr up⟩⟩)
    · exact ys_am1 (c := 4) hn (by decide) (br_f (by decide) ⟨qc_in hn (by decide), br_f h0 ⟨qc_in hn (by decide), nm_e ⟨rfl, hr _⟩⟩⟩)
theorem qc_upG_W {n : Nat} (hn : n < 4) : ∀ (R : List qc_H) (G : qc_G), qc_WH R → qc_WF G → qc_WF (qc_upG n R G)
  | [], G, _, h => h
  | x :: R, G, hR, h => by
    have hx := hR x List.mem_cons_self
    have hR' : qc_WH R := fun y hy => hR y (List.mem_cons_of_mem x hy)
    show qc_WF (if x.1 = n then qc_upG n R (qc_set G n x.2.1 (qc_mx (G n x.2.1) (some x.2.2))) else qc_upG n R G)
    split
    · exact qc_upG_W hn R _ hR' (qc_WF_set h (qc_ok_mx (h n (by omega) _ hx.2.1) hx.2.2))
    · exact qc_upG_W hn R G hR' h
theorem i_vc_up {k : Nat} {u : SX} {v : SY} (I : i_Rel k u v) (hk : k + 5 ≤ 2561) (v1 : Int32) : wpX_up (fun r u' => wpY_up (fun r' v' => r' = r ∧ i_Rel (k + 5) u' v') v v1) u v1 := by
  refine qc_el (P := fun u v => wpX_up (fun r u' => wpY_up (fun r' v' => r' = r ∧ i_Rel (k + 5) u' v') v v1) u v1) I ?_
  intro G H kh fk fs fv zf zc up mk ms mv mc rk rs rv rd re rf rr gk gs gv ag qN qK qD qS qV yd kd st va nN nA nK nS nV hW hWH hS hXH hC hYH
  have hr : i_Rel (k + 5) (kh, fk, fs, fv, zf, zc, up, mk, ms, mv, mc, rk, rs, rv, rd, re, rf, rr, gk, gs, gv, ag, qN, qK, qD, qS, qV) (kh, yd, kd, st, va, up, nN, nA, nK, nS, nV) := qc_mk hW hWH hS hXH hC hYH
  rcases qc_ix v1 (n := 4) (by decide) with h1 | ⟨n, hn, rfl⟩
  · unfold wpX_up wpY_up
    exact xs_badP (c := 4) (by decide) h1 (br_f (by decide) (ys_am0 (c := 4) h1 (br_t rfl ⟨rfl, hr⟩)))
  · by_cases h0 : up n = 0
    · refine xs_upM hn h0 hS hXH hWH (fun fk1 fs1 fv1 zf1 zc1 mk1 ms1 mv1 mc1 ag1 qN1 qK1 qD1 qS1 qV1 hS1 hXH1 => ?_)
      refine ys_upM hn h0 hC hW hYH hWH (fun yd1 kd1 st1 va1 nN1 nA1 nK1 nS1 nV1 hC1 hYH1 => ?_)
      exact ⟨rfl, qc_mk (qc_upG_W hn H G hWH hW) (fun h hh => hWH h (qc_upH_mem hh)) hS1 hXH1 hC1 hYH1⟩
    · unfold wpX_up wpY_up
      dsimp only
      refine xs_bad0 (c := 4) hn (by decide) (br_t rfl ?_)
      rw [qc_cl (n := n) (by omega)]
      exact ⟨qc_in hn (by decide), br_f h0 (ys_am1 (c := 4) hn (by decide) (br_f (by decide) ⟨qc_in hn (by decide), br_f h0 ⟨rfl, hr⟩⟩))⟩
theorem i_vc_crash {k : Nat} {u : SX} {v : SY} (I : i_Rel k u v) (hk : k + 5 ≤ 2561) (v1 : Int32) : wpX_crash (fun r u' => wpY_crash (fun r' v' => r' = r ∧ i_Rel (k + 5) u' v') v v1) u v1 := by
  refine qc_el (P := fun u v => wpX_crash (fun r u' => wpY_crash (fun r' v' => r' = r ∧ i_Rel (k + 5) u' v') v v1) u v1) I ?_
  intro G H kh fk fs fv zf zc up mk ms mv mc rk rs rv rd re rf rr gk gs gv ag qN qK qD qS qV yd kd st va nN nA nK nS nV hW hWH hS hXH hC hYH
  have hr : i_Rel (k + 5) (kh, fk, fs, fv, zf, zc, up, mk, ms, mv, mc, rk, rs, rv, rd, re, rf, rr, gk, gs, gv, ag, qN, qK, qD, qS, qV) (kh, yd, kd, st, va, up, nN, nA, nK, nS, nV) := qc_mk hW hWH hS hXH hC hYH
  rcases qc_ix v1 (n := 4) (by decide) with h1 | ⟨n, hn, rfl⟩
  · unfold wpX_crash wpY_crash
    exact xs_badP (c := 4) (by decide) h1 (br_f (by decide) (ys_am0 (c := 4) h1 (br_t rfl ⟨rfl, hr⟩)))
  · refine xs_crash hn hS (fun fk1 fs1 fv1 mk1 ms1 mv1 mc1 ag1 hS1 => ?_)
    refine ys_crash hn hC hW (fun kd1 st1 va1 hC1 => ?_)
    exact ⟨rfl, qc_mk (qc_WF_cr hW hn) hWH hS1 hXH hC1 hYH⟩
theorem i_vc_flush {k : Nat} {u : SX} {v : SY} (I : i_Rel k u v) (hk : k + 5 ≤ 2561) (v1 : Int32) : wpX_flush (fun r u' => wpY_flush (fun r' v' => r' = r ∧ i_Rel (k + 5) u' v') v v1) u v1 := by
  refine qc_el (P := fun u v => wpX_flush (fun r u' => wpY_flush (fun r' v' => r' = r ∧ i_Rel (k + 5) u' v') v v1) u v1) I ?_
  intro G H kh fk fs fv zf zc up mk ms mv mc rk rs rv rd re rf rr gk gs gv ag qN qK qD qS qV yd kd st va nN nA nK nS nV hW hWH hS hXH hC hYH
  have hr : i_Rel (k + 5) (kh, fk, fs, fv, zf, zc, up, mk, ms, mv, mc, rk, rs, rv, rd, re, rf, rr, gk, gs, gv, ag, qN, qK, qD, qS, qV) (kh, yd, kd, st, va, up, nN, nA, nK, nS, nV) := qc_mk hW hWH hS hXH hC hYH
  rcases qc_ix v1 (n := 4) (by decide) with h1 | ⟨n, hn, rfl⟩
  · unfold wpX_flush wpY_flush
    exact xs_badP (c := 4) (by decide) h1 (br_f (by decide) (ys_am0 (c := 4) h1 (br_t rfl ⟨rfl, hr⟩)))
  · by_cases h0 : up n = 0
    · unfold wpX_flush wpY_flush
      dsimp only
      refine xs_bad0 (c := 4) hn (by decide) (br_t rfl ?_)
      rw [qc_cl (n := n) (by omega)]
      exact ⟨qc_in hn (by decide), br_t h0 (ys_am1 (c := 4) hn (by decide) (br_f (by decide) ⟨qc_in hn (by decide), br_t h0 ⟨rfl, hr⟩⟩))⟩
    · refine xs_flush hn h0 hS (fun fk1 fs1 fv1 mk1 mc1 gk1 gs1 gv1 rk1 rs1 rv1 rd1 re1 rr1 rf1 hS1 => ?_)
      refine ys_flush hn h0 hC hW (fun kd1 st1 va1 hC1 => ?_)
      exact ⟨rfl, qc_mk (qc_WF_fl hW hn) hWH hS1 hXH hC1 hYH⟩
theorem i_vc_compact {k : Nat} {u : SX} {v : SY} (I : i_Rel k u v) (hk : k + 5 ≤ 2561) (v1 : Int32) (v2 : Int32) : wpX_compact (fun r u' => wpY_compact (fun r' v' => r' = r ∧ i_Rel (k + 5) u' v') v v1 v2) u v1 v2 := by
  refine qc_el (P := fun u v => wpX_compact (fun r u' => wpY_compact (fun r' v' => r' = r ∧ i_Rel (k + 5) u' v') v v1 v2) u v1 v2) I ?_
  intro G H kh fk fs fv zf zc up mk ms mv mc rk rs rv rd re rf rr gk gs gv ag qN qK qD qS qV yd kd st va nN nA nK nS nV hW hWH hS hXH hC hYH
  have hr : i_Rel (k + 5) (kh, fk, fs, fv, zf, zc, up, mk, ms, mv, mc, rk, rs, rv, rd, re, rf, rr, gk, gs, gv, ag, qN, qK, qD, qS, qV) (kh, yd, kd, st, va, up, nN, nA, nK, nS, nV) := qc_mk hW hWH hS hXH hC hYH
  rcases qc_ix v1 (n := 4) (by decide) with h1 | ⟨n, hn, rfl⟩
  · unfold wpX_compact wpY_compact
    exact xs_badP (c := 4) (by decide) h1 (br_f (by decide) (ys_am0 (c := 4) h1 (br_t rfl ⟨rfl, hr⟩)))
  · by_cases h0 : up n = 0
    · unfold wpX_compact wpY_compact
      dsimp only
      refine xs_bad0 (c := 4) hn (by decide) (br_t rfl ?_)
      rw [qc_cl (n := n) (by omega)]
      exact ⟨qc_in hn (by decide), br_t h0 (ys_am1 (c := 4) hn (by decide) (br_f (by decide) ⟨qc_in hn (by decide), br_t h0 ⟨rfl, hr⟩⟩))⟩
    · refine xs_compact hn h0 hS (fun fk1 fs1 fv1 mk1 mc1 gk1 gs1 gv1 rk1 rs1 rv1 rd1 re1 rr1 ag1 rf1 hS1 => ?_)
      refine ys_compact hn h0 hC hW (fun kd1 st1 va1 hC1 => ?_)
      exact ⟨rfl, qc_mk (qc_WF_cm hW hn) hWH hS1 hXH hC1 hYH⟩
theorem i_vc_repair {k : Nat} {u : SX} {v : SY} (I : i_Rel k u v) (hk : k + 5 ≤ 2561) (v1 : Int32) (v2 : Int32) : wpX_repair (fun r u' => wpY_repair (fun r' v' => r' = r ∧ i_Rel (k + 5) u' v') v v1 v2) u v1 v2 := by
  refine qc_el (P := fun u v => wpX_repair (fun r u' => wpY_repair (fun r' v' => r' = r ∧ i_Rel (k + 5) u' v') v v1 v2) u v1 v2) I ?_
  intro G H kh fk fs fv zf zc up mk ms mv mc rk rs rv rd re rf rr gk gs gv ag qN qK qD qS qV yd kd st va nN nA nK nS nV hW hWH hS hXH hC hYH
  have hr : i_Rel (k + 5) (kh, fk, fs, fv, zf, zc, up, mk, ms, mv, mc, rk, rs, rv, rd, re, rf, rr, gk, gs, gv, ag, qN, qK, qD, qS, qV) (kh, yd, kd, st, va, up, nN, nA, nK, nS, nV) := qc_mk hW hWH hS hXH hC hYH
  rcases qc_ix v1 (n := 4) (by decide) with h1 | ⟨a, ha, rfl⟩
  · unfold wpX_repair wpY_repair
    exact xs_badP (c := 4) (by decide) h1 (br_f (by decide) (ys_am0 (c := 4) h1 (br_t rfl ⟨rfl, hr⟩)))
  · rcases qc_ix v2 (n := 4) (by decide) with h1 | ⟨b, hb, rfl⟩
    · unfold wpX_repair wpY_repair
      exact xs_bad0 (c := 4) ha (by decide) (br_t rfl (xs_badP (c := 4) (by decide) h1 (br_f (by decide) (ys_am1 (c := 4) ha (by decide) (br_f (by decide) (ys_am0 (c := 4) h1 (br_t rfl ⟨rfl, hr⟩)))))))
    · by_cases hab : a = b
      · subst hab
        unfold wpX_repair wpY_repair
        exact xs_bad0 (c := 4) ha (by decide) (br_t rfl (xs_bad0 (c := 4) hb (by decide) (br_t rfl (br_t rfl (ys_am1 (c := 4) ha (by decide) (br_f (by decide) (ys_am1 (c := 4) hb (by decide) (br_f (by decide) (br_t rfl ⟨rfl, hr⟩)))))))))
      · have hne : ¬ nI a = nI b := fun z => hab ((nI_eq (by omega) (by omega)).mp z)
        by_cases hua : up a = 0
        · unfold wpX_repair wpY_repair
          dsimp only
          rw [qc_cl (n := a) (by omega), qc_cl (n := b) (by omega)]
          exact xs_bad0 (c := 4) ha (by decide) (br_t rfl (xs_bad0 (c := 4) hb (by decide) (br_t rfl (br_f hne ⟨qc_in ha (by decide), br_t hua (ys_am1 (c := 4) ha (by decide) (br_f (by decide) (ys_am1 (c := 4) hb (by decide) (br_f (by decide) (br_f hne ⟨qc_in ha (by decide), br_t hua ⟨rfl, hr⟩⟩)))))⟩))))
        · by_cases hub : up b = 0
          · unfold wpX_repair wpY_repair
            dsimp only
            rw [qc_cl (n := a) (by omega), qc_cl (n := b) (by omega)]
            exact xs_bad0 (c := 4) ha (by decide) (br_t rfl (xs_bad0 (c := 4) hb (by decide) (br_t rfl (br_f hne ⟨qc_in ha (by decide), br_f hua ⟨qc_in hb (by decide), br_t hub (ys_am1 (c := 4) ha (by decide) (br_f (by decide) (ys_am1 (c := 4) hb (by decide) (br_f (by decide) (br_f hne ⟨qc_in ha (by decide), br_f hua ⟨qc_in hb (by decide), br_t hub ⟨rfl, hr⟩⟩⟩)))))⟩⟩))))
          · refine xs_repair ha hb hab hua hub hS (fun fk1 fs1 fv1 mk1 ms1 mv1 mc1 ag1 hS1 => ?_)
            refine ys_repair ha hb hab hua hub hC hW (fun kd1 st1 va1 hC1 => ?_)
            exact ⟨rfl, qc_mk (qc_WF_rp hW ha hb) hWH hS1 hXH hC1 hYH⟩
theorem i_vc_isUp {k : Nat} {u : SX} {v : SY} (I : i_Rel k u v) (hk : k + 5 ≤ 2561) (v1 : Int32) : wpX_isUp (fun r => wpY_isUp (fun r' => r' = r ∧ i_Rel (k + 5) u v) v v1) u v1 := by
  refine qc_el (P := fun u v => wpX_isUp (fun r => wpY_isUp (fun r' => r' = r ∧ i_Rel (k + 5) u v) v v1) u v1) I ?_
  intro G H kh fk fs fv zf zc up mk ms mv mc rk rs rv rd re rf rr gk gs gv ag qN qK qD qS qV yd kd st va nN nA nK nS nV hW hWH hS hXH hC hYH
  have hr : i_Rel (k + 5) (kh, fk, fs, fv, zf, zc, up, mk, ms, mv, mc, rk, rs, rv, rd, re, rf, rr, gk, gs, gv, ag, qN, qK, qD, qS, qV) (kh, yd, kd, st, va, up, nN, nA, nK, nS, nV) := qc_mk hW hWH hS hXH hC hYH
  unfold wpX_isUp wpY_isUp
  dsimp only
  rcases qc_ix v1 (n := 4) (by decide) with h1 | ⟨n, hn, rfl⟩
  · exact xs_badP (c := 4) (by decide) h1 (br_f (by decide) (ys_am0 (c := 4) h1 (br_t rfl ⟨rfl, hr⟩)))
  · rw [qc_cl (n := n) (by omega)]
    refine xs_bad0 (c := 4) hn (by decide) (br_t rfl ⟨qc_in hn (by decide), br_c (fun h0 => ?_) (fun h0 => ?_)⟩)
    · exact ys_am1 (c := 4) hn (by decide) (br_f (by decide) ⟨qc_in hn (by decide), br_t h0 ⟨rfl, hr⟩⟩)
    · exact ys_am1 (c := 4) hn (by decide) (br_f (by decide) ⟨qc_in hn (by decide), br_f h0 ⟨rfl, hr⟩⟩)
theorem i_vc_local {k : Nat} {u : SX} {v : SY} (I : i_Rel k u v) (hk : k + 5 ≤ 2561) (v1 : Int32) (v2 : Int32) : wpX_local (fun r u' => wpY_local (fun r' => r' = r ∧ i_Rel (k + 5) u' v) v v1 v2) u v1 v2 := by
  refine qc_el (P := fun u v => wpX_local (fun r u' => wpY_local (fun r' => r' = r ∧ i_Rel (k + 5) u' v) v v1 v2) u v1 v2) I ?_
  intro G H kh fk fs fv zf zc up mk ms mv mc rk rs rv rd re rf rr gk gs gv ag qN qK qD qS qV yd kd st va nN nA nK nS nV hW hWH hS hXH hC hYH
  have hr : ∀ fk fs fv : Int32, i_Rel (k + 5) (kh, fk, fs, fv, zf, zc, up, mk, ms, mv, mc, rk, rs, rv, rd, re, rf, rr, gk, gs, gv, ag, qN, qK, qD, qS, qV) (kh, yd, kd, st, va, up, nN, nA, nK, nS, nV) := fun _ _ _ => qc_mk hW hWH hS hXH hC hYH
  rcases qc_ix v1 (n := 4) (by decide) with h1 | ⟨n, hn, rfl⟩
  · unfold wpX_local wpY_local
    exact xs_badP (c := 4) (by decide) h1 (br_f (by decide) (ys_am0 (c := 4) h1 (br_t rfl ⟨rfl, hr _ _ _⟩)))
  · rcases qc_ix v2 (n := 64) (by decide) with h2 | ⟨pl, hpl, rfl⟩
    · unfold wpX_local wpY_local
      exact xs_bad0 (c := 4) hn (by decide) (br_t rfl (xs_badP (c := 64) (by decide) h2 (br_f (by decide) (ys_am1 (c := 4) hn (by decide) (br_f (by decide) (ys_am0 (c := 64) h2 (br_t rfl ⟨rfl, hr _ _ _⟩)))))))
    · exact xs_lcl hn hpl hS (fun a b c => ys_lcl hn hpl hC hW ⟨rfl, hr a b c⟩)
theorem i_vc_stamp {k : Nat} {u : SX} {v : SY} (I : i_Rel k u v) (hk : k + 5 ≤ 2561) (v1 : Int32) (v2 : Int32) : wpX_stamp (fun r u' => wpY_stamp (fun r' => r' = r ∧ i_Rel (k + 5) u' v) v v1 v2) u v1 v2 := by
  refine qc_el (P := fun u v => wpX_stamp (fun r u' => wpY_stamp (fun r' => r' = r ∧ i_Rel (k + 5) u' v) v v1 v2) u v1 v2) I ?_
  intro G H kh fk fs fv zf zc up mk ms mv mc rk rs rv rd re rf rr gk gs gv ag qN qK qD qS qV yd kd st va nN nA nK nS nV hW hWH hS hXH hC hYH
  have hr : ∀ fk fs fv : Int32, i_Rel (k + 5) (kh, fk, fs, fv, zf, zc, up, mk, ms, mv, mc, rk, rs, rv, rd, re, rf, rr, gk, gs, gv, ag, qN, qK, qD, qS, qV) (kh, yd, kd, st, va, up, nN, nA, nK, nS, nV) := fun _ _ _ => qc_mk hW hWH hS hXH hC hYH
  unfold wpX_stamp wpY_stamp
  dsimp only
  rcases qc_ix v1 (n := 4) (by decide) with h1 | ⟨n, hn, rfl⟩
  · exact xs_badP (c := 4) (by decide) h1 (br_f (by decide) (ys_am0 (c := 4) h1 (br_t rfl ⟨rfl, hr _ _ _⟩)))
  · rcases qc_ix v2 (n := 64) (by decide) with h2 | ⟨pl, hpl, rfl⟩
    · exact xs_bad0 (c := 4) hn (by decide) (br_t rfl (xs_badP (c := 64) (by decide) h2 (br_f (by decide) (ys_am1 (c := 4) hn (by decide) (br_f (by decide) (ys_am0 (c := 64) h2 (br_t rfl ⟨rfl, hr _ _ _⟩)))))))
    · refine xs_bad0 (c := 4) hn (by decide) (br_t rfl (xs_bad0 (c := 64) hpl (by decide) (br_t rfl ?_)))
      rw [qc_72r]
      exact xs_stampOf hn (by omega) hS (fun a b c => ys_am1 (c := 4) hn (by decide) (br_f (by decide) (ys_am1 (c := 64) hpl (by decide) (br_f (by decide) (ys_stampAt hn (by omega) hC hW ⟨rfl, hr a b c⟩)))))
theorem i_vc_wiped {k : Nat} {u : SX} {v : SY} (I : i_Rel k u v) (hk : k + 5 ≤ 2561) (v1 : Int32) (v2 : Int32) : wpX_wiped (fun r u' => wpY_wiped (fun r' => r' = r ∧ i_Rel (k + 5) u' v) v v1 v2) u v1 v2 := by
  refine qc_el (P := fun u v => wpX_wiped (fun r u' => wpY_wiped (fun r' => r' = r ∧ i_Rel (k + 5) u' v) v v1 v2) u v1 v2) I ?_
  intro G H kh fk fs fv zf zc up mk ms mv mc rk rs rv rd re rf rr gk gs gv ag qN qK qD qS qV yd kd st va nN nA nK nS nV hW hWH hS hXH hC hYH
  have hr : ∀ fk fs fv : Int32, i_Rel (k + 5) (kh, fk, fs, fv, zf, zc, up, mk, ms, mv, mc, rk, rs, rv, rd, re, rf, rr, gk, gs, gv, ag, qN, qK, qD, qS, qV) (kh, yd, kd, st, va, up, nN, nA, nK, nS, nV) := fun _ _ _ => qc_mk hW hWH hS hXH hC hYH
  unfold wpX_wiped wpY_wiped
  dsimp only
  rcases qc_ix v1 (n := 4) (by decide) with h1 | ⟨n, hn, rfl⟩
  · exact xs_badP (c := 4) (by decide) h1 (br_f (by decide) (ys_am0 (c := 4) h1 (br_t rfl ⟨rfl, hr _ _ _⟩)))
  · rcases qc_ix v2 (n := 8) (by decide) with h2 | ⟨p, hp8, rfl⟩
    · exact xs_bad0 (c := 4) hn (by decide) (br_t rfl (xs_badP (c := 8) (by decide) h2 (br_f (by decide) (ys_am1 (c := 4) hn (by decide) (br_f (by decide) (ys_am0 (c := 8) h2 (br_t rfl ⟨rfl, hr _ _ _⟩)))))))
    · have e64 : nI n * 72 + 64 + nI p = nI (72 * n + (64 + p)) := by
        rw [show nI n * 72 + 64 = nI (72 * n + 64) from qc_72r n 64, nI_add, Nat.add_assoc]
      refine xs_bad0 (c := 4) hn (by decide) (br_t rfl (xs_bad0 (c := 8) hp8 (by decide) (br_t rfl ?_)))
      rw [e64, qc_64]
      exact xs_stampOf hn (by omega) hS (fun a b c => ys_am1 (c := 4) hn (by decide) (br_f (by decide) (ys_am1 (c := 8) hp8 (by decide) (br_f (by decide) (ys_stampAt hn (by omega) hC hW ⟨rfl, hr a b c⟩)))))
theorem i_vc_hints {k : Nat} {u : SX} {v : SY} (I : i_Rel k u v) (hk : k + 5 ≤ 2561) : wpX_hints (fun r => wpY_hints (fun r' => r' = r ∧ i_Rel (k + 5) u v) v) u := by
  refine qc_el (P := fun u v => wpX_hints (fun r => wpY_hints (fun r' => r' = r ∧ i_Rel (k + 5) u v) v) u) I ?_
  intro G H kh fk fs fv zf zc up mk ms mv mc rk rs rv rd re rf rr gk gs gv ag qN qK qD qS qV yd kd st va nN nA nK nS nV hW hWH hS hXH hC hYH
  have hr : i_Rel (k + 5) (kh, fk, fs, fv, zf, zc, up, mk, ms, mv, mc, rk, rs, rv, rd, re, rf, rr, gk, gs, gv, ag, qN, qK, qD, qS, qV) (kh, yd, kd, st, va, up, nN, nA, nK, nS, nV) := qc_mk hW hWH hS hXH hC hYH
  obtain ⟨f, h1, h2, h3, h4, h5⟩ := hXH
  exact ⟨hYH.1.trans h3.symm, hr⟩
end
