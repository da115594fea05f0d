section
/-! pure rows to paste: stores, nI and lN arithmetic, masks, shifts, narrowing, branches by naturals (pk_le, pk_lt, pk_eq), loops (lp1 .. lp16: the measure of the state; rp1 ..: recursion), negatives. Take what you need -/
theorem pk_us {f : Nat → Int32} {k : Nat} {x : Int32} : upd f k x k = x := if_pos rfl
theorem pk_un {f : Nat → Int32} {k j : Nat} {x : Int32} (h : j ≠ k) : upd f k x j = f j := if_neg h
theorem pk_uLs {f : Nat → Int64} {k : Nat} {x : Int64} : vp_updL f k x k = x := if_pos rfl
theorem pk_uLn {f : Nat → Int64} {k j : Nat} {x : Int64} (h : j ≠ k) : vp_updL f k x j = f j := if_neg h
theorem pk_sub {a b : Nat} (h : b ≤ a) : nI a - nI b = nI (a - b) := by
  obtain ⟨c, rfl⟩ : ∃ c, a = c + b := ⟨a - b, by omega⟩
  rw [← nI_add, Int32.add_sub_cancel, Nat.add_sub_cancel]
theorem pk_m1 (n : Nat) : nI (n + 1) + (-1) = nI n := by
  rw [← nI_1, Int32.add_assoc, show (1 : Int32) + (-1) = 0 from rfl, Int32.add_zero]
theorem pk_mul (a b : Nat) : nI a * nI b = nI (a * b) := (Int32.ofNat_mul a b).symm
theorem pk_div {a d : Nat} (ha : a < 2 ^ 31) (h0 : 0 < d) (hd : d < 2 ^ 31) : nI a / nI d = nI (a / d) := by
  apply Int32.toInt_inj.mp
  rw [lg_idiv_nonneg (by rw [nI_toInt ha]; omega) (by rw [nI_toInt hd]; omega), nI_toInt ha, nI_toInt hd, nI_toInt (Nat.lt_of_le_of_lt (Nat.div_le_self a d) ha)]
  first | rfl | exact (Int.natCast_ediv _ _).symm
theorem pk_rem {a d : Nat} (ha : a < 2 ^ 31) (h0 : 0 < d) (hd : d < 2 ^ 31) : nI a - nI a / nI d * nI d = nI (a % d) := by
  rw [pk_div ha h0 hd, pk_mul, pk_sub (Nat.div_mul_le_self a d)]
  exact congrArg nI (by have := Nat.div_add_mod' a d; omega)
theorem pk_sub_toInt {a b : Nat} (ha : a < 2 ^ 30) (hb : b < 2 ^ 30) : (nI a - nI b).toInt = (a : Int) - b := by
  rw [Int32.toInt_sub, nI_toInt (by omega), nI_toInt (by omega)]
  exact Int.bmod_eq_of_le (by omega) (by omega)
theorem pk_sneg {a b : Nat} (hb : b < 2 ^ 30) (h : a < b) : nI a - nI b < 0 := by
  rw [Int32.lt_iff_toInt_lt, pk_sub_toInt (by omega) hb, show (0 : Int32).toInt = 0 from by decide]
  omega
theorem pk_ix (x : Int32) {n : Nat} (hn : n < 2 ^ 31) : x < 0 ∨ nI n ≤ x ∨ ∃ j : Nat, j < n ∧ x = nI j := by
  by_cases h : x < 0
  · exact Or.inl h
  · obtain ⟨j, hj, rfl⟩ := nI_of h
    by_cases h2 : j < n
    · exact Or.inr (Or.inr ⟨j, h2, rfl⟩)
    · exact Or.inr (Or.inl (nI_le (by omega) hj))
theorem pk_le {x y : Int32} {A B : Prop} (a b : Nat) (f : a ≤ b → A) (g : b < a → B) (hx : x = nI a := by rfl) (hy : y = nI b := by rfl) (ha : a < 2 ^ 31 := by omega) (hb : b < 2 ^ 31 := by omega) : (x ≤ y → A) ∧ (¬ x ≤ y → B) := by
  subst hx hy
  rw [nI_leI ha hb]
  exact ⟨f, fun z => g (by omega)⟩
theorem pk_lt {x y : Int32} {A B : Prop} (a b : Nat) (f : a < b → A) (g : b ≤ a → B) (hx : x = nI a := by rfl) (hy : y = nI b := by rfl) (ha : a < 2 ^ 31 := by omega) (hb : b < 2 ^ 31 := by omega) : (x < y → A) ∧ (¬ x < y → B) := by
  subst hx hy
  rw [nI_ltI ha hb]
  exact ⟨f, fun z => g (by omega)⟩
theorem pk_eq {x y : Int32} {A B : Prop} (a b : Nat) (f : a = b → A) (g : a ≠ b → B) (hx : x = nI a := by rfl) (hy : y = nI b := by rfl) (ha : a < 2 ^ 31 := by omega) (hb : b < 2 ^ 31 := by omega) : (x = y → A) ∧ (¬ x = y → B) := by
  subst hx hy
  rw [nI_eq ha hb]
  exact ⟨f, g⟩
theorem pk_in {x : Int32} (n N : Nat) (h : n < N) (hx : x = nI n := by rfl) (hN : N < 2 ^ 31 := by omega) : vp_in x N := by
  subst hx
  exact vp_in_nI h hN
theorem pk_cl {x : Int32} (n : Nat) (hx : x = nI n := by rfl) (h : n < 2 ^ 31 := by omega) : x.toNatClampNeg = n := by
  subst hx
  exact nI_clamp h
theorem pk_tn {n : Nat} (h : n < 2 ^ 32) : (nI n).toBitVec.toNat = n := Nat.mod_eq_of_lt h
theorem pk_and (x : Int32) {m : Int32} (k : Nat) (hm : m.toBitVec.toNat = 2 ^ k - 1) : x &&& m = nI (x.toBitVec.toNat % 2 ^ k) := by
  apply Int32.toBitVec_inj.mp
  apply BitVec.eq_of_toNat_eq
  rw [Int32.toBitVec_and, BitVec.toNat_and, hm, Nat.and_two_pow_sub_one_eq_mod]
  show _ = (BitVec.ofNat 32 _).toNat
  rw [BitVec.toNat_ofNat]
  exact (Nat.mod_eq_of_lt (Nat.lt_of_le_of_lt (Nat.mod_le _ _) x.toBitVec.isLt)).symm
theorem pk_andN {n : Nat} (h : n < 2 ^ 32) {m : Int32} (k : Nat) (hm : m.toBitVec.toNat = 2 ^ k - 1) : nI n &&& m = nI (n % 2 ^ k) := by
  rw [pk_and _ k hm, pk_tn h]
theorem pk_andE (x : Int32) {m : Int32} (k : Nat) (hm : m.toBitVec.toNat = 2 ^ k - 1) : ∃ j : Nat, j < 2 ^ k ∧ x &&& m = nI j := ⟨_, Nat.mod_lt _ (Nat.two_pow_pos k), pk_and x k hm⟩
theorem pk_andIn (x : Int32) {m : Int32} (k : Nat) (hm : m.toBitVec.toNat = 2 ^ k - 1) (hk : k ≤ 30) : vp_in (x &&& m) (2 ^ k) := by
  obtain ⟨j, hj, e⟩ := pk_andE x k hm
  rw [e]
  exact vp_in_nI hj (Nat.lt_of_le_of_lt (Nat.pow_le_pow_right (by decide) hk) (by decide))
theorem pk_shl (a s : Int32) (k : Nat) (hs : (s.toBitVec.smod 32).toNat = k) : (a <<< s).toBitVec.toNat = a.toBitVec.toNat * 2 ^ k % 2 ^ 32 := by
  show (a.toBitVec <<< (s.toBitVec.smod 32).toNat).toNat = _
  rw [hs, BitVec.toNat_shiftLeft, Nat.shiftLeft_eq]
theorem pk_shlN {n : Nat} (s : Int32) (k : Nat) (hs : (s.toBitVec.smod 32).toNat = k) (h : n * 2 ^ k < 2 ^ 32) : nI n <<< s = nI (n * 2 ^ k) := by
  apply Int32.toBitVec_inj.mp
  apply BitVec.eq_of_toNat_eq
  have hn : n < 2 ^ 32 := Nat.lt_of_le_of_lt (Nat.le_mul_of_pos_right n (Nat.two_pow_pos k)) h
  rw [pk_shl _ _ k hs, pk_tn hn, pk_tn h, Nat.mod_eq_of_lt h]
theorem pk_shr (a s : Int32) (k : Nat) (hs : (s.toBitVec.smod 32).toNat = k) : (a >>> s).toInt = a.toInt >>> k := by
  show (a.toBitVec.sshiftRight (s.toBitVec.smod 32).toNat).toInt = _
  rw [hs, BitVec.toInt_sshiftRight]
  rfl
theorem pk_shrN {n : Nat} (h : n < 2 ^ 31) (s : Int32) (k : Nat) (hs : (s.toBitVec.smod 32).toNat = k) : nI n >>> s = nI (n / 2 ^ k) := by
  apply Int32.toInt_inj.mp
  have h2 : n / 2 ^ k ≤ n := Nat.div_le_self _ _
  rw [pk_shr _ _ k hs, nI_toInt h, nI_toInt (by omega), Int.shiftRight_eq_div_pow]
  rfl
theorem pk_ushr (x s : Int32) (k : Nat) (hs : ((s.toUInt32 &&& Int32.toUInt32 31).toBitVec % 32).toNat = k) : (x.toUInt32 >>> (s.toUInt32 &&& Int32.toUInt32 31)).toInt32.toBitVec.toNat = x.toBitVec.toNat / 2 ^ k := by
  have e : (x.toUInt32 >>> (s.toUInt32 &&& Int32.toUInt32 31)).toInt32.toBitVec = x.toBitVec >>> k := by
    rw [← hs]
    exact UInt32.toBitVec_shiftRight _ _
  rw [e, BitVec.toNat_ushiftRight, Nat.shiftRight_eq_div_pow]
theorem pk_ushrN {n : Nat} (hn : n < 2 ^ 32) (s : Int32) (k : Nat) (hs : ((s.toUInt32 &&& Int32.toUInt32 31).toBitVec % 32).toNat = k) : ((nI n).toUInt32 >>> (s.toUInt32 &&& Int32.toUInt32 31)).toInt32 = nI (n / 2 ^ k) := by
  apply Int32.toBitVec_inj.mp
  apply BitVec.eq_of_toNat_eq
  rw [pk_ushr _ s k hs, pk_tn hn, pk_tn (Nat.lt_of_le_of_lt (Nat.div_le_self _ _) hn)]
theorem pk_nb (z : Int32) : narrow .byte (.int z.toInt8.toInt32) = .int z.toInt8.toInt32 := congrArg Value.int (by simp)
theorem pk_ns (z : Int32) : narrow .short (.int z.toInt16.toInt32) = .int z.toInt16.toInt32 := congrArg Value.int (by simp)
theorem pk_fb (r : Int32) : fits .byte (.int r.toInt8.toInt32) = true := by
  have ⟨a, b⟩ := lg_i2b_range r
  have h1 : (-128 : Int32).toInt = -128 := by decide
  have h2 : (127 : Int32).toInt = 127 := by decide
  simp only [fits, Bool.and_eq_true, decide_eq_true_eq, Int32.le_iff_toInt_le, h1, h2]
  omega
theorem pk_fs (r : Int32) : fits .short (.int r.toInt16.toInt32) = true := by
  have ⟨a, b⟩ := lg_i2s_range r
  have h1 : (-32768 : Int32).toInt = -32768 := by decide
  have h2 : (32767 : Int32).toInt = 32767 := by decide
  simp only [fits, Bool.and_eq_true, decide_eq_true_eq, Int32.le_iff_toInt_le, h1, h2]
  omega
theorem pk_charN {q : Nat} (hq : q < 65536) : narrow .char (.int (nI q)) = .int (nI q) ∧ fits .char (.int (nI q)) = true := by
  constructor
  · have e : (nI q).toUInt32.toUInt16.toUInt32.toInt32 = nI q := by
      apply Int32.toBitVec_inj.mp
      apply BitVec.eq_of_toNat_eq
      show (nI q).toUInt32.toUInt16.toUInt32.toNat = q % 2 ^ 32
      rw [UInt16.toNat_toUInt32, UInt32.toNat_toUInt16, show (nI q).toUInt32.toNat = q % 2 ^ 32 from rfl]
      omega
    exact congrArg Value.int e
  · have a : (0 : Int32) ≤ nI q := nI_pos' (by omega)
    have b : nI q ≤ 65535 := nI_le (b := 65535) (by omega) (by decide)
    show (decide ((0 : Int32) ≤ nI q) && decide (nI q ≤ 65535)) = true
    rw [decide_eq_true a, decide_eq_true b]
    rfl
theorem pk_char (x : Int32) : (x.toUInt32 % 65536).toInt32 = nI (x.toBitVec.toNat % 65536) := by
  apply Int32.toBitVec_inj.mp
  apply BitVec.eq_of_toNat_eq
  rw [pk_tn (by omega)]
  show (x.toUInt32 % 65536).toNat = _
  rw [UInt32.toNat_mod]
  rfl
theorem pk_nc (x : Int32) : narrow .char (.int (x.toUInt32 % 65536).toInt32) = .int (x.toUInt32 % 65536).toInt32 := by
  rw [pk_char]
  exact (pk_charN (Nat.mod_lt _ (by decide))).1
theorem pk_fc (x : Int32) : fits .char (.int (x.toUInt32 % 65536).toInt32) = true := by
  rw [pk_char]
  exact (pk_charN (Nat.mod_lt _ (by decide))).2
theorem pk_vb (z : Int32) : vp_nar .byte z.toInt8.toInt32 = z.toInt8.toInt32 := by rw [vp_nar_byte]; simp
theorem pk_vs (z : Int32) : vp_nar .short z.toInt16.toInt32 = z.toInt16.toInt32 := by rw [vp_nar_short]; simp
theorem pk_vc (z : Int32) : vp_nar .char (z.toUInt32 % 65536).toInt32 = (z.toUInt32 % 65536).toInt32 := Value.int.inj (pk_nc z)
theorem pk_lT {n : Nat} (h : n < 2 ^ 63) : (lN n).toInt = (n : Int) := lg_ofNat_toInt h
theorem pk_lLT {a b : Nat} (ha : a < 2 ^ 63) (hb : b < 2 ^ 63) : lN a < lN b ↔ a < b := by
  rw [Int64.lt_iff_toInt_lt, pk_lT ha, pk_lT hb]; omega
theorem pk_lLE {a b : Nat} (ha : a < 2 ^ 63) (hb : b < 2 ^ 63) : lN a ≤ lN b ↔ a ≤ b := by
  rw [Int64.le_iff_toInt_le, pk_lT ha, pk_lT hb]; omega
theorem pk_lEQ {a b : Nat} (ha : a < 2 ^ 63) (hb : b < 2 ^ 63) : lN a = lN b ↔ a = b := by
  rw [← Int64.toInt_inj, pk_lT ha, pk_lT hb]; omega
theorem pk_lOf {x : Int64} (h : ¬ x < 0) : ∃ k : Nat, k < 2 ^ 63 ∧ x = lN k := by
  rw [Int64.lt_iff_toInt_lt] at h
  have h0 : (0 : Int64).toInt = 0 := by decide
  have hx := Int64.toInt_lt x
  refine ⟨x.toInt.toNat, by omega, Int64.toInt_inj.mp ?_⟩
  rw [pk_lT (by omega)]
  omega
theorem pk_lDiv {a b : Nat} (ha : a < 2 ^ 63) (h0 : 0 < b) (hb : b < 2 ^ 63) : lN a / lN b = lN (a / b) := by
  apply Int64.toInt_inj.mp
  rw [lg_ldiv_nonneg (by rw [pk_lT ha]; omega) (by rw [pk_lT hb]; omega), pk_lT ha, pk_lT hb, pk_lT (Nat.lt_of_le_of_lt (Nat.div_le_self a b) ha)]
  rfl
theorem pk_lRem {a b : Nat} (ha : a < 2 ^ 63) (h0 : 0 < b) (hb : b < 2 ^ 63) : lN a - lN a / lN b * lN b = lN (a % b) := by
  rw [pk_lDiv ha h0 hb, lN_mul, lN_sub (Nat.div_mul_le_self a b)]
  exact congrArg lN (by have := Nat.div_add_mod' a b; omega)
theorem pk_loop {σ : Type} (W : Nat → Nat → σ → Prop) (I : Nat → σ → Prop) (e i0 : Nat) (s : σ) (hi : i0 ≤ e) (h0 : I i0 s) (hx : ∀ n s, I e s → W (n + 1) e s)
    (hs : ∀ n i s, i < e → I i s → (∀ s', I (i + 1) s' → W n (i + 1) s') → W (n + 1) i s) : ∃ n, W n i0 s :=
  ⟨e + 1, loop_i W I e hx hs (e + 1) i0 s hi (by omega) h0⟩
theorem pk_loopD {σ : Type} (W : Nat → Nat → σ → Prop) (I : Nat → σ → Prop) (hx : ∀ n s, I 0 s → W (n + 1) 0 s)
    (hs : ∀ n i s, I (i + 1) s → (∀ s', I i s' → W n i s') → W (n + 1) (i + 1) s) : ∀ (e : Nat) (s : σ), I e s → W (e + 1) e s := by
  intro e
  induction e with
  | zero => exact fun s h => hx 0 s h
  | succ e ih => exact fun s h => hs (e + 1) e s h (fun s' h' => ih s' h')
theorem lp1 {A1 : Type} (W : Nat → A1 → Prop) (I : A1 → Prop) (μ : A1 → Nat) (hs : ∀ (n : Nat) (a1 : A1), I a1 → (∀ (b1 : A1), I b1 → μ b1 < μ a1 → W n b1) → W (n + 1) a1) (a1 : A1) (h : I a1) : ∃ n, W n a1 :=
  loop_m (σ := A1) (fun n s => W n s) (fun s => I s) (fun s => μ s) (fun n s hI hk => hs n s hI (fun b1 h9 hm => hk b1 h9 hm)) a1 h
theorem lp2 {A1 A2 : Type} (W : Nat → A1 → A2 → Prop) (I : A1 → A2 → Prop) (μ : A1 → A2 → Nat) (hs : ∀ (n : Nat) (a1 : A1) (a2 : A2), I a1 a2 → (∀ (b1 : A1) (b2 : A2), I b1 b2 → μ b1 b2 < μ a1 a2 → W n b1 b2) → W (n + 1) a1 a2) (a1 : A1) (a2 : A2) (h : I a1 a2) : ∃ n, W n a1 a2 :=
  loop_m (σ := A1 × A2) (fun n s => W n s.1 s.2) (fun s => I s.1 s.2) (fun s => μ s.1 s.2) (fun n s hI hk => hs n s.1 s.2 hI (fun b1 b2 h9 hm => hk (b1, b2) h9 hm)) (a1, a2) h
theorem lp3 {A1 A2 A3 : Type} (W : Nat → A1 → A2 → A3 → Prop) (I : A1 → A2 → A3 → Prop) (μ : A1 → A2 → A3 → Nat) (hs : ∀ (n : Nat) (a1 : A1) (a2 : A2) (a3 : A3), I a1 a2 a3 → (∀ (b1 : A1) (b2 : A2) (b3 : A3), I b1 b2 b3 → μ b1 b2 b3 < μ a1 a2 a3 → W n b1 b2 b3) → W (n + 1) a1 a2 a3) (a1 : A1) (a2 : A2) (a3 : A3) (h : I a1 a2 a3) : ∃ n, W n a1 a2 a3 :=
  loop_m (σ := A1 × A2 × A3) (fun n s => W n s.1 s.2.1 s.2.2) (fun s => I s.1 s.2.1 s.2.2) (fun s => μ s.1 s.2.1 s.2.2) (fun n s hI hk => hs n s.1 s.2.1 s.2.2 hI (fun b1 b2 b3 h9 hm => hk (b1, b2, b3) h9 hm)) (a1, a2, a3) h
theorem lp4 {A1 A2 A3 A4 : Type} (W : Nat → A1 → A2 → A3 → A4 → Prop) (I : A1 → A2 → A3 → A4 → Prop) (μ : A1 → A2 → A3 → A4 → Nat) (hs : ∀ (n : Nat) (a1 : A1) (a2 : A2) (a3 : A3) (a4 : A4), I a1 a2 a3 a4 → (∀ (b1 : A1) (b2 : A2) (b3 : A3) (b4 : A4), I b1 b2 b3 b4 → μ b1 b2 b3 b4 < μ a1 a2 a3 a4 → W n b1 b2 b3 b4) → W (n + 1) a1 a2 a3 a4) (a1 : A1) (a2 : A2) (a3 : A3) (a4 : A4) (h : I a1 a2 a3 a4) : ∃ n, W n a1 a2 a3 a4 :=
  loop_m (σ := A1 × A2 × A3 × A4) (fun n s => W n s.1 s.2.1 s.2.2.1 s.2.2.2) (fun s => I s.1 s.2.1 s.2.2.1 s.2.2.2) (fun s => μ s.1 s.2.1 s.2.2.1 s.2.2.2) (fun n s hI hk => hs n s.1 s.2.1 s.2.2.1 s.2.2.2 hI (fun b1 b2 b3 b4 h9 hm => hk (b1, b2, b3, b4) h9 hm)) (a1, a2, a3, a4) h
theorem lp5 {A1 A2 A3 A4 A5 : Type} (W : Nat → A1 → A2 → A3 → A4 → A5 → Prop) (I : A1 → A2 → A3 → A4 → A5 → Prop) (μ : A1 → A2 → A3 → A4 → A5 → Nat) (hs : ∀ (n : Nat) (a1 : A1) (a2 : A2) (a3 : A3) (a4 : A4) (a5 : A5), I a1 a2 a3 a4 a5 → (∀ (b1 : A1) (b2 : A2) (b3 : A3) (b4 : A4) (b5 : A5), I b1 b2 b3 b4 b5 → μ b1 b2 b3 b4 b5 < μ a1 a2 a3 a4 a5 → W n b1 b2 b3 b4 b5) → W (n + 1) a1 a2 a3 a4 a5) (a1 : A1) (a2 : A2) (a3 : A3) (a4 : A4) (a5 : A5) (h : I a1 a2 a3 a4 a5) : ∃ n, W n a1 a2 a3 a4 a5 :=
  loop_m (σ := A1 × A2 × A3 × A4 × A5) (fun n s => W n s.1 s.2.1 s.2.2.1 s.2.2.2.1 s.2.2.2.2) (fun s => I s.1 s.2.1 s.2.2.1 s.2.2.2.1 s.2.2.2.2) (fun s => μ s.1 s.2.1 s.2.2.1 s.2.2.2.1 s.2.2.2.2) (fun n s hI hk => hs n s.1 s.2.1 s.2.2.1 s.2.2.2.1 s.2.2.2.2 hI (fun b1 b2 b3 b4 b5 h9 hm => hk (b1, b2, b3, b4, b5) h9 hm)) (a1, a2, a3, a4, a5) h
theorem lp6 {A1 A2 A3 A4 A5 A6 : Type} (W : Nat → A1 → A2 → A3 → A4 → A5 → A6 → Prop) (I : A1 → A2 → A3 → A4 → A5 → A6 → Prop) (μ : A1 → A2 → A3 → A4 → A5 → A6 → Nat) (hs : ∀ (n : Nat) (a1 : A1) (a2 : A2) (a3 : A3) (a4 : A4) (a5 : A5) (a6 : A6), I a1 a2 a3 a4 a5 a6 → (∀ (b1 : A1) (b2 : A2) (b3 : A3) (b4 : A4) (b5 : A5) (b6 : A6), I b1 b2 b3 b4 b5 b6 → μ b1 b2 b3 b4 b5 b6 < μ a1 a2 a3 a4 a5 a6 → W n b1 b2 b3 b4 b5 b6) → W (n + 1) a1 a2 a3 a4 a5 a6) (a1 : A1) (a2 : A2) (a3 : A3) (a4 : A4) (a5 : A5) (a6 : A6) (h : I a1 a2 a3 a4 a5 a6) : ∃ n, W n a1 a2 a3 a4 a5 a6 :=
  loop_m (σ := A1 × A2 × A3 × A4 × A5 × A6) (fun n s => W n s.1 s.2.1 s.2.2.1 s.2.2.2.1 s.2.2.2.2.1 s.2.2.2.2.2) (fun s => I s.1 s.2.1 s.2.2.1 s.2.2.2.1 s.2.2.2.2.1 s.2.2.2.2.2) (fun s => μ s.1 s.2.1 s.2.2.1 s.2.2.2.1 s.2.2.2.2.1 s.2.2.2.2.2) (fun n s hI hk => hs n s.1 s.2.1 s.2.2.1 s.2.2.2.1 s.2.2.2.2.1 s.2.2.2.2.2 hI (fun b1 b2 b3 b4 b5 b6 h9 hm => hk (b1, b2, b3, b4, b5, b6) h9 hm)) (a1, a2, a3, a4, a5, a6) h
theorem lp7 {A1 A2 A3 A4 A5 A6 A7 : Type} (W : Nat → A1 → A2 → A3 → A4 → A5 → A6 → A7 → Prop) (I : A1 → A2 → A3 → A4 → A5 → A6 → A7 → Prop) (μ : A1 → A2 → A3 → A4 → A5 → A6 → A7 → Nat) (hs : ∀ (n : Nat) (a1 : A1) (a2 : A2) (a3 : A3) (a4 : A4) (a5 : A5) (a6 : A6) (a7 : A7), I a1 a2 a3 a4 a5 a6 a7 → (∀ (b1 : A1) (b2 : A2) (b3 : A3) (b4 : A4) (b5 : A5) (b6 : A6) (b7 : A7), I b1 b2 b3 b4 b5 b6 b7 → μ b1 b2 b3 b4 b5 b6 b7 < μ a1 a2 a3 a4 a5 a6 a7 → W n b1 b2 b3 b4 b5 b6 b7) → W (n + 1) a1 a2 a3 a4 a5 a6 a7) (a1 : A1) (a2 : A2) (a3 : A3) (a4 : A4) (a5 : A5) (a6 : A6) (a7 : A7) (h : I a1 a2 a3 a4 a5 a6 a7) : ∃ n, W n a1 a2 a3 a4 a5 a6 a7 :=
  loop_m (σ := A1 × A2 × A3 × A4 × A5 × A6 × A7) (fun n s => W n s.1 s.2.1 s.2.2.1 s.2.2.2.1 s.2.2.2.2.1 s.2.2.2.2.2.1 s.2.2.2.2.2.2) (fun s => I s.1 s.2.1 s.2.2.1 s.2.2.2.1 s.2.2.2.2.1 s.2.2.2.2.2.1 s.2.2.2.2.2.2) (fun s => μ s.1 s.2.1 s.2.2.1 s.2.2.2.1 s.2.2.2.2.1 s.2.2.2.2.2.1 s.2.2.2.2.2.2) (fun n s hI hk => hs n s.1 s.2.1 s.2.2.1 s.2.2.2.1 s.2.2.2.2.1 s.2.2.2.2.2.1 s.2.2.2.2.2.2 hI (fun b1 b2 b3 b4 b5 b6 b7 h9 hm => hk (b1, b2, b3, b4, b5, b6, b7) h9 hm)) (a1, a2, a3, a4, a5, a6, a7) h
theorem lp8 {A1 A2 A3 A4 A5 A6 A7 A8 : Type} (W : Nat → A1 → A2 → A3 → A4 → A5 → A6 → A7 → A8 → Prop) (I : A1 → A2 → A3 → A4 → A5 → A6 → A7 → A8 → Prop) (μ : A1 → A2 → A3 → A4 → A5 → A6 → A7 → A8 → Nat) (hs : ∀ (n : Nat) (a1 : A1) (a2 : A2) (a3 : A3) (a4 : A4) (a5 : A5) (a6 : A6) (a7 : A7) (a8 : A8), I a1 a2 a3 a4 a5 a6 a7 a8 → (∀ (b1 : A1) (b2 : A2) (b3 : A3) (b4 : A4) (b5 : A5) (b6 : A6) (b7 : A7) (b8 : A8), I b1 b2 b3 b4 b5 b6 b7 b8 → μ b1 b2 b3 b4 b5 b6 b7 b8 < μ a1 a2 a3 a4 a5 a6 a7 a8 → W n b1 b2 b3 b4 b5 b6 b7 b8) → W (n + 1) a1 a2 a3 a4 a5 a6 a7 a8) (a1 : A1) (a2 : A2) (a3 : A3) (a4 : A4) (a5 : A5) (a6 : A6) (a7 : A7) (a8 : A8) (h : I a1 a2 a3 a4 a5 a6 a7 a8) : ∃ n, W n a1 a2 a3 a4 a5 a6 a7 a8 :=
  loop_m (σ := A1 × A2 × A3 × A4 × A5 × A6 × A7 × A8) (fun n s => W n s.1 s.2.1 s.2.2.1 s.2.2.2.1 s.2.2.2.2.1 s.2.2.2.2.2.1 s.2.2.2.2.2.2.1 s.2.2.2.2.2.2.2) (fun s => I s.1 s.2.1 s.2.2.1 s.2.2.2.1 s.2.2.2.2.1 s.2.2.2.2.2.1 s.2.2.2.2.2.2.1 s.2.2.2.2.2.2.2) (fun s => μ s.1 s.2.1 s.2.2.1 s.2.2.2.1 s.2.2.2.2.1 s.2.2.2.2.2.1 s.2.2.2.2.2.2.1 s.2.2.2.2.2.2.2) (fun n s hI hk => hs n s.1 s.2.1 s.2.2.1 s.2.2.2.1 s.2.2.2.2.1 s.2.2.2.2.2.1 s.2.2.2.2.2.2.1 s.2.2.2.2.2.2.2 hI (fun b1 b2 b3 b4 b5 b6 b7 b8 h9 hm => hk (b1, b2, b3, b4, b5, b6, b7, b8) h9 hm)) (a1, a2, a3, a4, a5, a6, a7, a8) h
theorem lp9 {A1 A2 A3 A4 A5 A6 A7 A8 A9 : Type} (W : Nat → A1 → A2 → A3 → A4 → A5 → A6 → A7 → A8 → A9 → Prop) (I : A1 → A2 → A3 → A4 → A5 → A6 → A7 → A8 → A9 → Prop) (μ : A1 → A2 → A3 → A4 → A5 → A6 → A7 → A8 → A9 → Nat) (hs : ∀ (n : Nat) (a1 : A1) (a2 : A2) (a3 : A3) (a4 : A4) (a5 : A5) (a6 : A6) (a7 : A7) (a8 : A8) (a9 : A9), I a1 a2 a3 a4 a5 a6 a7 a8 a9 → (∀ (b1 : A1) (b2 : A2) (b3 : A3) (b4 : A4) (b5 : A5) (b6 : A6) (b7 : A7) (b8 : A8) (b9 : A9), I b1 b2 b3 b4 b5 b6 b7 b8 b9 → μ b1 b2 b3 b4 b5 b6 b7 b8 b9 < μ a1 a2 a3 a4 a5 a6 a7 a8 a9 → W n b1 b2 b3 b4 b5 b6 b7 b8 b9) → W (n + 1) a1 a2 a3 a4 a5 a6 a7 a8 a9) (a1 : A1) (a2 : A2) (a3 : A3) (a4 : A4) (a5 : A5) (a6 : A6) (a7 : A7) (a8 : A8) (a9 : A9) (h : I a1 a2 a3 a4 a5 a6 a7 a8 a9) : ∃ n, W n a1 a2 a3 a4 a5 a6 a7 a8 a9 :=
  loop_m (σ := A1 × A2 × A3 × A4 × A5 × A6 × A7 × A8 × A9) (fun n s => W n s.1 s.2.1 s.2.2.1 s.2.2.2.1 s.2.2.2.2.1 s.2.2.2.2.2.1 s.2.2.2.2.2.2.1 s.2.2.2.2.2.2.2.1 s.2.2.2.2.2.2.2.2) (fun s => I s.1 s.2.1 s.2.2.1 s.2.2.2.1 s.2.2.2.2.1 s.2.2.2.2.2.1 s.2.2.2.2.2.2.1 s.2.2.2.2.2.2.2.1 s.2.2.2.2.2.2.2.2) (fun s => μ s.1 s.2.1 s.2.2.1 s.2.2.2.1 s.2.2.2.2.1 s.2.2.2.2.2.1 s.2.2.2.2.2.2.1 s.2.2.2.2.2.2.2.1 s.2.2.2.2.2.2.2.2) (fun n s hI hk => hs n s.1 s.2.1 s.2.2.1 s.2.2.2.1 s.2.2.2.2.1 s.2.2.2.2.2.1 s.2.2.2.2.2.2.1 s.2.2.2.2.2.2.2.1 s.2.2.2.2.2.2.2.2 hI (fun b1 b2 b3 b4 b5 b6 b7 b8 b9 h9 hm => hk (b1, b2, b3, b4, b5, b6, b7, b8, b9) h9 hm)) (a1, a2, a3, a4, a5, a6, a7, a8, a9) h
theorem lp10 {A1 A2 A3 A4 A5 A6 A7 A8 A9 A10 : Type} (W : Nat → A1 → A2 → A3 → A4 → A5 → A6 → A7 → A8 → A9 → A10 → Prop) (I : A1 → A2 → A3 → A4 → A5 → A6 → A7 → A8 → A9 → A10 → Prop) (μ : A1 → A2 → A3 → A4 → A5 → A6 → A7 → A8 → A9 → A10 → Nat) (hs : ∀ (n : Nat) (a1 : A1) (a2 : A2) (a3 : A3) (a4 : A4) (a5 : A5) (a6 : A6) (a7 : A7) (a8 : A8) (a9 : A9) (a10 : A10), I a1 a2 a3 a4 a5 a6 a7 a8 a9 a10 → (∀ (b1 : A1) (b2 : A2) (b3 : A3) (b4 : A4) (b5 : A5) (b6 : A6) (b7 : A7) (b8 : A8) (b9 : A9) (b10 : A10), I b1 b2 b3 b4 b5 b6 b7 b8 b9 b10 → μ b1 b2 b3 b4 b5 b6 b7 b8 b9 b10 < μ a1 a2 a3 a4 a5 a6 a7 a8 a9 a10 → W n b1 b2 b3 b4 b5 b6 b7 b8 b9 b10) → W (n + 1) a1 a2 a3 a4 a5 a6 a7 a8 a9 a10) (a1 : A1) (a2 : A2) (a3 : A3) (a4 : A4) (a5 : A5) (a6 : A6) (a7 : A7) (a8 : A8) (a9 : A9) (a10 : A10) (h : I a1 a2 a3 a4 a5 a6 a7 a8 a9 a10) : ∃ n, W n a1 a2 a3 a4 a5 a6 a7 a8 a9 a10 :=
  loop_m (σ := A1 × A2 × A3 × A4 × A5 × A6 × A7 × A8 × A9 × A10) (fun n s => W n s.1 s.2.1 s.2.2.1 s.2.2.2.1 s.2.2.2.2.1 s.2.2.2.2.2.1 s.2.2.2.2.2.2.1 s.2.2.2.2.2.2.2.1 s.2.2.2.2.2.2.2.2.1 s.2.2.2.2.2.2.2.2.2) (fun s => I s.1 s.2.1 s.2.2.1 s.2.2.2.1 s.2.2.2.2.1 s.2.2.2.2.2.1 s.2.2.2.2.2.2.1 s.2.2.2.2.2.2.2.1 s.2.2.2.2.2.2.2.2.1 s.2.2.2.2.2.2.2.2.2) (fun s => μ s.1 s.2.1 s.2.2.1 s.2.2.2.1 s.2.2.2.2.1 s.2.2.2.2.2.1 s.2.2.2.2.2.2.1 s.2.2.2.2.2.2.2.1 s.2.2.2.2.2.2.2.2.1 s.2.2.2.2.2.2.2.2.2) (fun n s hI hk => hs n s.1 s.2.1 s.2.2.1 s.2.2.2.1 s.2.2.2.2.1 s.2.2.2.2.2.1 s.2.2.2.2.2.2.1 s.2.2.2.2.2.2.2.1 s.2.2.2.2.2.2.2.2.1 s.2.2.2.2.2.2.2.2.2 hI (fun b1 b2 b3 b4 b5 b6 b7 b8 b9 b10 h9 hm => hk (b1, b2, b3, b4, b5, b6, b7, b8, b9, b10) h9 hm)) (a1, a2, a3, a4, a5, a6, a7, a8, a9, a10) h
theorem lp11 {A1 A2 A3 A4 A5 A6 A7 A8 A9 A10 A11 : Type} (W : Nat → A1 → A2 → A3 → A4 → A5 → A6 → A7 → A8 → A9 → A10 → A11 → Prop) (I : A1 → A2 → A3 → A4 → A5 → A6 → A7 → A8 → A9 → A10 → A11 → Prop) (μ : A1 → A2 → A3 → A4 → A5 → A6 → A7 → A8 → A9 → A10 → A11 → Nat) (hs : ∀ (n : Nat) (a1 : A1) (a2 : A2) (a3 : A3) (a4 : A4) (a5 : A5) (a6 : A6) (a7 : A7) (a8 : A8) (a9 : A9) (a10 : A10) (a11 : A11), I a1 a2 a3 a4 a5 a6 a7 a8 a9 a10 a11 → (∀ (b1 : A1) (b2 : A2) (b3 : A3) (b4 : A4) (b5 : A5) (b6 : A6) (b7 : A7) (b8 : A8) (b9 : A9) (b10 : A10) (b11 : A11), I b1 b2 b3 b4 b5 b6 b7 b8 b9 b10 b11 → μ b1 b2 b3 b4 b5 b6 b7 b8 b9 b10 b11 < μ a1 a2 a3 a4 a5 a6 a7 a8 a9 a10 a11 → W n b1 b2 b3 b4 b5 b6 b7 b8 b9 b10 b11) → W (n + 1) a1 a2 a3 a4 a5 a6 a7 a8 a9 a10 a11) (a1 : A1) (a2 : A2) (a3 : A3) (a4 : A4) (a5 : A5) (a6 : A6) (a7 : A7) (a8 : A8) (a9 : A9) (a10 : A10) (a11 : A11) (h : I a1 a2 a3 a4 a5 a6 a7 a8 a9 a10 a11) : ∃ n, W n a1 a2 a3 a4 a5 a6 a7 a8 a9 a10 a11 :=
  loop_m (σ := A1 × A2 × A3 × A4 × A5 × A6 × A7 × A8 × A9 × A10 × A11) (fun n s => W n s.1 s.2.1 s.2.2.1 s.2.2.2.1 s.2.2.2.2.1 s.2.2.2.2.2.1 s.2.2.2.2.2.2.1 s.2.2.2.2.2.2.2.1 s.2.2.2.2.2.2.2.2.1 s.2.2.2.2.2.2.2.2.2.1 s.2.2.2.2.2.2.2.2.2.2) (fun s => I s.1 s.2.1 s.2.2.1 s.2.2.2.1 s.2.2.2.2.1 s.2.2.2.2.2.1 s.2.2.2.2.2.2.1 s.2.2.2.2.2.2.2.1 s.2.2.2.2.2.2.2.2.1 s.2.2.2.2.2.2.2.2.2.1 s.2.2.2.2.2.2.2.2.2.2) (fun s => μ s.1 s.2.1 s.2.2.1 s.2.2.2.1 s.2.2.2.2.1 s.2.2.2.2.2.1 s.2.2.2.2.2.2.1 s.2.2.2.2.2.2.2.1 s.2.2.2.2.2.2.2.2.1 s.2.2.2.2.2.2.2.2.2.1 s.2.2.2.2.2.2.2.2.2.2) (fun n s hI hk => hs n s.1 s.2.1 s.2.2.1 s.2.2.2.1 s.2.2.2.2.1 s.2.2.2.2.2.1 s.2.2.2.2.2.2.1 s.2.2.2.2.2.2.2.1 s.2.2.2.2.2.2.2.2.1 s.2.2.2.2.2.2.2.2.2.1 s.2.2.2.2.2.2.2.2.2.2 hI (fun b1 b2 b3 b4 b5 b6 b7 b8 b9 b10 b11 h9 hm => hk (b1, b2, b3, b4, b5, b6, b7, b8, b9, b10, b11) h9 hm)) (a1, a2, a3, a4, a5, a6, a7, a8, a9, a10, a11) h
theorem lp12 {A1 A2 A3 A4 A5 A6 A7 A8 A9 A10 A11 A12 : Type} (W : Nat → A1 → A2 → A3 → A4 → A5 → A6 → A7 → A8 → A9 → A10 → A11 → A12 → Prop) (I : A1 → A2 → A3 → A4 → A5 → A6 → A7 → A8 → A9 → A10 → A11 → A12 → Prop) (μ : A1 → A2 → A3 → A4 → A5 → A6 → A7 → A8 → A9 → A10 → A11 → A12 → Nat) (hs : ∀ (n : Nat) (a1 : A1) (a2 : A2) (a3 : A3) (a4 : A4) (a5 : A5) (a6 : A6) (a7 : A7) (a8 : A8) (a9 : A9) (a10 : A10) (a11 : A11) (a12 : A12), I a1 a2 a3 a4 a5 a6 a7 a8 a9 a10 a11 a12 → (∀ (b1 : A1) (b2 : A2) (b3 : A3) (b4 : A4) (b5 : A5) (b6 : A6) (b7 : A7) (b8 : A8) (b9 : A9) (b10 : A10) (b11 : A11) (b12 : A12), I b1 b2 b3 b4 b5 b6 b7 b8 b9 b10 b11 b12 → μ b1 b2 b3 b4 b5 b6 b7 b8 b9 b10 b11 b12 < μ a1 a2 a3 a4 a5 a6 a7 a8 a9 a10 a11 a12 → W n b1 b2 b3 b4 b5 b6 b7 b8 b9 b10 b11 b12) → W (n + 1) a1 a2 a3 a4 a5 a6 a7 a8 a9 a10 a11 a12) (a1 : A1) (a2 : A2) (a3 : A3) (a4 : A4) (a5 : A5) (a6 : A6) (a7 : A7) (a8 : A8) (a9 : A9) (a10 : A10) (a11 : A11) (a12 : A12) (h : I a1 a2 a3 a4 a5 a6 a7 a8 a9 a10 a11 a12) : ∃ n, W n a1 a2 a3 a4 a5 a6 a7 a8 a9 a10 a11 a12 :=
  loop_m (σ := A1 × A2 × A3 × A4 × A5 × A6 × A7 × A8 × A9 × A10 × A11 × A12) (fun n s => W n s.1 s.2.1 s.2.2.1 s.2.2.2.1 s.2.2.2.2.1 s.2.2.2.2.2.1 s.2.2.2.2.2.2.1 s.2.2.2.2.2.2.2.1 s.2.2.2.2.2.2.2.2.1 s.2.2.2.2.2.2.2.2.2.1 s.2.2.2.2.2.2.2.2.2.2.1 s.2.2.2.2.2.2.2.2.2.2.2) (fun s => I s.1 s.2.1 s.2.2.1 s.2.2.2.1 s.2.2.2.2.1 s.2.2.2.2.2.1 s.2.2.2.2.2.2.1 s.2.2.2.2.2.2.2.1 s.2.2.2.2.2.2.2.2.1 s.2.2.2.2.2.2.2.2.2.1 s.2.2.2.2.2.2.2.2.2.2.1 s.2.2.2.2.2.2.2.2.2.2.2) (fun s => μ s.1 s.2.1 s.2.2.1 s.2.2.2.1 s.2.2.2.2.1 s.2.2.2.2.2.1 s.2.2.2.2.2.2.1 s.2.2.2.2.2.2.2.1 s.2.2.2.2.2.2.2.2.1 s.2.2.2.2.2.2.2.2.2.1 s.2.2.2.2.2.2.2.2.2.2.1 s.2.2.2.2.2.2.2.2.2.2.2) (fun n s hI hk => hs n s.1 s.2.1 s.2.2.1 s.2.2.2.1 s.2.2.2.2.1 s.2.2.2.2.2.1 s.2.2.2.2.2.2.1 s.2.2.2.2.2.2.2.1 s.2.2.2.2.2.2.2.2.1 s.2.2.2.2.2.2.2.2.2.1 s.2.2.2.2.2.2.2.2.2.2.1 s.2.2.2.2.2.2.2.2.2.2.2 hI (fun b1 b2 b3 b4 b5 b6 b7 b8 b9 b10 b11 b12 h9 hm => hk (b1, b2, b3, b4, b5, b6, b7, b8, b9, b10, b11, b12) h9 hm)) (a1, a2, a3, a4, a5, a6, a7, a8, a9, a10, a11, a12) h
theorem lp13 {A1 A2 A3 A4 A5 A6 A7 A8 A9 A10 A11 A12 A13 : Type} (W : Nat → A1 → A2 → A3 → A4 → A5 → A6 → A7 → A8 → A9 → A10 → A11 → A12 → A13 → Prop) (I : A1 → A2 → A3 → A4 → A5 → A6 → A7 → A8 → A9 → A10 → A11 → A12 → A13 → Prop) (μ : A1 → A2 → A3 → A4 → A5 → A6 → A7 → A8 → A9 → A10 → A11 → A12 → A13 → Nat) (hs : ∀ (n : Nat) (a1 : A1) (a2 : A2) (a3 : A3) (a4 : A4) (a5 : A5) (a6 : A6) (a7 : A7) (a8 : A8) (a9 : A9) (a10 : A10) (a11 : A11) (a12 : A12) (a13 : A13), I a1 a2 a3 a4 a5 a6 a7 a8 a9 a10 a11 a12 a13 → (∀ (b1 : A1) (b2 : A2) (b3 : A3) (b4 : A4) (b5 : A5) (b6 : A6) (b7 : A7) (b8 : A8) (b9 : A9) (b10 : A10) (b11 : A11) (b12 : A12) (b13 : A13), I b1 b2 b3 b4 b5 b6 b7 b8 b9 b10 b11 b12 b13 → μ b1 b2 b3 b4 b5 b6 b7 b8 b9 b10 b11 b12 b13 < μ a1 a2 a3 a4 a5 a6 a7 a8 a9 a10 a11 a12 a13 → W n b1 b2 b3 b4 b5 b6 b7 b8 b9 b10 b11 b12 b13) → W (n + 1) a1 a2 a3 a4 a5 a6 a7 a8 a9 a10 a11 a12 a13) (a1 : A1) (a2 : A2) (a3 : A3) (a4 : A4) (a5 : A5) (a6 : A6) (a7 : A7) (a8 : A8) (a9 : A9) (a10 : A10) (a11 : A11) (a12 : A12) (a13 : A13) (h : I a1 a2 a3 a4 a5 a6 a7 a8 a9 a10 a11 a12 a13) : ∃ n, W n a1 a2 a3 a4 a5 a6 a7 a8 a9 a10 a11 a12 a13 :=
  loop_m (σ := A1 × A2 × A3 × A4 × A5 × A6 × A7 × A8 × A9 × A10 × A11 × A12 × A13) (fun n s => W n s.1 s.2.1 s.2.2.1 s.2.2.2.1 s.2.2.2.2.1 s.2.2.2.2.2.1 s.2.2.2.2.2.2.1 s.2.2.2.2.2.2.2.1 s.2.2.2.2.2.2.2.2.1 s.2.2.2.2.2.2.2.2.2.1 s.2.2.2.2.2.2.2.2.2.2.1 s.2.2.2.2.2.2.2.2.2.2.2.1 s.2.2.2.2.2.2.2.2.2.2.2.2) (fun s => I s.1 s.2.1 s.2.2.1 s.2.2.2.1 s.2.2.2.2.1 s.2.2.2.2.2.1 s.2.2.2.2.2.2.1 s.2.2.2.2.2.2.2.1 s.2.2.2.2.2.2.2.2.1 s.2.2.2.2.2.2.2.2.2.1 s.2.2.2.2.2.2.2.2.2.2.1 s.2.2.2.2.2.2.2.2.2.2.2.1 s.2.2.2.2.2.2.2.2.2.2.2.2) (fun s => μ s.1 s.2.1 s.2.2.1 s.2.2.2.1 s.2.2.2.2.1 s.2.2.2.2.2.1 s.2.2.2.2.2.2.1 s.2.2.2.2.2.2.2.1 s.2.2.2.2.2.2.2.2.1 s.2.2.2.2.2.2.2.2.2.1 s.2.2.2.2.2.2.2.2.2.2.1 s.2.2.2.2.2.2.2.2.2.2.2.1 s.2.2.2.2.2.2.2.2.2.2.2.2) (fun n s hI hk => hs n s.1 s.2.1 s.2.2.1 s.2.2.2.1 s.2.2.2.2.1 s.2.2.2.2.2.1 s.2.2.2.2.2.2.1 s.2.2.2.2.2.2.2.1 s.2.2.2.2.2.2.2.2.1 s.2.2.2.2.2.2.2.2.2.1 s.2.2.2.2.2.2.2.2.2.2.1 s.2.2.2.2.2.2.2.2.2.2.2.1 s.2.2.2.2.2.2.2.2.2.2.2.2 hI (fun b1 b2 b3 b4 b5 b6 b7 b8 b9 b10 b11 b12 b13 h9 hm => hk (b1, b2, b3, b4, b5, b6, b7, b8, b9, b10, b11, b12, b13) h9 hm)) (a1, a2, a3, a4, a5, a6, a7, a8, a9, a10, a11, a12, a13) h
theorem lp14 {A1 A2 A3 A4 A5 A6 A7 A8 A9 A10 A11 A12 A13 A14 : Type} (W : Nat → A1 → A2 → A3 → A4 → A5 → A6 → A7 → A8 → A9 → A10 → A11 → A12 → A13 → A14 → Prop) (I : A1 → A2 → A3 → A4 → A5 → A6 → A7 → A8 → A9 → A10 → A11 → A12 → A13 → A14 → Prop) (μ : A1 → A2 → A3 → A4 → A5 → A6 → A7 → A8 → A9 → A10 → A11 → A12 → A13 → A14 → Nat) (hs : ∀ (n : Nat) (a1 : A1) (a2 : A2) (a3 : A3) (a4 : A4) (a5 : A5) (a6 : A6) (a7 : A7) (a8 : A8) (a9 : A9) (a10 : A10) (a11 : A11) (a12 : A12) (a13 : A13) (a14 : A14), I a1 a2 a3 a4 a5 a6 a7 a8 a9 a10 a11 a12 a13 a14 → (∀ (b1 : A1) (b2 : A2) (b3 : A3) (b4 : A4) (b5 : A5) (b6 : A6) (b7 : A7) (b8 : A8) (b9 : A9) (b10 : A10) (b11 : A11) (b12 : A12) (b13 : A13) (b14 : A14), I b1 b2 b3 b4 b5 b6 b7 b8 b9 b10 b11 b12 b13 b14 → μ b1 b2 b3 b4 b5 b6 b7 b8 b9 b10 b11 b12 b13 b14 < μ a1 a2 a3 a4 a5 a6 a7 a8 a9 a10 a11 a12 a13 a14 → W n b1 b2 b3 b4 b5 b6 b7 b8 b9 b10 b11 b12 b13 b14) → W (n + 1) a1 a2 a3 a4 a5 a6 a7 a8 a9 a10 a11 a12 a13 a14) (a1 : A1) (a2 : A2) (a3 : A3) (a4 : A4) (a5 : A5) (a6 : A6) (a7 : A7) (a8 : A8) (a9 : A9) (a10 : A10) (a11 : A11) (a12 : A12) (a13 : A13) (a14 : A14) (h : I a1 a2 a3 a4 a5 a6 a7 a8 a9 a10 a11 a12 a13 a14) : ∃ n, W n a1 a2 a3 a4 a5 a6 a7 a8 a9 a10 a11 a12 a13 a14 :=
  loop_m (σ := A1 × A2 × A3 × A4 × A5 × A6 × A7 × A8 × A9 × A10 × A11 × A12 × A13 × A14) (fun n s => W n s.1 s.2.1 s.2.2.1 s.2.2.2.1 s.2.2.2.2.1 s.2.2.2.2.2.1 s.2.2.2.2.2.2.1 s.2.2.2.2.2.2.2.1 s.2.2.2.2.2.2.2.2.1 s.2.2.2.2.2.2.2.2.2.1 s.2.2.2.2.2.2.2.2.2.2.1 s.2.2.2.2.2.2.2.2.2.2.2.1 s.2.2.2.2.2.2.2.2.2.2.2.2.1 s.2.2.2.2.2.2.2.2.2.2.2.2.2) (fun s => I s.1 s.2.1 s.2.2.1 s.2.2.2.1 s.2.2.2.2.1 s.2.2.2.2.2.1 s.2.2.2.2.2.2.1 s.2.2.2.2.2.2.2.1 s.2.2.2.2.2.2.2.2.1 s.2.2.2.2.2.2.2.2.2.1 s.2.2.2.2.2.2.2.2.2.2.1 s.2.2.2.2.2.2.2.2.2.2.2.1 s.2.2.2.2.2.2.2.2.2.2.2.2.1 s.2.2.2.2.2.2.2.2.2.2.2.2.2) (fun s => μ s.1 s.2.1 s.2.2.1 s.2.2.2.1 s.2.2.2.2.1 s.2.2.2.2.2.1 s.2.2.2.2.2.2.1 s.2.2.2.2.2.2.2.1 s.2.2.2.2.2.2.2.2.1 s.2.2.2.2.2.2.2.2.2.1 s.2.2.2.2.2.2.2.2.2.2.1 s.2.2.2.2.2.2.2.2.2.2.2.1 s.2.2.2.2.2.2.2.2.2.2.2.2.1 s.2.2.2.2.2.2.2.2.2.2.2.2.2) (fun n s hI hk => hs n s.1 s.2.1 s.2.2.1 s.2.2.2.1 s.2.2.2.2.1 s.2.2.2.2.2.1 s.2.2.2.2.2.2.1 s.2.2.2.2.2.2.2.1 s.2.2.2.2.2.2.2.2.1 s.2.2.2.2.2.2.2.2.2.1 s.2.2.2.2.2.2.2.2.2.2.1 s.2.2.2.2.2.2.2.2.2.2.2.1 s.2.2.2.2.2.2.2.2.2.2.2.2.1 s.2.2.2.2.2.2.2.2.2.2.2.2.2 hI (fun b1 b2 b3 b4 b5 b6 b7 b8 b9 b10 b11 b12 b13 b14 h9 hm => hk (b1, b2, b3, b4, b5, b6, b7, b8, b9, b10, b11, b12, b13, b14) h9 hm)) (a1, a2, a3, a4, a5, a6, a7, a8, a9, a10, a11, a12, a13, a14) h
theorem lp15 {A1 A2 A3 A4 A5 A6 A7 A8 A9 A10 A11 A12 A13 A14 A15 : Type} (W : Nat → A1 → A2 → A3 → A4 → A5 → A6 → A7 → A8 → A9 → A10 → A11 → A12 → A13 → A14 → A15 → Prop) (I : A1 → A2 → A3 → A4 → A5 → A6 → A7 → A8 → A9 → A10 → A11 → A12 → A13 → A14 → A15 → Prop) (μ : A1 → A2 → A3 → A4 → A5 → A6 → A7 → A8 → A9 → A10 → A11 → A12 → A13 → A14 → A15 → Nat) (hs : ∀ (n : Nat) (a1 : A1) (a2 : A2) (a3 : A3) (a4 : A4) (a5 : A5) (a6 : A6) (a7 : A7) (a8 : A8) (a9 : A9) (a10 : A10) (a11 : A11) (a12 : A12) (a13 : A13) (a14 : A14) (a15 : A15), I a1 a2 a3 a4 a5 a6 a7 a8 a9 a10 a11 a12 a13 a14 a15 → (∀ (b1 : A1) (b2 : A2) (b3 : A3) (b4 : A4) (b5 : A5) (b6 : A6) (b7 : A7) (b8 : A8) (b9 : A9) (b10 : A10) (b11 : A11) (b12 : A12) (b13 : A13) (b14 : A14) (b15 : A15), I b1 b2 b3 b4 b5 b6 b7 b8 b9 b10 b11 b12 b13 b14 b15 → μ b1 b2 b3 b4 b5 b6 b7 b8 b9 b10 b11 b12 b13 b14 b15 < μ a1 a2 a3 a4 a5 a6 a7 a8 a9 a10 a11 a12 a13 a14 a15 → W n b1 b2 b3 b4 b5 b6 b7 b8 b9 b10 b11 b12 b13 b14 b15) → W (n + 1) a1 a2 a3 a4 a5 a6 a7 a8 a9 a10 a11 a12 a13 a14 a15) (a1 : A1) (a2 : A2) (a3 : A3) (a4 : A4) (a5 : A5) (a6 : A6) (a7 : A7) (a8 : A8) (a9 : A9) (a10 : A10) (a11 : A11) (a12 : A12) (a13 : A13) (a14 : A14) (a15 : A15) (h : I a1 a2 a3 a4 a5 a6 a7 a8 a9 a10 a11 a12 a13 a14 a15) : ∃ n, W n a1 a2 a3 a4 a5 a6 a7 a8 a9 a10 a11 a12 a13 a14 a15 :=
  loop_m (σ := A1 × A2 × A3 × A4 × A5 × A6 × A7 × A8 × A9 × A10 × A11 × A12 × A13 × A14 × A15) (fun n s => W n s.1 s.2.1 s.2.2.1 s.2.2.2.1 s.2.2.2.2.1 s.2.2.2.2.2.1 s.2.2.2.2.2.2.1 s.2.2.2.2.2.2.2.1 s.2.2.2.2.2.2.2.2.1 s.2.2.2.2.2.2.2.2.2.1 s.2.2.2.2.2.2.2.2.2.2.1 s.2.2.2.2.2.2.2.2.2.2.2.1 s.2.2.2.2.2.2.2.2.2.2.2.2.1 s.2.2.2.2.2.2.2.2.2.2.2.2.2.1 s.2.2.2.2.2.2.2.2.2.2.2.2.2.2) (fun s => I s.1 s.2.1 s.2.2.1 s.2.2.2.1 s.2.2.2.2.1 s.2.2.2.2.2.1 s.2.2.2.2.2.2.1 s.2.2.2.2.2.2.2.1 s.2.2.2.2.2.2.2.2.1 s.2.2.2.2.2.2.2.2.2.1 s.2.2.2.2.2.2.2.2.2.2.1 s.2.2.2.2.2.2.2.2.2.2.2.1 s.2.2.2.2.2.2.2.2.2.2.2.2.1 s.2.2.2.2.2.2.2.2.2.2.2.2.2.1 s.2.2.2.2.2.2.2.2.2.2.2.2.2.2) (fun s => μ s.1 s.2.1 s.2.2.1 s.2.2.2.1 s.2.2.2.2.1 s.2.2.2.2.2.1 s.2.2.2.2.2.2.1 s.2.2.2.2.2.2.2.1 s.2.2.2.2.2.2.2.2.1 s.2.2.2.2.2.2.2.2.2.1 s.2.2.2.2.2.2.2.2.2.2.1 s.2.2.2.2.2.2.2.2.2.2.2.1 s.2.2.2.2.2.2.2.2.2.2.2.2.1 s.2.2.2.2.2.2.2.2.2.2.2.2.2.1 s.2.2.2.2.2.2.2.2.2.2.2.2.2.2) (fun n s hI hk => hs n s.1 s.2.1 s.2.2.1 s.2.2.2.1 s.2.2.2.2.1 s.2.2.2.2.2.1 s.2.2.2.2.2.2.1 s.2.2.2.2.2.2.2.1 s.2.2.2.2.2.2.2.2.1 s.2.2.2.2.2.2.2.2.2.1 s.2.2.2.2.2.2.2.2.2.2.1 s.2.2.2.2.2.2.2.2.2.2.2.1 s.2.2.2.2.2.2.2.2.2.2.2.2.1 s.2.2.2.2.2.2.2.2.2.2.2.2.2.1 s.2.2.2.2.2.2.2.2.2.2.2.2.2.2 hI (fun b1 b2 b3 b4 b5 b6 b7 b8 b9 b10 b11 b12 b13 b14 b15 h9 hm => hk (b1, b2, b3, b4, b5, b6, b7, b8, b9, b10, b11, b12, b13, b14, b15) h9 hm)) (a1, a2, a3, a4, a5, a6, a7, a8, a9, a10, a11, a12, a13, a14, a15) h
theorem lp16 {A1 A2 A3 A4 A5 A6 A7 A8 A9 A10 A11 A12 A13 A14 A15 A16 : Type} (W : Nat → A1 → A2 → A3 → A4 → A5 → A6 → A7 → A8 → A9 → A10 → A11 → A12 → A13 → A14 → A15 → A16 → Prop) (I : A1 → A2 → A3 → A4 → A5 → A6 → A7 → A8 → A9 → A10 → A11 → A12 → A13 → A14 → A15 → A16 → Prop) (μ : A1 → A2 → A3 → A4 → A5 → A6 → A7 → A8 → A9 → A10 → A11 → A12 → A13 → A14 → A15 → A16 → Nat) (hs : ∀ (n : Nat) (a1 : A1) (a2 : A2) (a3 : A3) (a4 : A4) (a5 : A5) (a6 : A6) (a7 : A7) (a8 : A8) (a9 : A9) (a10 : A10) (a11 : A11) (a12 : A12) (a13 : A13) (a14 : A14) (a15 : A15) (a16 : A16), I a1 a2 a3 a4 a5 a6 a7 a8 a9 a10 a11 a12 a13 a14 a15 a16 → (∀ (b1 : A1) (b2 : A2) (b3 : A3) (b4 : A4) (b5 : A5) (b6 : A6) (b7 : A7) (b8 : A8) (b9 : A9) (b10 : A10) (b11 : A11) (b12 : A12) (b13 : A13) (b14 : A14) (b15 : A15) (b16 : A16), I b1 b2 b3 b4 b5 b6 b7 b8 b9 b10 b11 b12 b13 b14 b15 b16 → μ b1 b2 b3 b4 b5 b6 b7 b8 b9 b10 b11 b12 b13 b14 b15 b16 < μ a1 a2 a3 a4 a5 a6 a7 a8 a9 a10 a11 a12 a13 a14 a15 a16 → W n b1 b2 b3 b4 b5 b6 b7 b8 b9 b10 b11 b12 b13 b14 b15 b16) → W (n + 1) a1 a2 a3 a4 a5 a6 a7 a8 a9 a10 a11 a12 a13 a14 a15 a16) (a1 : A1) (a2 : A2) (a3 : A3) (a4 : A4) (a5 : A5) (a6 : A6) (a7 : A7) (a8 : A8) (a9 : A9) (a10 : A10) (a11 : A11) (a12 : A12) (a13 : A13) (a14 : A14) (a15 : A15) (a16 : A16) (h : I a1 a2 a3 a4 a5 a6 a7 a8 a9 a10 a11 a12 a13 a14 a15 a16) : ∃ n, W n a1 a2 a3 a4 a5 a6 a7 a8 a9 a10 a11 a12 a13 a14 a15 a16 :=
  loop_m (σ := A1 × A2 × A3 × A4 × A5 × A6 × A7 × A8 × A9 × A10 × A11 × A12 × A13 × A14 × A15 × A16) (fun n s => W n s.1 s.2.1 s.2.2.1 s.2.2.2.1 s.2.2.2.2.1 s.2.2.2.2.2.1 s.2.2.2.2.2.2.1 s.2.2.2.2.2.2.2.1 s.2.2.2.2.2.2.2.2.1 s.2.2.2.2.2.2.2.2.2.1 s.2.2.2.2.2.2.2.2.2.2.1 s.2.2.2.2.2.2.2.2.2.2.2.1 s.2.2.2.2.2.2.2.2.2.2.2.2.1 s.2.2.2.2.2.2.2.2.2.2.2.2.2.1 s.2.2.2.2.2.2.2.2.2.2.2.2.2.2.1 s.2.2.2.2.2.2.2.2.2.2.2.2.2.2.2) (fun s => I s.1 s.2.1 s.2.2.1 s.2.2.2.1 s.2.2.2.2.1 s.2.2.2.2.2.1 s.2.2.2.2.2.2.1 s.2.2.2.2.2.2.2.1 s.2.2.2.2.2.2.2.2.1 s.2.2.2.2.2.2.2.2.2.1 s.2.2.2.2.2.2.2.2.2.2.1 s.2.2.2.2.2.2.2.2.2.2.2.1 s.2.2.2.2.2.2.2.2.2.2.2.2.1 s.2.2.2.2.2.2.2.2.2.2.2.2.2.1 s.2.2.2.2.2.2.2.2.2.2.2.2.2.2.1 s.2.2.2.2.2.2.2.2.2.2.2.2.2.2.2) (fun s => μ s.1 s.2.1 s.2.2.1 s.2.2.2.1 s.2.2.2.2.1 s.2.2.2.2.2.1 s.2.2.2.2.2.2.1 s.2.2.2.2.2.2.2.1 s.2.2.2.2.2.2.2.2.1 s.2.2.2.2.2.2.2.2.2.1 s.2.2.2.2.2.2.2.2.2.2.1 s.2.2.2.2.2.2.2.2.2.2.2.1 s.2.2.2.2.2.2.2.2.2.2.2.2.1 s.2.2.2.2.2.2.2.2.2.2.2.2.2.1 s.2.2.2.2.2.2.2.2.2.2.2.2.2.2.1 s.2.2.2.2.2.2.2.2.2.2.2.2.2.2.2) (fun n s hI hk => hs n s.1 s.2.1 s.2.2.1 s.2.2.2.1 s.2.2.2.2.1 s.2.2.2.2.2.1 s.2.2.2.2.2.2.1 s.2.2.2.2.2.2.2.1 s.2.2.2.2.2.2.2.2.1 s.2.2.2.2.2.2.2.2.2.1 s.2.2.2.2.2.2.2.2.2.2.1 s.2.2.2.2.2.2.2.2.2.2.2.1 s.2.2.2.2.2.2.2.2.2.2.2.2.1 s.2.2.2.2.2.2.2.2.2.2.2.2.2.1 s.2.2.2.2.2.2.2.2.2.2.2.2.2.2.1 s.2.2.2.2.2.2.2.2.2.2.2.2.2.2.2 hI (fun b1 b2 b3 b4 b5 b6 b7 b8 b9 b10 b11 b12 b13 b14 b15 b16 h9 hm => hk (b1, b2, b3, b4, b5, b6, b7, b8, b9, b10, b11, b12, b13, b14, b15, b16) h9 hm)) (a1, a2, a3, a4, a5, a6, a7, a8, a9, a10, a11, a12, a13, a14, a15, a16) h
theorem pk_least (P : Nat → Prop) (h : ∃ k, P k) : ∃ k, P k ∧ ∀ j, j < k → ¬ P j := by
  obtain ⟨k, hk⟩ := h
  induction k using Nat.strongRecOn with
  | ind k ih =>
    by_cases e : ∃ j, j < k ∧ P j
    · obtain ⟨j, hj, pj⟩ := e
      exact ih j hj pj
    · exact ⟨k, hk, fun j hj pj => e ⟨j, hj, pj⟩⟩
theorem rp1 {ρ A1 : Type} (W : Nat → (ρ → Prop) → A1 → Prop) (ok : A1 → Prop) (μ : A1 → Nat) (val : A1 → ρ)
    (hs : ∀ (d : Nat) (post : ρ → Prop) (a1 : A1), ok a1 → post (val a1) → (∀ (post' : ρ → Prop) (b1 : A1), ok b1 → μ b1 < μ a1 → post' (val b1) → W d post' b1) → W (d + 1) post a1) :
    ∀ (d : Nat) (post : ρ → Prop) (a1 : A1), ok a1 → μ a1 < d → post (val a1) → W d post a1 := by
  intro d
  induction d with
  | zero => intro post a1 _ h; omega
  | succ d ih =>
    intro post a1 ho hm hp
    exact hs d post a1 ho hp (fun post' b1 ho' hm' hp' => ih post' b1 ho' (by omega) hp')
theorem rp2 {ρ A1 A2 : Type} (W : Nat → (ρ → Prop) → A1 → A2 → Prop) (ok : A1 → A2 → Prop) (μ : A1 → A2 → Nat) (val : A1 → A2 → ρ)
    (hs : ∀ (d : Nat) (post : ρ → Prop) (a1 : A1) (a2 : A2), ok a1 a2 → post (val a1 a2) → (∀ (post' : ρ → Prop) (b1 : A1) (b2 : A2), ok b1 b2 → μ b1 b2 < μ a1 a2 → post' (val b1 b2) → W d post' b1 b2) → W (d + 1) post a1 a2) :
    ∀ (d : Nat) (post : ρ → Prop) (a1 : A1) (a2 : A2), ok a1 a2 → μ a1 a2 < d → post (val a1 a2) → W d post a1 a2 := by
  intro d
  induction d with
  | zero => intro post a1 a2 _ h; omega
  | succ d ih =>
    intro post a1 a2 ho hm hp
    exact hs d post a1 a2 ho hp (fun post' b1 b2 ho' hm' hp' => ih post' b1 b2 ho' (by omega) hp')
theorem rp3 {ρ A1 A2 A3 : Type} (W : Nat → (ρ → Prop) → A1 → A2 → A3 → Prop) (ok : A1 → A2 → A3 → Prop) (μ : A1 → A2 → A3 → Nat) (val : A1 → A2 → A3 → ρ)
    (hs : ∀ (d : Nat) (post : ρ → Prop) (a1 : A1) (a2 : A2) (a3 : A3), ok a1 a2 a3 → post (val a1 a2 a3) → (∀ (post' : ρ → Prop) (b1 : A1) (b2 : A2) (b3 : A3), ok b1 b2 b3 → μ b1 b2 b3 < μ a1 a2 a3 → post' (val b1 b2 b3) → W d post' b1 b2 b3) → W (d + 1) post a1 a2 a3) :
    ∀ (d : Nat) (post : ρ → Prop) (a1 : A1) (a2 : A2) (a3 : A3), ok a1 a2 a3 → μ a1 a2 a3 < d → post (val a1 a2 a3) → W d post a1 a2 a3 := by
  intro d
  induction d with
  | zero => intro post a1 a2 a3 _ h; omega
  | succ d ih =>
    intro post a1 a2 a3 ho hm hp
    exact hs d post a1 a2 a3 ho hp (fun post' b1 b2 b3 ho' hm' hp' => ih post' b1 b2 b3 ho' (by omega) hp')
theorem rp4 {ρ A1 A2 A3 A4 : Type} (W : Nat → (ρ → Prop) → A1 → A2 → A3 → A4 → Prop) (ok : A1 → A2 → A3 → A4 → Prop) (μ : A1 → A2 → A3 → A4 → Nat) (val : A1 → A2 → A3 → A4 → ρ)
    (hs : ∀ (d : Nat) (post : ρ → Prop) (a1 : A1) (a2 : A2) (a3 : A3) (a4 : A4), ok a1 a2 a3 a4 → post (val a1 a2 a3 a4) → (∀ (post' : ρ → Prop) (b1 : A1) (b2 : A2) (b3 : A3) (b4 : A4), ok b1 b2 b3 b4 → μ b1 b2 b3 b4 < μ a1 a2 a3 a4 → post' (val b1 b2 b3 b4) → W d post' b1 b2 b3 b4) → W (d + 1) post a1 a2 a3 a4) :
    ∀ (d : Nat) (post : ρ → Prop) (a1 : A1) (a2 : A2) (a3 : A3) (a4 : A4), ok a1 a2 a3 a4 → μ a1 a2 a3 a4 < d → post (val a1 a2 a3 a4) → W d post a1 a2 a3 a4 := by
  intro d
  induction d with
  | zero => intro post a1 a2 a3 a4 _ h; omega
  | succ d ih =>
    intro post a1 a2 a3 a4 ho hm hp
    exact hs d post a1 a2 a3 a4 ho hp (fun post' b1 b2 b3 b4 ho' hm' hp' => ih post' b1 b2 b3 b4 ho' (by omega) hp')
theorem rp5 {ρ A1 A2 A3 A4 A5 : Type} (W : Nat → (ρ → Prop) → A1 → A2 → A3 → A4 → A5 → Prop) (ok : A1 → A2 → A3 → A4 → A5 → Prop) (μ : A1 → A2 → A3 → A4 → A5 → Nat) (val : A1 → A2 → A3 → A4 → A5 → ρ)
    (hs : ∀ (d : Nat) (post : ρ → Prop) (a1 : A1) (a2 : A2) (a3 : A3) (a4 : A4) (a5 : A5), ok a1 a2 a3 a4 a5 → post (val a1 a2 a3 a4 a5) → (∀ (post' : ρ → Prop) (b1 : A1) (b2 : A2) (b3 : A3) (b4 : A4) (b5 : A5), ok b1 b2 b3 b4 b5 → μ b1 b2 b3 b4 b5 < μ a1 a2 a3 a4 a5 → post' (val b1 b2 b3 b4 b5) → W d post' b1 b2 b3 b4 b5) → W (d + 1) post a1 a2 a3 a4 a5) :
    ∀ (d : Nat) (post : ρ → Prop) (a1 : A1) (a2 : A2) (a3 : A3) (a4 : A4) (a5 : A5), ok a1 a2 a3 a4 a5 → μ a1 a2 a3 a4 a5 < d → post (val a1 a2 a3 a4 a5) → W d post a1 a2 a3 a4 a5 := by
  intro d
  induction d with
  | zero => intro post a1 a2 a3 a4 a5 _ h; omega
  | succ d ih =>
    intro post a1 a2 a3 a4 a5 ho hm hp
    exact hs d post a1 a2 a3 a4 a5 ho hp (fun post' b1 b2 b3 b4 b5 ho' hm' hp' => ih post' b1 b2 b3 b4 b5 ho' (by omega) hp')
theorem rp6 {ρ A1 A2 A3 A4 A5 A6 : Type} (W : Nat → (ρ → Prop) → A1 → A2 → A3 → A4 → A5 → A6 → Prop) (ok : A1 → A2 → A3 → A4 → A5 → A6 → Prop) (μ : A1 → A2 → A3 → A4 → A5 → A6 → Nat) (val : A1 → A2 → A3 → A4 → A5 → A6 → ρ)
    (hs : ∀ (d : Nat) (post : ρ → Prop) (a1 : A1) (a2 : A2) (a3 : A3) (a4 : A4) (a5 : A5) (a6 : A6), ok a1 a2 a3 a4 a5 a6 → post (val a1 a2 a3 a4 a5 a6) → (∀ (post' : ρ → Prop) (b1 : A1) (b2 : A2) (b3 : A3) (b4 : A4) (b5 : A5) (b6 : A6), ok b1 b2 b3 b4 b5 b6 → μ b1 b2 b3 b4 b5 b6 < μ a1 a2 a3 a4 a5 a6 → post' (val b1 b2 b3 b4 b5 b6) → W d post' b1 b2 b3 b4 b5 b6) → W (d + 1) post a1 a2 a3 a4 a5 a6) :
    ∀ (d : Nat) (post : ρ → Prop) (a1 : A1) (a2 : A2) (a3 : A3) (a4 : A4) (a5 : A5) (a6 : A6), ok a1 a2 a3 a4 a5 a6 → μ a1 a2 a3 a4 a5 a6 < d → post (val a1 a2 a3 a4 a5 a6) → W d post a1 a2 a3 a4 a5 a6 := by
  intro d
  induction d with
  | zero => intro post a1 a2 a3 a4 a5 a6 _ h; omega
  | succ d ih =>
    intro post a1 a2 a3 a4 a5 a6 ho hm hp
    exact hs d post a1 a2 a3 a4 a5 a6 ho hp (fun post' b1 b2 b3 b4 b5 b6 ho' hm' hp' => ih post' b1 b2 b3 b4 b5 b6 ho' (by omega) hp')
theorem rec_p {σ ρ : Type} (W : Nat → (ρ → Prop) → σ → Prop) (ok : σ → Prop) (μ : σ → Nat) (val : σ → ρ)
    (hs : ∀ d s post, ok s → post (val s) → (∀ s' post', ok s' → μ s' < μ s → post' (val s') → W d post' s') → W (d + 1) post s) :
    ∀ d s post, ok s → μ s < d → post (val s) → W d post s := by
  intro d
  induction d with
  | zero => intro s post _ h; omega
  | succ d ih =>
    intro s post ho hm hp
    exact hs d s post ho hp (fun s' post' ho' hm' hp' => ih s' post' ho' (by omega) hp')
theorem rec_q {σ ρ : Type} (W : Nat → (ρ → Prop) → σ → Prop) (ok : σ → Prop) (μ : σ → Nat) (Q : σ → ρ → Prop)
    (hs : ∀ d s post, ok s → (∀ r, Q s r → post r) → (∀ s' post', ok s' → μ s' < μ s → (∀ r, Q s' r → post' r) → W d post' s') → W (d + 1) post s) :
    ∀ d s post, ok s → μ s < d → (∀ r, Q s r → post r) → W d post s := by
  intro d
  induction d with
  | zero => intro s post _ h; omega
  | succ d ih =>
    intro s post ho hm hp
    exact hs d s post ho hp (fun s' post' ho' hm' hp' => ih s' post' ho' (by omega) hp')
def bx_sum (f : Nat → Int32) : Nat → Int32
  | 0 => 0
  | n + 1 => bx_sum f n + f n
theorem ek_u {A : Prop} {B : Nat → Prop} {k N : Nat} (hk : k < N) (h : B k) : (some k = none → A) ∧ (∀ y : Nat, some k = some y → (y < N ∧ B y)) :=
  ⟨fun z => absurd z (Option.some_ne_none k), fun _ e => (by cases e; exact ⟨hk, h⟩)⟩
theorem ek_nu {A : Prop} {B : Nat → Prop} (h : A) : ((none : Option Nat) = none → A) ∧ (∀ y : Nat, (none : Option Nat) = some y → B y) :=
  ⟨fun _ => h, fun _ e => (by cases e)⟩
theorem ek_if {c d A B : Prop} (e : c ↔ d) (f : d → A) (g : ¬ d → B) : (c → A) ∧ (¬ c → B) :=
  ⟨fun z => f (e.mp z), fun z => g (fun y => z (e.mpr y))⟩
theorem ek_v {α : Sort _} {P : α → Prop} {a b : α} (e : a = b) (h : P b) : P a := e ▸ h
theorem co_some {x : Option Nat} {A : Prop} {B : Nat → Prop} (i : Nat) (h : B i) (hx : x = some i := by rfl) : (x = none → A) ∧ (∀ y : Nat, x = some y → B y) := by
  subst hx
  exact ⟨fun e => (nomatch e), fun y e => Option.some.inj e ▸ h⟩
theorem co_none {x : Option Nat} {A : Prop} {B : Nat → Prop} (h : A) (hx : x = none := by rfl) : (x = none → A) ∧ (∀ y : Nat, x = some y → B y) := by
  subst hx
  exact ⟨fun _ => h, fun y e => (nomatch e)⟩
theorem co_any {x : Option Nat} {A : Prop} {B : Nat → Prop} (hn : x = none → A) (hs : ∀ i : Nat, x = some i → B i) : (x = none → A) ∧ (∀ y : Nat, x = some y → B y) := ⟨hn, hs⟩
theorem co_2 {P : Nat → Prop} (h0 : P 0) (h1 : P 1) {i : Nat} (hi : i < 2) : P i :=
  match i, hi with
  | 0, _ => h0
  | 1, _ => h1
theorem co_3 {P : Nat → Prop} (h0 : P 0) (h1 : P 1) (h2 : P 2) {i : Nat} (hi : i < 3) : P i :=
  match i, hi with
  | 0, _ => h0
  | 1, _ => h1
  | 2, _ => h2
theorem co_4 {P : Nat → Prop} (h0 : P 0) (h1 : P 1) (h2 : P 2) (h3 : P 3) {i : Nat} (hi : i < 4) : P i :=
  match i, hi with
  | 0, _ => h0
  | 1, _ => h1
  | 2, _ => h2
  | 3, _ => h3
theorem co_dec {N : Nat} {P : Nat → Prop} [DecidablePred P] (h : (List.range N).all (fun i => decide (P i)) = true) {i : Nat} (hi : i < N) : P i := by
  have := List.all_eq_true.mp h i (List.mem_range.mpr hi)
  exact of_decide_eq_true this
theorem co_tab {α : Type} {l : List α} {d : α} {P : α → Prop} (h : ∀ a, a ∈ l → P a) {i : Nat} (hi : i < l.length) : P (l.getD i d) := by
  rw [List.getD_eq_getElem?_getD, List.getElem?_eq_getElem hi]
  exact h _ (List.getElem_mem hi)
theorem pk_mu {x : Int32} {L : Nat} (h0 : ¬ x < 0) (h : ¬ nI L ≤ x) (hL : L < 2 ^ 31) : ∃ j : Nat, j < L ∧ x = nI j ∧ x + 1 = nI (j + 1) ∧ x.toNatClampNeg = j ∧ L - (x + 1).toNatClampNeg < L - x.toNatClampNeg := by
  obtain ⟨j, hj, rfl⟩ := nI_of h0
  have hl : j < L := Nat.not_le.mp fun q => h (nI_le q hj)
  refine ⟨j, hl, rfl, nI_1 j, nI_clamp hj, ?_⟩
  rw [nI_1, nI_clamp (by omega), nI_clamp hj]
  omega
theorem op_s {α : Type} {r : Option α} {A : Prop} {B : α → Prop} {y : α} (h : r = some y) (b : B y) : (r = none → A) ∧ ∀ z, r = some z → B z :=
  ⟨fun e => (by rw [h] at e; cases e), fun z e => (by rw [h] at e; cases e; exact b)⟩
def l_holds {α : Type} (a : Nat → Option Nat) (LP : List Nat) (p : Nat → α) (c : Nat) (b : Nat → α) : Prop :=
  ∀ j, j < c → ∃ y, a j = some y ∧ y ∈ LP ∧ p y = b j
theorem l_holds_0 {α : Type} {a : Nat → Option Nat} {LP : List Nat} {p b : Nat → α} : l_holds a LP p 0 b := fun j h => absurd h (Nat.not_lt_zero j)
theorem l_in_new (LP : List Nat) (q : Nat) : q ∈ LP ++ [q] := List.mem_append.mpr (Or.inr (List.mem_singleton.mpr rfl))
def l_sum (b : Nat → Int32) : Nat → Int32
  | 0 => 0
  | k + 1 => l_sum b k + b k
theorem sb_shr0 (x : Int32) : x >>> ((0 : Int32) &&& 31) = x := by
  rw [show ((0 : Int32) &&& 31) = 0 by decide]
  simp
theorem sb_shl0 (x : Int32) : x <<< ((0 : Int32) &&& 31) = x := by
  rw [show ((0 : Int32) &&& 31) = 0 by decide]
  simp
theorem sb_cl0 : (0 : Int32).toNatClampNeg = 0 := by decide
theorem sb_m1 {p : Nat} (h : 0 < p) : nI p + (-1) = nI (p - 1) := by
  obtain ⟨q, rfl⟩ : ∃ q, p = q + 1 := ⟨p - 1, by omega⟩
  exact pk_m1 q
def sb_b (c : Nat) : Int32 := (nI c).toInt8.toInt32
theorem sb_byte : ∀ c, c < 256 → sb_b c &&& 255 = nI c ∧ ((nI c).toUInt32 % 65536).toInt32 = nI c ∧ nI c ≤ 255 := by decide +kernel
def sb_Fit (a : Nat → Int32) : Prop := ∀ j, fits .byte (.int (a j)) = true
def sb_Lat (t : Nat → Nat) (n : Nat) (a : Nat → Int32) : Prop := ∀ j, j < n → t j < 256 ∧ a j = sb_b (t j)
theorem sb_fitB (c : Nat) : fits .byte (.int (sb_b c)) = true := pk_fb _
theorem sb_fit0 : sb_Fit (fun _ => 0) := fun _ => by
  show fits .byte (.int 0) = true
  decide
theorem sb_fitU {a : Nat → Int32} {k : Nat} {x : Int32} (h : sb_Fit a) (hx : fits .byte (.int x) = true) : sb_Fit (upd a k x) := by
  intro j
  by_cases e : j = k
  · subst e
    rw [pk_us]
    exact hx
  · rw [pk_un e]
    exact h j
def sb_cat (t : Nat → Nat) (n : Nat) (s : Nat → Nat) : Nat → Nat := fun j => if j < n then t j else s (j - n)
theorem sb_cat_lo {t s : Nat → Nat} {n j : Nat} (h : j < n) : sb_cat t n s j = t j := if_pos h
theorem sb_cat_hi {t s : Nat → Nat} {n j : Nat} : sb_cat t n s (n + j) = s j := by
  show (if n + j < n then t (n + j) else s (n + j - n)) = s j
  rw [if_neg (by omega), Nat.add_sub_cancel_left]
theorem sb_latPut {t s : Nat → Nat} {n w : Nat} {a a' : Nat → Int32} (h : sb_Lat t n a) (hk : ∀ j, j < n → a' j = a j) (hs : ∀ i, i < w → s i < 256 ∧ a' (n + i) = sb_b (s i)) : sb_Lat (sb_cat t n s) (n + w) a' := by
  intro j hj
  by_cases e : j < n
  · rw [sb_cat_lo e, hk j e]
    exact h j e
  · obtain ⟨i, rfl⟩ : ∃ i, j = n + i := ⟨j - n, by omega⟩
    rw [sb_cat_hi]
    exact hs i (by omega)
theorem sb_latKeep {t : Nat → Nat} {n : Nat} {a a' : Nat → Int32} (h : sb_Lat t n a) (hk : ∀ j, j < n → a' j = a j) : sb_Lat t n a' := fun j hj => by
  rw [hk j hj]
  exact h j hj
def sb_cap (q m : Nat) : Nat := if q ≤ m then m else if 2 * m + 2 < q then q else 2 * m + 2
def sb_Room (q m mc ms : Nat) : Prop := q ≤ m ∨ (1 ≤ mc ∧ sb_cap q m ≤ ms ∧ sb_cap q m ≤ 65536)
theorem sb_cap_ge (q m : Nat) : q ≤ sb_cap q m := by
  unfold sb_cap
  split
  · omega
  · split <;> omega
theorem sb_cap_gem (q m : Nat) : m ≤ sb_cap q m := by
  unfold sb_cap
  split
  · omega
  · split <;> omega
theorem sb_cap_le {q m mc ms : Nat} (hm : m ≤ 65536) (hr : sb_Room q m mc ms) : sb_cap q m ≤ 65536 := by
  rcases hr with h | h
  · rw [sb_cap, if_pos h]
    exact hm
  · exact h.2.2
theorem sb_at {P : Int32 → Prop} {x y : Int32} (e : x = y) (h : P y) : P x := e ▸ h
def sb_dg (w : Nat) : Nat := if w < 10 then 1 else if w < 100 then 2 else if w < 1000 then 3 else if w < 10000 then 4 else if w < 100000 then 5 else if w < 1000000 then 6 else if w < 10000000 then 7 else if w < 100000000 then 8 else if w < 1000000000 then 9 else 10
def sb_dec (v : Nat) : Nat → Nat := fun i => 48 + v / 10 ^ (sb_dg v - 1 - i) % 10
theorem sb_dg_in (w : Nat) : 1 ≤ sb_dg w ∧ sb_dg w ≤ 10 := by
  unfold sb_dg
  constructor <;> (repeat' split) <;> omega
theorem sb_dg100 {w : Nat} (h : 100 ≤ w) (hw : w < 2 ^ 31) : sb_dg w = sb_dg (w / 100) + 2 := by
  rw [sb_dg, sb_dg, if_neg (show ¬ w < 10 by omega), if_neg (show ¬ w < 100 by omega)]
  by_cases h3 : w < 1000
  · rw [if_pos h3, if_pos (show w / 100 < 10 by omega)]
  rw [if_neg h3, if_neg (show ¬ w / 100 < 10 by omega)]
  by_cases h4 : w < 10000
  · rw [if_pos h4, if_pos (show w / 100 < 100 by omega)]
  rw [if_neg h4, if_neg (show ¬ w / 100 < 100 by omega)]
  by_cases h5 : w < 100000
  · rw [if_pos h5, if_pos (show w / 100 < 1000 by omega)]
  rw [if_neg h5, if_neg (show ¬ w / 100 < 1000 by omega)]
  by_cases h6 : w < 1000000
  · rw [if_pos h6, if_pos (show w / 100 < 10000 by omega)]
  rw [if_neg h6, if_neg (show ¬ w / 100 < 10000 by omega)]
  by_cases h7 : w < 10000000
  · rw [if_pos h7, if_pos (show w / 100 < 100000 by omega)]
  rw [if_neg h7, if_neg (show ¬ w / 100 < 100000 by omega)]
  by_cases h8 : w < 100000000
  · rw [if_pos h8, if_pos (show w / 100 < 1000000 by omega)]
  rw [if_neg h8, if_neg (show ¬ w / 100 < 1000000 by omega)]
  by_cases h9 : w < 1000000000
  · rw [if_pos h9, if_pos (show w / 100 < 10000000 by omega)]
  rw [if_neg h9, if_neg (show ¬ w / 100 < 10000000 by omega)]
  rw [if_pos (show w / 100 < 100000000 by omega)]
theorem sb_negT {w : Nat} (h : w < 2 ^ 31) : (-nI w).toInt = -(w : Int) := by
  rw [Int32.toInt_neg, nI_toInt h]
  exact Int.bmod_eq_of_le (by omega) (by omega)
theorem sb_nle {a b : Nat} (ha : a < 2 ^ 31) (hb : b < 2 ^ 31) : -nI a ≤ -nI b ↔ b ≤ a := by
  rw [Int32.le_iff_toInt_le, sb_negT ha, sb_negT hb]
  omega
theorem sb_nlt {a b : Nat} (ha : a < 2 ^ 31) (hb : b < 2 ^ 31) : -nI a < -nI b ↔ b < a := by
  rw [Int32.lt_iff_toInt_lt, sb_negT ha, sb_negT hb]
  omega
theorem sb_cmp {A B : Prop} {x : Int32} (v c : Nat) (f : c ≤ v → A) (g : v < c → B) (hv : v < 2 ^ 31) (hx : x = -nI c := by rfl) (hc : c < 2 ^ 31 := by omega) : (-nI v ≤ x → A) ∧ (¬ -nI v ≤ x → B) := by
  subst hx
  rw [sb_nle hv hc]
  exact ⟨f, fun z => g (by omega)⟩
theorem sb_ndiv {w : Nat} (hw : w < 2 ^ 31) : (-nI w) / 100 = -nI (w / 100) := by
  apply Int32.toInt_inj.mp
  have h100 : (100 : Int32).toInt = 100 := by decide
  rw [Int32.toInt_div, sb_negT hw, h100, sb_negT (by omega), Int.neg_tdiv, Int.tdiv_eq_ediv_of_nonneg (by omega), Int.bmod_eq_of_le (by omega) (by omega)]
  omega
theorem sb_nrem {w : Nat} (hw : w < 2 ^ 31) : (-nI (w / 100)) * 100 - (-nI w) = nI (w % 100) := by
  have h := pk_rem (a := w) (d := 100) hw (by decide) (by decide)
  rw [pk_div hw (by decide) (by decide)] at h
  rw [← h]
  show (-nI (w / 100)) * nI 100 - (-nI w) = nI w - nI (w / 100) * nI 100
  rw [Int32.neg_mul, Int32.sub_neg, Int32.add_comm, ← Int32.sub_eq_add_neg]
end
section
/-! rows on bits, shifts and unsigned numbers, to paste: each family out of a closed proof of our own, whole with what it rests on; each by itself clean at Lean in its own claim (generation 39, form 5). Take a family whole -/
/-! ===== Int32 by its bits: bt x i ===== -/
def bt (x : Int32) (i : Nat) : Bool := x.toBitVec.getLsbD i
theorem b_ext {x y : Int32} (h : ∀ i, i < 32 → bt x i = bt y i) : x = y := Int32.toBitVec_inj.mp (BitVec.eq_of_getLsbD_eq (fun i hi => h i hi))
theorem b_or (x y : Int32) (i : Nat) : bt (x ||| y) i = (bt x i || bt y i) := by unfold bt; rw [Int32.toBitVec_or, BitVec.getLsbD_or]
theorem b_and (x y : Int32) (i : Nat) : bt (x &&& y) i = (bt x i && bt y i) := by unfold bt; rw [Int32.toBitVec_and, BitVec.getLsbD_and]
theorem b_xor (x y : Int32) (i : Nat) : bt (x ^^^ y) i = (bt x i ^^ bt y i) := by unfold bt; rw [Int32.toBitVec_xor, BitVec.getLsbD_xor]
theorem b_big {x : Int32} {i : Nat} (h : 32 ≤ i) : bt x i = false := BitVec.getLsbD_of_ge _ _ h
theorem b_255 (i : Nat) : bt 255 i = decide (i < 8) := by
  rcases Nat.lt_or_ge i 32 with h | h
  · exact (by decide +kernel : ∀ i, i < 32 → bt 255 i = decide (i < 8)) i h
  · rw [b_big h, decide_eq_false (by omega)]
theorem b_65535 (i : Nat) : bt 65535 i = decide (i < 16) := by
  rcases Nat.lt_or_ge i 32 with h | h
  · exact (by decide +kernel : ∀ i, i < 32 → bt 65535 i = decide (i < 16)) i h
  · rw [b_big h, decide_eq_false (by omega)]
theorem b_m1 : ∀ i, i < 32 → bt (-1) i = true := by decide +kernel
theorem b_0 (i : Nat) : bt 0 i = false := BitVec.getLsbD_zero
theorem s_l : ∀ n, n < 32 → ((nI n &&& 31).toBitVec.smod 32).toNat = n := by decide +kernel
theorem s_u : ∀ n, n < 32 → (((nI n).toUInt32 &&& Int32.toUInt32 31).toBitVec % 32).toNat = n := by decide +kernel
theorem b_shl (n : Nat) (hn : n < 32) (x : Int32) {i : Nat} (hi : i < 32) : bt (x <<< (nI n &&& 31)) i = (decide (n ≤ i) && bt x (i - n)) := by
  unfold bt
  rw [Int32.toBitVec_shiftLeft]
  show (x.toBitVec <<< ((nI n &&& 31).toBitVec.smod 32).toNat).getLsbD i = _
  rw [s_l n hn, BitVec.getLsbD_shiftLeft]
  rcases Nat.lt_or_ge i n with h | h
  · simp [h, Nat.not_le.mpr h]
  · simp [hi, h, Nat.not_lt.mpr h]
theorem b_ushr (n : Nat) (hn : n < 32) (x : Int32) (i : Nat) : bt ((x.toUInt32 >>> ((nI n).toUInt32 &&& Int32.toUInt32 31)).toInt32) i = bt x (n + i) := by
  show (x.toUInt32 >>> ((nI n).toUInt32 &&& Int32.toUInt32 31)).toBitVec.getLsbD i = x.toUInt32.toBitVec.getLsbD (n + i)
  rw [UInt32.toBitVec_shiftRight]
  show (x.toUInt32.toBitVec >>> (((nI n).toUInt32 &&& Int32.toUInt32 31).toBitVec % 32).toNat).getLsbD i = _
  rw [s_u n hn, BitVec.getLsbD_ushiftRight]
theorem b_sshr (n : Nat) (hn : n < 32) (x : Int32) {i : Nat} (hi : i < 32) : bt (x >>> (nI n &&& 31)) i = if n + i < 32 then bt x (n + i) else bt x 31 := by
  unfold bt
  rw [Int32.toBitVec_shiftRight]
  show (x.toBitVec.sshiftRight ((nI n &&& 31).toBitVec.smod 32).toNat).getLsbD i = _
  rw [s_l n hn, BitVec.getLsbD_sshiftRight, BitVec.msb_eq_getLsbD_last]
  simp [hi]
theorem b_shl8 (x : Int32) {i : Nat} (hi : i < 32) : bt (x <<< ((8 : Int32) &&& 31)) i = (decide (8 ≤ i) && bt x (i - 8)) := b_shl 8 (by omega) x hi
theorem b_shl16 (x : Int32) {i : Nat} (hi : i < 32) : bt (x <<< ((16 : Int32) &&& 31)) i = (decide (16 ≤ i) && bt x (i - 16)) := b_shl 16 (by omega) x hi
theorem b_shl24 (x : Int32) {i : Nat} (hi : i < 32) : bt (x <<< ((24 : Int32) &&& 31)) i = (decide (24 ≤ i) && bt x (i - 24)) := b_shl 24 (by omega) x hi
theorem b_sshr8 (x : Int32) {i : Nat} (hi : i < 32) : bt (x >>> ((8 : Int32) &&& 31)) i = if 8 + i < 32 then bt x (8 + i) else bt x 31 := b_sshr 8 (by omega) x hi
/-! ===== nI under and, xor, >>>, one bit, 65535 ===== -/
theorem nx_and (a b : Nat) : nI a &&& nI b = nI (a &&& b) := by
  apply Int32.toBitVec_inj.1
  show BitVec.ofNat 32 a &&& BitVec.ofNat 32 b = BitVec.ofNat 32 (a &&& b)
  apply BitVec.eq_of_getLsbD_eq
  intro i hi
  simp [hi]
theorem nx_xor (a b : Nat) : nI a ^^^ nI b = nI (a ^^^ b) := by
  apply Int32.toBitVec_inj.1
  show BitVec.ofNat 32 a ^^^ BitVec.ofNat 32 b = BitVec.ofNat 32 (a ^^^ b)
  apply BitVec.eq_of_getLsbD_eq
  intro i hi
  simp [hi]
theorem nx_cnt : ∀ j : Fin 32, (UInt32.ofNat j.val &&& Int32.toUInt32 31).toNat % 32 = j.val := by decide +kernel
theorem nx_ush {k j : Nat} (hk : k < 65536) (hj : j < 32) : ((nI k).toUInt32 >>> ((nI j).toUInt32 &&& Int32.toUInt32 31)).toInt32 = nI (k >>> j) := by
  have hs : k >>> j ≤ k := by
    rw [Nat.shiftRight_eq_div_pow]
    exact Nat.div_le_self _ _
  have e2 : UInt32.ofNat k >>> (UInt32.ofNat j &&& Int32.toUInt32 31) = UInt32.ofNat (k >>> j) := by
    apply UInt32.toNat_inj.1
    have h1 : (UInt32.ofNat k).toNat = k := Nat.mod_eq_of_lt (by omega)
    have h2 : (UInt32.ofNat (k >>> j)).toNat = k >>> j := Nat.mod_eq_of_lt (by omega)
    rw [UInt32.toNat_shiftRight, nx_cnt ⟨j, hj⟩, h1, h2]
  show (UInt32.ofNat k >>> (UInt32.ofNat j &&& Int32.toUInt32 31)).toInt32 = _
  rw [e2]
  rfl
theorem nx_bit {k j : Nat} (hk : k < 65536) (hj : j < 16) : (((nI k).toUInt32 >>> ((nI j).toUInt32 &&& Int32.toUInt32 31)).toInt32 &&& 1) = 0 ↔ k.testBit j = false := by
  rw [nx_ush hk (by omega)]
  show nI (k >>> j) &&& nI 1 = 0 ↔ _
  rw [nx_and, Nat.and_one_is_mod, ← nI_0, nI_eq (by omega) (by omega), Nat.testBit_eq_decide_div_mod_eq, Nat.shiftRight_eq_div_pow, decide_eq_false_iff_not]
  generalize k / 2 ^ j = z
  omega
theorem nx_mod (k : Nat) : nI k &&& 65535 = nI (k % 65536) := by
  show nI k &&& nI 65535 = _
  rw [nx_and, show (65535 : Nat) = 2 ^ 16 - 1 from rfl, Nat.and_two_pow_sub_one_eq_mod]
theorem nx_m16 {k : Nat} (h : k < 65536) : nI k &&& 65535 = nI k := by rw [nx_mod, Nat.mod_eq_of_lt h]
theorem nx_mask (x : Int32) : ∃ k, k < 65536 ∧ x &&& 65535 = nI k := by
  have e : x = nI x.toBitVec.toNat := by
    apply Int32.toBitVec_inj.1
    show x.toBitVec = BitVec.ofNat 32 x.toBitVec.toNat
    simp
  refine ⟨x.toBitVec.toNat % 65536, Nat.mod_lt _ (by omega), ?_⟩
  rw [← nx_mod, ← e]
/-! ===== Int32 as a set of bits: test, set ===== -/
def nf_M (m : Int32) : Nat := 4294967296 - m.toBitVec.toNat
theorem nf_sh : ∀ l, l < 32 → ((1 : Int32) <<< (nI l &&& 31)).toBitVec = BitVec.twoPow 32 l := by decide +kernel
theorem nf_sl : ∀ l, l < 32 → (((nI l).toUInt32 &&& Int32.toUInt32 31).toBitVec % 32).toNat = l := by decide +kernel
theorem nf_tp : ∀ l, l < 32 → BitVec.twoPow 32 l ≠ 0#32 := by decide +kernel
theorem nf_bit (m : Int32) (l : Nat) (hl : l < 32) : ((m.toUInt32 >>> ((nI l).toUInt32 &&& Int32.toUInt32 31)).toInt32 &&& 1) = 0 ↔ (m &&& ((1 : Int32) <<< (nI l &&& 31))) = 0 := by
  have e : ((m.toUInt32 >>> ((nI l).toUInt32 &&& Int32.toUInt32 31)).toInt32).toBitVec = m.toBitVec >>> l := by
    show m.toBitVec >>> (((nI l).toUInt32 &&& Int32.toUInt32 31).toBitVec % 32) = m.toBitVec >>> l
    rw [BitVec.ushiftRight_eq', nf_sl l hl]
  rw [← Int32.toBitVec_inj, ← Int32.toBitVec_inj, Int32.toBitVec_and, Int32.toBitVec_and, nf_sh l hl, e, BitVec.and_twoPow]
  show (m.toBitVec >>> l &&& 1#32) = 0#32 ↔ _ = 0#32
  rw [BitVec.and_one_eq_setWidth_ofBool_getLsbD, BitVec.getLsbD_ushiftRight, Nat.add_zero]
  cases hb : m.toBitVec.getLsbD l
  · exact ⟨fun _ => by simp, fun _ => by decide⟩
  · exact ⟨fun z => absurd z (by decide), fun z => absurd ((if_pos rfl).symm.trans z) (nf_tp l hl)⟩
theorem nf_gr (m k : Int32) (h : m &&& k = 0) (hk : k ≠ 0) : nf_M (m ||| k) < nf_M m := by
  have hm := m.toBitVec.isLt
  have hm' := (m ||| k).toBitVec.isLt
  have h1 : m.toBitVec.toNat ≤ (m ||| k).toBitVec.toNat := by
    rw [Int32.toBitVec_or, BitVec.toNat_or]
    exact Nat.left_le_or
  have h2 : m.toBitVec.toNat ≠ (m ||| k).toBitVec.toNat := by
    intro e
    have e2 : m = m ||| k := Int32.toBitVec_inj.mp (BitVec.eq_of_toNat_eq e)
    apply hk
    apply Int32.toBitVec_inj.mp
    show k.toBitVec = 0#32
    apply BitVec.eq_of_getLsbD_eq
    intro i hi
    have a : m.toBitVec.getLsbD i = (m.toBitVec.getLsbD i || k.toBitVec.getLsbD i) := by rw [← BitVec.getLsbD_or, ← Int32.toBitVec_or, ← e2]
    have b : (m.toBitVec.getLsbD i && k.toBitVec.getLsbD i) = false := by
      rw [← BitVec.getLsbD_and, ← Int32.toBitVec_and, h]
      exact BitVec.getLsbD_zero
    rw [BitVec.getLsbD_zero]
    revert a b
    cases m.toBitVec.getLsbD i <;> cases k.toBitVec.getLsbD i <;> simp
  unfold nf_M
  omega
/-! ===== a byte read unsigned ===== -/
theorem bp_b (x : Int32) : x.toInt8.toInt32 &&& 255 = x &&& 255 := by
  apply Int32.toBitVec_inj.mp
  rw [Int32.toBitVec_and, Int32.toBitVec_and, Int8.toBitVec_toInt32, Int32.toBitVec_toInt8]
  apply BitVec.eq_of_getLsbD_eq
  intro i hi
  rw [BitVec.getLsbD_and, BitVec.getLsbD_and]
  have hm : ∀ i < 32, 8 ≤ i → (255 : Int32).toBitVec.getLsbD i = false := by decide
  rcases Nat.lt_or_ge i 8 with z | z
  · rw [BitVec.getLsbD_signExtend, BitVec.getLsbD_signExtend, if_pos z, if_pos hi]
    simp only [z, hi, decide_true, Bool.true_and]
  · rw [hm i hi z]; simp
/-! ===== the char cast and 65535 ===== -/
theorem em_w (v : Int32) : ∃ w : Nat, w < 65536 ∧ (v.toUInt32 % 65536).toInt32 = nI w ∧ v &&& 65535 = nI w := by
  have hr := lw_u16_r v
  have h0 : (0 : Int32).toInt = 0 := by decide
  obtain ⟨w, h1, h2⟩ := nI_of (x := lw_u16 v) (by rw [Int32.lt_iff_toInt_lt]; omega)
  have h3 : (v.toUInt32 % 65536).toInt32 = nI w := h2
  rw [h2, nI_toInt h1] at hr
  exact ⟨w, by omega, h3, by rw [← lg_i2c_mask, ← lg_i2c_nf, h3]⟩
/-! ===== Int64 as a set of bits: test, set, clear ===== -/
theorem ts_nf {x : Bool} (h : ¬ x = false) : x = true := by cases x <;> first | rfl | exact absurd rfl h
theorem ts_nt {x : Bool} (h : ¬ x = true) : x = false := by cases x <;> first | rfl | exact absurd rfl h
theorem ts_bit {w : Int64} {s : UInt64} {j : Nat} (hj : j < 64) (hs : s.toNat = j) : ((w.toUInt64 >>> s).toInt64 &&& 1) = 0 ↔ w.toBitVec.getLsbD j = false := by
  have e : (w.toUInt64 >>> s).toInt64.toBitVec = w.toBitVec >>> j := by
    apply BitVec.eq_of_toNat_eq
    show (w.toUInt64 >>> s).toNat = _
    rw [UInt64.toNat_shiftRight, hs, Nat.mod_eq_of_lt hj, BitVec.toNat_ushiftRight]
    rfl
  rw [← Int64.toBitVec_inj, Int64.toBitVec_and, e]
  show w.toBitVec >>> j &&& 1#64 = 0#64 ↔ _
  constructor
  · intro h
    have t := congrArg (fun x => x.getLsbD 0) h
    simpa using t
  · intro h
    apply BitVec.eq_of_getLsbD_eq
    intro i hi
    cases i with
    | zero => simp [h]
    | succ i => simp
theorem ts_or {w m : Int64} {j : Nat} (hj : j < 64) (hm : m.toBitVec = BitVec.twoPow 64 j) : (w ||| m) = w ↔ w.toBitVec.getLsbD j = true := by
  rw [← Int64.toBitVec_inj, Int64.toBitVec_or, hm]
  constructor
  · intro h
    have t := congrArg (fun x => x.getLsbD j) h
    simp only [BitVec.getLsbD_or, BitVec.getLsbD_twoPow] at t
    simpa [hj] using t.symm
  · intro h
    apply BitVec.eq_of_getLsbD_eq
    intro i hi
    rw [BitVec.getLsbD_or, BitVec.getLsbD_twoPow]
    by_cases e : j = i
    · subst e; rw [h, Bool.true_or]
    · simp [e]
theorem ts_and {w m : Int64} {j : Nat} (hj : j < 64) (hm : m.toBitVec = BitVec.twoPow 64 j) : (w &&& (m ^^^ (-1))) = w ↔ w.toBitVec.getLsbD j = false := by
  have ha : (-1 : Int64).toBitVec = BitVec.allOnes 64 := by decide
  rw [← Int64.toBitVec_inj, Int64.toBitVec_and, Int64.toBitVec_xor, hm, ha]
  constructor
  · intro h
    have t := congrArg (fun x => x.getLsbD j) h
    simp only [BitVec.getLsbD_and, BitVec.getLsbD_xor, BitVec.getLsbD_twoPow, BitVec.getLsbD_allOnes] at t
    simpa [hj] using t.symm
  · intro h
    apply BitVec.eq_of_getLsbD_eq
    intro i hi
    rw [BitVec.getLsbD_and, BitVec.getLsbD_xor, BitVec.getLsbD_twoPow, BitVec.getLsbD_allOnes]
    by_cases e : j = i
    · subst e; rw [h, Bool.false_and]
    · simp [e, hi]
/-! ===== lN n to 2^64: shifts, and, or, masks, one bit ===== -/
theorem wb_tb (n : Nat) : (lN n).toBitVec = BitVec.ofNat 64 n := rfl
theorem wb_inj {a b : Int64} (h : a.toBitVec = b.toBitVec) : a = b := Int64.toBitVec_inj.mp h
theorem wb_tn {n : Nat} (h : n < 2 ^ 64) : (lN n).toBitVec.toNat = n := by rw [wb_tb, BitVec.toNat_ofNat, Nat.mod_eq_of_lt h]
theorem wb_of (x : Int64) : ∃ n, n < 2 ^ 64 ∧ x = lN n := ⟨x.toBitVec.toNat, x.toBitVec.isLt, wb_inj (by rw [wb_tb]; simp)⟩
theorem wb_of32 (x : Int32) : ∃ n, n < 2 ^ 32 ∧ x = nI n := ⟨x.toBitVec.toNat, x.toBitVec.isLt, Int32.toBitVec_inj.mp (by show _ = BitVec.ofNat 32 _; simp)⟩
theorem wb_c : ∀ k, k < 64 → ((nI k).toInt64 &&& 63) = lN k := by decide +kernel
theorem wb_cu : ∀ k, k < 64 → ((nI k).toInt64.toUInt64 &&& Int64.toUInt64 63) = UInt64.ofNat k := by decide +kernel
theorem wb_sm : ∀ k, k < 64 → (BitVec.ofNat 64 k).smod 64 = BitVec.ofNat 64 k := by decide +kernel
theorem wb_pw {a b : Nat} (h : a ≤ b) : 2 ^ b = 2 ^ a * 2 ^ (b - a) := by rw [← Nat.pow_add]; congr 1; omega
theorem wb_lt2 {a b : Nat} (h : a < b) : 2 ^ a < 2 ^ b := Nat.pow_lt_pow_right (by decide) h
theorem wb_mod (n : Nat) : lN n = lN (n % 2 ^ 64) := wb_inj (by rw [wb_tb, wb_tb]; apply BitVec.eq_of_toNat_eq; rw [BitVec.toNat_ofNat, BitVec.toNat_ofNat, Nat.mod_mod])
theorem wb_shr {n k : Nat} (hn : n < 2 ^ 64) (hk : k < 64) : ((lN n).toUInt64 >>> ((nI k).toInt64.toUInt64 &&& Int64.toUInt64 63)).toInt64 = lN (n / 2 ^ k) := by
  rw [wb_cu k hk]
  apply wb_inj
  apply BitVec.eq_of_toNat_eq
  show ((lN n).toUInt64 >>> UInt64.ofNat k).toNat = (BitVec.ofNat 64 _).toNat
  have h1 : (UInt64.ofNat k).toNat = k := by
    show (BitVec.ofNat 64 k).toNat = k
    rw [BitVec.toNat_ofNat, Nat.mod_eq_of_lt (by omega)]
  have h2 : (lN n).toUInt64.toNat = n := wb_tn hn
  rw [UInt64.toNat_shiftRight, h1, h2, Nat.mod_eq_of_lt hk, Nat.shiftRight_eq_div_pow, BitVec.toNat_ofNat, Nat.mod_eq_of_lt (Nat.lt_of_le_of_lt (Nat.div_le_self _ _) hn)]
theorem wb_shl (n : Nat) {k : Nat} (hk : k < 64) : lN n <<< ((nI k).toInt64 &&& 63) = lN (n * 2 ^ k) := by
  rw [wb_c k hk]
  apply wb_inj
  rw [Int64.toBitVec_shiftLeft, wb_tb, wb_tb, wb_tb, wb_sm k hk]
  apply BitVec.eq_of_toNat_eq
  rw [BitVec.shiftLeft_eq', BitVec.toNat_shiftLeft, BitVec.toNat_ofNat, BitVec.toNat_ofNat, BitVec.toNat_ofNat, Nat.mod_eq_of_lt (show k < 2 ^ 64 by omega), Nat.shiftLeft_eq, Nat.mul_mod, Nat.mod_mod, ← Nat.mul_mod]
theorem wb_and {a b : Nat} (ha : a < 2 ^ 64) (hb : b < 2 ^ 64) : lN a &&& lN b = lN (a &&& b) := by
  apply wb_inj
  rw [Int64.toBitVec_and, wb_tb, wb_tb, wb_tb]
  apply BitVec.eq_of_toNat_eq
  rw [BitVec.toNat_and, BitVec.toNat_ofNat, BitVec.toNat_ofNat, BitVec.toNat_ofNat, Nat.mod_eq_of_lt ha, Nat.mod_eq_of_lt hb, Nat.mod_eq_of_lt (Nat.and_lt_two_pow _ hb)]
theorem wb_or {a b : Nat} (ha : a < 2 ^ 64) (hb : b < 2 ^ 64) : lN a ||| lN b = lN (a ||| b) := by
  apply wb_inj
  rw [Int64.toBitVec_or, wb_tb, wb_tb, wb_tb]
  apply BitVec.eq_of_toNat_eq
  rw [BitVec.toNat_or, BitVec.toNat_ofNat, BitVec.toNat_ofNat, BitVec.toNat_ofNat, Nat.mod_eq_of_lt ha, Nat.mod_eq_of_lt hb, Nat.mod_eq_of_lt (Nat.or_lt_two_pow ha hb)]
theorem wb_mask {n k : Nat} (hn : n < 2 ^ 64) (hk : k < 64) : lN n &&& lN (2 ^ k - 1) = lN (n % 2 ^ k) := by
  rw [wb_and hn (by have := wb_lt2 hk; omega), Nat.and_two_pow_sub_one_eq_mod]
theorem wb_a1 {n : Nat} (hn : n < 2 ^ 64) : lN n &&& 1 = lN (n % 2) := wb_mask (k := 1) hn (by decide)
theorem wb_bit {n k : Nat} (hn : n < 2 ^ 64) (hk : k < 64) : ((lN n).toUInt64 >>> ((nI k).toInt64.toUInt64 &&& Int64.toUInt64 63)).toInt64 &&& 1 = lN (n / 2 ^ k % 2) := by
  rw [wb_shr hn hk, wb_a1 (Nat.lt_of_le_of_lt (Nat.div_le_self _ _) hn)]
theorem wb_xor {q k : Nat} (hk : k < 63) (h : 2 ^ k ≤ q) (h2 : q < 2 ^ (k + 1)) : lN q ^^^ lN (2 ^ k) = lN (q - 2 ^ k) := by
  obtain ⟨r, rfl⟩ : ∃ r, q = 2 ^ k + r := ⟨q - 2 ^ k, by omega⟩
  have hr : r < 2 ^ k := by rw [Nat.pow_succ] at h2; omega
  have hx : (2 ^ k + r) ^^^ 2 ^ k = r := by
    apply Nat.eq_of_testBit_eq
    intro i
    rw [Nat.testBit_xor, Nat.testBit_two_pow]
    rcases Nat.lt_trichotomy i k with h | h | h
    · rw [Nat.testBit_two_pow_add_gt h]
      simp [show ¬ k = i by omega]
    · subst h
      rw [Nat.testBit_two_pow_add_eq]
      simp
    · have a1 : 2 ^ (k + 1) ≤ 2 ^ i := Nat.pow_le_pow_right (by decide) h
      rw [Nat.testBit_lt_two_pow (show 2 ^ k + r < 2 ^ i by omega), Nat.testBit_lt_two_pow (show r < 2 ^ i by omega)]
      simp [show ¬ k = i by omega]
  have b1 := wb_lt2 (show k + 1 < 64 by omega)
  have b2 := wb_lt2 (show k < 64 by omega)
  apply wb_inj
  rw [Int64.toBitVec_xor, wb_tb, wb_tb, wb_tb]
  apply BitVec.eq_of_toNat_eq
  rw [BitVec.toNat_xor, BitVec.toNat_ofNat, BitVec.toNat_ofNat, BitVec.toNat_ofNat, Nat.mod_eq_of_lt (by omega : 2 ^ k + r < 2 ^ 64), Nat.mod_eq_of_lt b2, hx, Nat.add_sub_cancel_left, Nat.mod_eq_of_lt (by omega)]
/-! ===== lN: masks, 'or' of parts that don't overlap is a sum ===== -/
theorem u_tn {n : Nat} (h : n < 2 ^ 64) : (UInt64.ofNat n).toNat = n := Nat.mod_eq_of_lt h
theorem g_and {a b c : Nat} (ha : a < 2 ^ 64) (hb : b < 2 ^ 64) (hc : a &&& b = c) : lN a &&& lN b = lN c := by
  subst hc
  have h : UInt64.ofNat a &&& UInt64.ofNat b = UInt64.ofNat (a &&& b) := UInt64.toNat_inj.mp (by rw [UInt64.toNat_and, u_tn ha, u_tn hb, u_tn (Nat.and_lt_two_pow a hb)])
  have h2 := congrArg UInt64.toInt64 h
  exact h2
theorem g_and1 {a : Nat} (ha : a < 2 ^ 64) : lN a &&& 1 = lN (a % 2) := g_and (b := 1) ha (by decide) (Nat.and_two_pow_sub_one_eq_mod a 1)
theorem g_mask {a s p : Nat} (hp : 2 ^ s = p) (hs : s < 64) (ha : a < 2 ^ 64) : lN a &&& lN (p - 1) = lN (a % p) := by
  subst hp
  have := Nat.pow_lt_pow_right (show 1 < 2 by decide) hs
  exact g_and ha (by omega) (Nat.and_two_pow_sub_one_eq_mod a s)
theorem g_or {k p a b : Nat} (hp : 2 ^ k = p) (ha : a < p) (h : b * p + a < 2 ^ 64) : lN (b * p) ||| lN a = lN (b * p + a) := by
  subst hp
  have h1 : b * 2 ^ k ||| a = b * 2 ^ k + a := by rw [← Nat.shiftLeft_eq, Nat.shiftLeft_add_eq_or_of_lt ha]
  have h3 : UInt64.ofNat (b * 2 ^ k) ||| UInt64.ofNat a = UInt64.ofNat (b * 2 ^ k + a) := UInt64.toNat_inj.mp (by rw [UInt64.toNat_or, u_tn (by omega), u_tn (by omega), u_tn h, h1])
  have h2 := congrArg UInt64.toInt64 h3
  exact h2
theorem g_or' {k p a b : Nat} (hp : 2 ^ k = p) (ha : a < p) (h : a + b * p < 2 ^ 64) : lN a ||| lN (b * p) = lN (a + b * p) := by
  rw [Int64.or_comm, g_or hp ha (by omega), Nat.add_comm]
theorem g_ushr {a k p : Nat} {y : UInt64} (hy : y = UInt64.ofNat k) (hk : k < 64) (hp : 2 ^ k = p) (ha : a < 2 ^ 64) : ((lN a).toUInt64 >>> y).toInt64 = lN (a / p) := by
  subst hy hp
  have h : UInt64.ofNat a >>> UInt64.ofNat k = UInt64.ofNat (a / 2 ^ k) := UInt64.toNat_inj.mp (by rw [UInt64.toNat_shiftRight, u_tn ha, u_tn (by omega), u_tn (Nat.lt_of_le_of_lt (Nat.div_le_self _ _) ha), Nat.mod_eq_of_lt hk, Nat.shiftRight_eq_div_pow])
  have h2 := congrArg UInt64.toInt64 h
  exact h2
theorem g_shl {a k p : Nat} {y : Int64} (hy : y.toBitVec.smod 64 = BitVec.ofNat 64 k) (hk : k < 64) (hp : 2 ^ k = p) (ha : a < 2 ^ 64) : lN a <<< y = lN (a * p) := by
  subst hp
  apply Int64.toBitVec_inj.mp
  rw [Int64.toBitVec_shiftLeft, hy]
  apply BitVec.eq_of_toNat_eq
  have hb : (lN a).toBitVec.toNat = a := Nat.mod_eq_of_lt ha
  have hk' : (BitVec.ofNat 64 k).toNat = k := Nat.mod_eq_of_lt (by omega)
  have h : ((lN a).toBitVec <<< BitVec.ofNat 64 k).toNat = (a * 2 ^ k) % 2 ^ 64 := by simp only [BitVec.shiftLeft_eq', BitVec.toNat_shiftLeft, hb, hk', Nat.shiftLeft_eq]
  exact h
/-! ===== lN to 2^62 under >> and >>> ===== -/
theorem pf_lI {a : Nat} (h : a < 2 ^ 63) : (lN a).toInt = (a : Int) := lg_ofNat_toInt h
theorem pf_shr {a d : Nat} {D : Int64} (hD : (D.toBitVec.smod 64).toNat = d) (h : a < 2 ^ 62) : lN a >>> D = lN (a / 2 ^ d) := by
  have hd : a / 2 ^ d ≤ a := Nat.div_le_self _ _
  apply Int64.toInt_inj.mp
  have e : (lN a >>> D).toInt = (lN a).toInt >>> d := by
    rw [← hD]
    exact BitVec.toInt_sshiftRight ..
  rw [e, Int.shiftRight_eq_div_pow, pf_lI (by omega), pf_lI (by omega)]
  rfl
theorem pf_ushr {a d : Nat} {D : UInt64} (hD : D.toNat % 64 = d) (h : a < 2 ^ 62) : ((lN a).toUInt64 >>> D).toInt64 = lN (a / 2 ^ d) := by
  have hd : a / 2 ^ d ≤ a := Nat.div_le_self _ _
  have e : (lN a).toUInt64 >>> D = UInt64.ofNat (a / 2 ^ d) := UInt64.toNat_inj.mp (by
    rw [UInt64.toNat_shiftRight, hD, Nat.shiftRight_eq_div_pow, UInt64.toNat_ofNat']
    show (UInt64.ofNat a).toNat / 2 ^ d = _
    rw [UInt64.toNat_ofNat', Nat.mod_eq_of_lt (by omega), Nat.mod_eq_of_lt (by omega)])
  rw [e]
  rfl
theorem pf_andw (x : Int64) : ∃ m, m < 2 ^ 32 ∧ x &&& 4294967295 = lN m := ⟨x.toBitVec.toNat % 2 ^ 32, Nat.mod_lt _ (by decide), Int64.toBitVec_inj.mp (BitVec.eq_of_toNat_eq (by
  show (x.toBitVec &&& 4294967295#64).toNat = (BitVec.ofNat 64 (x.toBitVec.toNat % 2 ^ 32)).toNat
  rw [BitVec.toNat_and, show (4294967295#64).toNat = 2 ^ 32 - 1 from by decide, Nat.and_two_pow_sub_one_eq_mod, BitVec.toNat_ofNat]
  omega))⟩
/-! ===== Int64 as an unsigned number: uN x ===== -/
def uN (x : Int64) : Nat := x.toUInt64.toNat
theorem uN_lt (x : Int64) : uN x < 18446744073709551616 := x.toUInt64.toNat_lt
theorem uN_inj {x y : Int64} (h : uN x = uN y) : x = y := congrArg UInt64.toInt64 (UInt64.toNat_inj.mp h)
theorem uN_add (x y : Int64) : uN (x + y) = (uN x + uN y) % 18446744073709551616 := by
  show (x.toUInt64 + y.toUInt64).toNat = _
  exact UInt64.toNat_add _ _
theorem uN_mul (x y : Int64) : uN (x * y) = (uN x * uN y) % 18446744073709551616 := by
  show (x.toUInt64 * y.toUInt64).toNat = _
  exact UInt64.toNat_mul _ _
theorem uN_shl (x : Int64) : uN (x <<< ((1 : Int32).toInt64 &&& 63)) = (2 * uN x) % 18446744073709551616 := by
  have h : (((1 : Int32).toInt64 &&& 63).toBitVec.smod 64).toNat = 1 := by decide
  show (x.toBitVec <<< (((1 : Int32).toInt64 &&& 63).toBitVec.smod 64).toNat).toNat = _
  rw [h, BitVec.toNat_shiftLeft, Nat.shiftLeft_eq, Nat.mul_comm]
  rfl
theorem uN_shr (x : Int64) (s : UInt64) : uN (x.toUInt64 >>> s).toInt64 = uN x / 2 ^ (s.toNat % 64) := by
  show (x.toUInt64 >>> s).toNat = _
  rw [UInt64.toNat_shiftRight, Nat.shiftRight_eq_div_pow]
  rfl
theorem uN_s32 (x : Int64) : uN (x.toUInt64 >>> ((32 : Int32).toInt64.toUInt64 &&& Int64.toUInt64 63)).toInt64 = uN x / 4294967296 := by
  have h : ((32 : Int32).toInt64.toUInt64 &&& Int64.toUInt64 63).toNat % 64 = 32 := by decide
  rw [uN_shr, h]
theorem uN_s63 (x : Int64) : uN (x.toUInt64 >>> ((63 : Int32).toInt64.toUInt64 &&& Int64.toUInt64 63)).toInt64 = uN x / 9223372036854775808 := by
  have h : ((63 : Int32).toInt64.toUInt64 &&& Int64.toUInt64 63).toNat % 64 = 63 := by decide
  rw [uN_shr, h]
theorem uN_lo (x : Int64) : uN (x &&& 4294967295) = uN x % 4294967296 := by
  show (x.toUInt64 &&& Int64.toUInt64 4294967295).toNat = _
  rw [UInt64.toNat_and]
  exact Nat.and_two_pow_sub_one_eq_mod _ 32
theorem uN_bit (x : Int64) : (x &&& 1) = 0 ↔ uN x % 2 = 0 := by
  have h : uN (x &&& 1) = uN x % 2 := by
    show (x.toUInt64 &&& Int64.toUInt64 1).toNat = _
    rw [UInt64.toNat_and]
    exact Nat.and_two_pow_sub_one_eq_mod _ 1
  rw [← h]
  exact ⟨fun z => by rw [z]; rfl, fun z => uN_inj (z.trans rfl)⟩
theorem uN_or {x y : Int64} (hy : uN y < 2) : uN ((x <<< ((1 : Int32).toInt64 &&& 63)) ||| y) = (2 * uN x) % 18446744073709551616 + uN y := by
  have h1 : uN ((x <<< ((1 : Int32).toInt64 &&& 63)) ||| y) = uN (x <<< ((1 : Int32).toInt64 &&& 63)) ||| uN y := UInt64.toNat_or _ _
  have h2 : (2 * uN x) % 18446744073709551616 = 2 ^ 1 * (uN x % 9223372036854775808) := by omega
  rw [h1, uN_shl, h2]
  exact (Nat.two_pow_add_eq_or_of_lt (i := 1) hy _).symm
theorem nat_xor {a : Nat} (h : a < 18446744073709551616) : a ^^^ 2 ^ 63 = (a + 9223372036854775808) % 18446744073709551616 := by
  have h1 : (a ^^^ 2 ^ 63) % 2 ^ 63 = a % 2 ^ 63 := by rw [Nat.xor_mod_two_pow, Nat.mod_self, Nat.xor_zero]
  have h2 : (a ^^^ 2 ^ 63) / 2 ^ 63 = (a / 2 ^ 63) ^^^ 1 := by rw [Nat.xor_div_two_pow, Nat.div_self (Nat.two_pow_pos 63)]
  have h3 : a / 2 ^ 63 = 0 ∨ a / 2 ^ 63 = 1 := by omega
  generalize a ^^^ 2 ^ 63 = t at h1 h2
  rcases h3 with h3 | h3
  · rw [h3] at h2
    have h2 : t / 2 ^ 63 = 1 := h2
    omega
  · rw [h3] at h2
    have h2 : t / 2 ^ 63 = 0 := h2
    omega
theorem uN_xor (x : Int64) : uN (x ^^^ (-9223372036854775808)) = (uN x + 9223372036854775808) % 18446744073709551616 := by
  rw [← nat_xor (uN_lt x)]
  exact UInt64.toNat_xor _ _
theorem uN_int (x : Int64) : x.toInt = if 2 * uN x < 18446744073709551616 then (uN x : Int) else (uN x : Int) - 18446744073709551616 := BitVec.toInt_eq_toNat_cond _
theorem uN_le (x y : Int64) : (x ^^^ (-9223372036854775808)) ≤ (y ^^^ (-9223372036854775808)) ↔ uN x ≤ uN y := by
  have hx := uN_lt x
  have hy := uN_lt y
  rw [Int64.le_iff_toInt_le, uN_int, uN_int, uN_xor, uN_xor]
  omega
theorem uN_sk (x : Int64) {k : Nat} (hk : k < 64) : uN (x.toUInt64 >>> ((nI k).toInt64.toUInt64 &&& Int64.toUInt64 63)).toInt64 = uN x / 2 ^ k := by
  have h : ((nI k).toInt64.toUInt64 &&& Int64.toUInt64 63).toNat % 64 = k := by
    rw [nI_l (by omega), UInt64.toNat_and]
    have e : (lN k).toUInt64.toNat = k % 2 ^ 64 := rfl
    have e2 : (Int64.toUInt64 63).toNat = 2 ^ 6 - 1 := by decide
    rw [e, e2, Nat.and_two_pow_sub_one_eq_mod]
    omega
  rw [uN_shr, h]
/-! ===== unsigned comparison by xor with the least ===== -/
theorem lN_bv (n : Nat) : (lN n).toBitVec = BitVec.ofNat 64 n := rfl
theorem lN_nat {n : Nat} (h : n < 2 ^ 64) : (lN n).toBitVec.toNat = n := by rw [lN_bv, BitVec.toNat_ofNat]; exact Nat.mod_eq_of_lt h
theorem lN_xor (a b : Nat) : lN a ^^^ lN b = lN (a ^^^ b) := by
  apply Int64.toBitVec_inj.mp; rw [Int64.toBitVec_xor, lN_bv, lN_bv, lN_bv]; apply BitVec.eq_of_getLsbD_eq; intro i hi; simp [BitVec.getLsbD_ofNat, Nat.testBit_xor, hi]
theorem lN_ti {m : Nat} (h : m < 2 ^ 64) : (lN m).toInt = if m < 2 ^ 63 then (m : Int) else (m : Int) - 2 ^ 64 := by
  have c := BitVec.toInt_eq_toNat_cond (lN m).toBitVec
  rw [lN_nat h] at c
  show (lN m).toBitVec.toInt = _
  rw [c]
  split <;> split <;> omega
theorem xor63 {x : Nat} (h : x < 2 ^ 63) : x ^^^ 2 ^ 63 = 2 ^ 63 + x := by
  apply Nat.eq_of_testBit_eq
  intro i
  rw [Nat.testBit_xor, Nat.testBit_two_pow]
  rcases Nat.lt_trichotomy i 63 with z | z | z
  · rw [Nat.testBit_two_pow_add_gt z, decide_eq_false (by omega)]; simp
  · subst z; rw [Nat.testBit_two_pow_add_eq]; simp
  · have hp : 2 ^ 64 ≤ 2 ^ i := Nat.pow_le_pow_right (by decide) z
    rw [Nat.testBit_lt_two_pow (show x < 2 ^ i by omega), Nat.testBit_lt_two_pow (show 2 ^ 63 + x < 2 ^ i by omega), decide_eq_false (by omega)]; rfl
theorem xorS {a : Nat} (h : a < 2 ^ 64) : (lN a ^^^ (-9223372036854775808)).toInt = (a : Int) - 2 ^ 63 := by
  rw [show (-9223372036854775808 : Int64) = lN (2 ^ 63) from by decide +kernel, lN_xor]
  rcases Nat.lt_or_ge a (2 ^ 63) with z | z
  · rw [xor63 z, lN_ti (by omega), if_neg (by omega)]; omega
  · obtain ⟨x, rfl⟩ : ∃ x, a = 2 ^ 63 + x := ⟨a - 2 ^ 63, by omega⟩
    rw [← xor63 (by omega), Nat.xor_assoc, Nat.xor_self, Nat.xor_zero, lN_ti (by omega), if_pos (by omega), xor63 (by omega)]; omega
theorem ultL {a b : Nat} (ha : a < 2 ^ 64) (hb : b < 2 ^ 64) : ((lN b ^^^ (-9223372036854775808)) ≤ (lN a ^^^ (-9223372036854775808))) ↔ b ≤ a := by
  rw [Int64.le_iff_toInt_le, xorS ha, xorS hb]; omega
/-! ===== Int64 masks of n low bits ===== -/
theorem cr_bits (W U M : BitVec 64) : ((W &&& U) &&& (U &&& (M ^^^ BitVec.allOnes 64))) = 0#64 ↔ (W &&& U) &&& M = W &&& U := by
  constructor
  · intro h
    apply BitVec.eq_of_getLsbD_eq
    intro i hi
    have e := congrArg (fun x => BitVec.getLsbD x i) h
    simp only [BitVec.getLsbD_and, BitVec.getLsbD_xor, BitVec.getLsbD_allOnes, BitVec.getLsbD_zero, hi, decide_true] at e ⊢
    revert e
    cases W.getLsbD i <;> cases U.getLsbD i <;> cases M.getLsbD i <;> decide
  · intro h
    apply BitVec.eq_of_getLsbD_eq
    intro i hi
    have e := congrArg (fun x => BitVec.getLsbD x i) h
    simp only [BitVec.getLsbD_and, BitVec.getLsbD_xor, BitVec.getLsbD_allOnes, BitVec.getLsbD_zero, hi, decide_true] at e ⊢
    revert e
    cases W.getLsbD i <;> cases U.getLsbD i <;> cases M.getLsbD i <;> decide
theorem cr_mask (w U m : Int64) (n : Nat) (hm : m.toBitVec.toNat = 2 ^ n - 1) : ((w &&& U) &&& (U &&& (m ^^^ (-1)))) = 0 ↔ (w &&& U).toBitVec.toNat < 2 ^ n := by
  have e0 : (-1 : Int64).toBitVec = BitVec.allOnes 64 := by decide
  have z0 : (0 : Int64).toBitVec = 0#64 := by decide
  rw [← Int64.toBitVec_inj, z0, Int64.toBitVec_and, Int64.toBitVec_and, Int64.toBitVec_and, Int64.toBitVec_xor, e0, cr_bits]
  generalize w.toBitVec &&& U.toBitVec = T
  rw [← BitVec.toNat_inj, BitVec.toNat_and, hm, Nat.and_two_pow_sub_one_eq_mod]
  constructor
  · intro h
    have t := Nat.mod_lt T.toNat (Nat.two_pow_pos n)
    rw [h] at t
    exact t
  · exact Nat.mod_eq_of_lt
theorem cr_shr (t : Int64) (x : UInt64) (n : Nat) (hx : x.toNat % 64 = n) : (t.toUInt64 >>> x).toInt64 = 0 ↔ t.toBitVec.toNat < 2 ^ n := by
  rw [← Int64.toBitVec_inj, ← BitVec.toNat_inj]
  show (t.toUInt64 >>> x).toNat = 0 ↔ t.toUInt64.toNat < 2 ^ n
  rw [UInt64.toNat_shiftRight, hx, Nat.shiftRight_eq_div_pow]
  constructor
  · intro h
    have d : t.toUInt64.toNat / 2 ^ n < 1 := by
      rw [h]
      decide
    have e := (Nat.div_lt_iff_lt_mul (Nat.two_pow_pos n)).mp d
    rw [Nat.one_mul] at e
    exact e
  · exact Nat.div_eq_of_lt
theorem cr_amt (s : Int64) : ∃ n, n < 64 ∧ s &&& 63 = lN n ∧ (s.toUInt64 &&& Int64.toUInt64 63).toNat % 64 = n := by
  have e : (s.toUInt64 &&& Int64.toUInt64 63).toNat = s.toUInt64.toNat % 2 ^ 6 := by
    rw [UInt64.toNat_and, show (Int64.toUInt64 63).toNat = 2 ^ 6 - 1 from by decide, Nat.and_two_pow_sub_one_eq_mod]
  refine ⟨s.toUInt64.toNat % 2 ^ 6, by omega, ?_, by omega⟩
  rw [← Int64.toBitVec_inj, ← BitVec.toNat_inj]
  show (s.toUInt64 &&& Int64.toUInt64 63).toNat = (BitVec.ofNat 64 (s.toUInt64.toNat % 2 ^ 6)).toNat
  rw [e, BitVec.toNat_ofNat]
  omega
end
section
/-! counting -/
def oi_cn (P : Nat → Bool) : Nat → Nat
  | 0 => 0
  | n + 1 => oi_cn P n + (P n).toNat
theorem oi_cn_s (P : Nat → Bool) (n : Nat) : oi_cn P (n + 1) = oi_cn P n + (P n).toNat := rfl
theorem oi_cn_le (P : Nat → Bool) (n : Nat) : oi_cn P n ≤ n := by
  induction n with
  | zero => exact Nat.le_refl 0
  | succ n ih =>
    have := Bool.toNat_le (P n)
    rw [oi_cn_s]; omega
theorem oi_cn_congr {P Q : Nat → Bool} {n : Nat} (h : ∀ i, i < n → P i = Q i) : oi_cn P n = oi_cn Q n := by
  induction n with
  | zero => rfl
  | succ n ih => rw [oi_cn_s, oi_cn_s, ih (fun i hi => h i (by omega)), h n (by omega)]
theorem oi_cn_true (n : Nat) : oi_cn (fun _ => true) n = n := by
  induction n with
  | zero => rfl
  | succ n ih => rw [oi_cn_s, ih]; rfl
theorem oi_cn_false {P : Nat → Bool} {n : Nat} (h : ∀ i, i < n → P i = false) : oi_cn P n = 0 := by
  induction n with
  | zero => rfl
  | succ n ih => rw [oi_cn_s, ih (fun i hi => h i (by omega)), h n (by omega)]; rfl
theorem oi_cn_mono (P : Nat → Bool) {a b : Nat} (h : a ≤ b) : oi_cn P a ≤ oi_cn P b := by
  induction b with
  | zero => rw [Nat.le_zero.mp h]; exact Nat.le_refl _
  | succ b ih =>
    rcases Nat.lt_or_ge a (b + 1) with z | z
    · have := ih (by omega)
      rw [oi_cn_s]; omega
    · rw [show a = b + 1 by omega]; exact Nat.le_refl _
theorem oi_cn_lt {P : Nat → Bool} {a b : Nat} (h : a < b) (ha : P a = true) : oi_cn P a < oi_cn P b := by
  have h1 : oi_cn P (a + 1) ≤ oi_cn P b := oi_cn_mono P (by omega)
  rw [oi_cn_s, ha] at h1
  have : (true).toNat = 1 := rfl
  omega
theorem oi_cn_pos {P : Nat → Bool} {n : Nat} (h : 0 < oi_cn P n) : ∃ i, i < n ∧ P i = true := by
  induction n with
  | zero => exact absurd h (Nat.lt_irrefl 0)
  | succ n ih =>
    by_cases z : P n = true
    · exact ⟨n, by omega, z⟩
    · rw [oi_cn_s, Bool.eq_false_iff.mpr z] at h
      obtain ⟨i, hi, e⟩ := ih h
      exact ⟨i, by omega, e⟩
theorem oi_cn_one {P : Nat → Bool} {n i : Nat} (hi : i < n) (h : P i = true) : 0 < oi_cn P n :=
  Nat.lt_of_le_of_lt (Nat.zero_le _) (oi_cn_lt hi h)
theorem oi_cn_two {P : Nat → Bool} {n i j : Nat} (hij : i < j) (hj : j < n) (hi : P i = true) (h : P j = true) : 1 < oi_cn P n := by
  have h1 := oi_cn_one hij hi
  have h2 := oi_cn_lt hj h
  omega
theorem oi_cn_at {P : Nat → Bool} {n j : Nat} (h : j < oi_cn P n) : ∃ s, s < n ∧ P s = true ∧ oi_cn P s = j := by
  induction n with
  | zero => exact absurd h (Nat.not_lt_zero j)
  | succ n ih =>
    rcases Nat.lt_or_ge j (oi_cn P n) with z | z
    · obtain ⟨s, hs, e, f⟩ := ih z
      exact ⟨s, by omega, e, f⟩
    · by_cases w : P n = true
      · rw [oi_cn_s, w] at h
        have : (true).toNat = 1 := rfl
        exact ⟨n, by omega, w, by omega⟩
      · rw [oi_cn_s, Bool.eq_false_iff.mpr w] at h
        exact absurd h (Nat.not_lt.mpr z)
theorem oi_cn_le1 {P : Nat → Bool} {n : Nat} (h : ∀ i j, i < j → j < n → P i = true → P j = true → False) : oi_cn P n ≤ 1 := by
  induction n with
  | zero => exact Nat.zero_le 1
  | succ n ih =>
    have h1 := ih (fun i j hij hj => h i j hij (by omega))
    by_cases w : P n = true
    · rcases Nat.eq_zero_or_pos (oi_cn P n) with z | z
      · rw [oi_cn_s, z, w]; exact Nat.le_refl 1
      · obtain ⟨i, hi, e⟩ := oi_cn_pos z
        exact (h i n hi (by omega) e w).elim
    · rw [oi_cn_s, Bool.eq_false_iff.mpr w]; exact h1
theorem oi_cn_upd {P Q : Nat → Bool} {n s : Nat} (hs : s < n) (h : ∀ i, i < n → i ≠ s → P i = Q i) : oi_cn P n + (Q s).toNat = oi_cn Q n + (P s).toNat := by
  induction n with
  | zero => exact absurd hs (Nat.not_lt_zero s)
  | succ n ih =>
    rw [oi_cn_s, oi_cn_s]
    by_cases e : s = n
    · subst e
      rw [oi_cn_congr (fun i hi => h i (by omega) (by omega))]; omega
    · have := ih (by omega) (fun i hi he => h i (by omega) he)
      rw [h n (by omega) (by omega)]; omega
theorem oi_cn_add {P A B : Nat → Bool} {n : Nat} (h : ∀ i, i < n → (P i).toNat = (A i).toNat + (B i).toNat) : oi_cn P n = oi_cn A n + oi_cn B n := by
  induction n with
  | zero => rfl
  | succ n ih =>
    have h1 := ih (fun i hi => h i (by omega))
    have h2 := h n (by omega)
    rw [oi_cn_s, oi_cn_s, oi_cn_s]; omega
theorem oi_cn_cut {P : Nat → Bool} {n r : Nat} (hr : r ≤ n) (h1 : ∀ i, i < r → P i = true) (h2 : ∀ i, r ≤ i → i < n → P i = false) : oi_cn P n = r := by
  induction n with
  | zero => rw [Nat.le_zero.mp hr]; rfl
  | succ n ih =>
    rw [oi_cn_s]
    rcases Nat.lt_or_ge n r with z | z
    · have e : r = n + 1 := by omega
      subst e
      rw [h1 n z, oi_cn_congr (Q := fun _ => true) (fun i hi => h1 i (by omega)), oi_cn_true]; rfl
    · rw [ih z (fun i a b => h2 i a (by omega)), h2 n z (by omega)]; rfl
/-- an entry put in -/
theorem oi_cn_ins {P P' : Nat → Bool} {a n : Nat} {b : Bool} (ha : a ≤ n) (h1 : ∀ i, i < a → P' i = P i) (h2 : P' a = b) (h3 : ∀ i, a ≤ i → i < n → P' (i + 1) = P i) : oi_cn P' (n + 1) = oi_cn P n + b.toNat := by
  induction n with
  | zero =>
    have e : a = 0 := by omega
    subst e
    rw [oi_cn_s, h2]; rfl
  | succ n ih =>
    by_cases e : a = n + 1
    · subst e
      rw [oi_cn_s P', h2, oi_cn_congr h1]
    · rw [oi_cn_s P', oi_cn_s P, ih (by omega) (fun i u v => h3 i u (by omega)), h3 n (by omega) (by omega)]; omega
def oi_ins (en : Nat → Int32) (a n : Nat) (x : Int32) : Nat → Int32 := fun j => if j = a then x else if a < j ∧ j ≤ n then en (j - 1) else en j
def oi_del (en : Nat → Int32) (a n : Nat) : Nat → Int32 := fun j => if a ≤ j ∧ j + 1 < n then en (j + 1) else en j
theorem oi_ins_lt {en : Nat → Int32} {a n j : Nat} {x : Int32} (h : j < a) : oi_ins en a n x j = en j := by
  unfold oi_ins; rw [if_neg (by omega), if_neg (by omega)]
theorem oi_ins_eq {en : Nat → Int32} {a n : Nat} {x : Int32} : oi_ins en a n x a = x := if_pos rfl
theorem oi_ins_gt {en : Nat → Int32} {a n j : Nat} {x : Int32} (h : a ≤ j) (hj : j < n) : oi_ins en a n x (j + 1) = en j := by
  unfold oi_ins; rw [if_neg (by omega), if_pos (by omega)]; rfl
theorem oi_del_lt {en : Nat → Int32} {a n j : Nat} (h : j < a) : oi_del en a n j = en j := by
  unfold oi_del; rw [if_neg (by omega)]
theorem oi_del_ge {en : Nat → Int32} {a n j : Nat} (h : a ≤ j) (hj : j + 1 < n) : oi_del en a n j = en (j + 1) := by
  unfold oi_del; rw [if_pos (by omega)]
/-- the multiset of an array's first n entries, by counts -/
theorem oi_ct_ins {en : Nat → Int32} {a n : Nat} {x : Int32} (ha : a ≤ n) (Q : Int → Bool) : oi_cn (fun i => Q (oi_ins en a n x i).toInt) (n + 1) = oi_cn (fun i => Q (en i).toInt) n + (Q x.toInt).toNat :=
  oi_cn_ins (P := fun i => Q (en i).toInt) ha (fun i hi => by (try dsimp only); rw [oi_ins_lt hi]) (by (try dsimp only); rw [oi_ins_eq]) (fun i u v => by (try dsimp only); rw [oi_ins_gt u v])
theorem oi_ct_del {en : Nat → Int32} {a n : Nat} (ha : a < n + 1) (Q : Int → Bool) : oi_cn (fun i => Q (en i).toInt) (n + 1) = oi_cn (fun i => Q (oi_del en a (n + 1) i).toInt) n + (Q (en a).toInt).toNat :=
  oi_cn_ins (P := fun i => Q (oi_del en a (n + 1) i).toInt) (by omega) (fun i hi => by (try dsimp only); rw [oi_del_lt hi]) rfl (fun i u v => by (try dsimp only); rw [oi_del_ge u (by omega)])
/-- sorted; sorted by runs of w -/
def oi_so (en : Nat → Int32) (n : Nat) : Prop := ∀ i j, i < j → j < n → (en i).toInt ≤ (en j).toInt
def oi_rn (w : Nat) (en : Nat → Int32) (n : Nat) : Prop := ∀ i j, i < j → j < n → i / w = j / w → (en i).toInt ≤ (en j).toInt
/-- the first n entries are the packed keys of the slots below c with F -/
def oi_MG (F : Nat → Bool) (g : Nat → Int32) (c : Nat) (en : Nat → Int32) (n : Nat) : Prop := ∀ Q : Int → Bool, oi_cn (fun i => Q (en i).toInt) n = oi_cn (fun s => F s && Q ((g s).toInt * 64 + s)) c
theorem oi_mg_0 (F : Nat → Bool) (g en : Nat → Int32) : oi_MG F g 0 en 0 := fun _ => rfl
theorem oi_mg_le {F : Nat → Bool} {g : Nat → Int32} {c : Nat} {en : Nat → Int32} {n : Nat} (h : oi_MG F g c en n) : n ≤ c := by
  have := h (fun _ => true)
  rw [oi_cn_true] at this
  rw [this]
  exact oi_cn_le _ _
theorem oi_mg_cn {F : Nat → Bool} {g : Nat → Int32} {c : Nat} {en : Nat → Int32} {n : Nat} (h : oi_MG F g c en n) : n = oi_cn F c := by
  have := h (fun _ => true)
  rw [oi_cn_true] at this
  rw [this]
  exact oi_cn_congr (fun i _ => by (try dsimp only); rw [Bool.and_true])
theorem oi_mg_mem {F : Nat → Bool} {g : Nat → Int32} {c : Nat} {en : Nat → Int32} {n i : Nat} (h : oi_MG F g c en n) (hi : i < n) : ∃ s, s < c ∧ F s = true ∧ (en i).toInt = (g s).toInt * 64 + s := by
  have h1 : 0 < oi_cn (fun j => decide ((en j).toInt = (en i).toInt)) n := oi_cn_one hi (by simp)
  rw [h (fun x => decide (x = (en i).toInt))] at h1
  obtain ⟨s, hs, e⟩ := oi_cn_pos h1
  simp only [Bool.and_eq_true, decide_eq_true_eq] at e
  exact ⟨s, hs, e.1, e.2.symm⟩
theorem oi_mg_has {F : Nat → Bool} {g : Nat → Int32} {c : Nat} {en : Nat → Int32} {n s : Nat} (h : oi_MG F g c en n) (hs : s < c) (hF : F s = true) : ∃ i, i < n ∧ (en i).toInt = (g s).toInt * 64 + s := by
  have h1 : 0 < oi_cn (fun j => decide ((en j).toInt = (g s).toInt * 64 + s)) n := by
    rw [h (fun x => decide (x = (g s).toInt * 64 + s))]
    exact oi_cn_one hs (by simp [hF])
  obtain ⟨i, hi, e⟩ := oi_cn_pos h1
  exact ⟨i, hi, by simpa using e⟩
theorem oi_mg_ne {F : Nat → Bool} {g : Nat → Int32} {c : Nat} {en : Nat → Int32} {n i j : Nat} (h : oi_MG F g c en n) (hc : c ≤ 64) (hij : i < j) (hj : j < n) : (en i).toInt ≠ (en j).toInt := by
  intro e
  have h1 : 1 < oi_cn (fun k => decide ((en k).toInt = (en j).toInt)) n := oi_cn_two hij hj (by simp [e]) (by simp)
  rw [h (fun x => decide (x = (en j).toInt))] at h1
  have h2 : oi_cn (fun s => F s && decide ((g s).toInt * 64 + (s : Int) = (en j).toInt)) c ≤ 1 := by
    apply oi_cn_le1
    intro a b hab hb ha hb'
    simp only [Bool.and_eq_true, decide_eq_true_eq] at ha hb'
    omega
  omega
theorem oi_mg_lt {F : Nat → Bool} {g : Nat → Int32} {c : Nat} {en : Nat → Int32} {n i j : Nat} (h : oi_MG F g c en n) (hs : oi_so en n) (hc : c ≤ 64) (hij : i < j) (hj : j < n) : (en i).toInt < (en j).toInt := by
  have h1 := oi_mg_ne h hc hij hj
  have h2 := hs i j hij hj
  omega
theorem oi_mg_congr {F F' : Nat → Bool} {g g' : Nat → Int32} {c : Nat} {en : Nat → Int32} {n : Nat} (h : oi_MG F g c en n) (hF : ∀ s, s < c → F' s = F s) (hg : ∀ s, s < c → F s = true → g' s = g s) : oi_MG F' g' c en n := by
  intro Q
  rw [h Q]
  apply oi_cn_congr
  intro s hs
  try dsimp only
  rw [hF s hs]
  by_cases z : F s = true
  · rw [hg s hs z]
  · rw [Bool.eq_false_iff.mpr z, Bool.false_and, Bool.false_and]
theorem oi_mg_en {F : Nat → Bool} {g : Nat → Int32} {c : Nat} {en en' : Nat → Int32} {n : Nat} (h : oi_MG F g c en n) (he : ∀ i, i < n → en' i = en i) : oi_MG F g c en' n := by
  intro Q
  rw [← h Q]
  exact oi_cn_congr (fun i hi => by (try dsimp only); rw [he i hi])
theorem oi_mg_skip {F : Nat → Bool} {g : Nat → Int32} {c : Nat} {en : Nat → Int32} {n : Nat} (h : oi_MG F g c en n) (hF : F c = false) : oi_MG F g (c + 1) en n := by
  intro Q
  rw [oi_cn_s, hF, Bool.false_and]
  exact h Q
theorem oi_mg_skips {F : Nat → Bool} {g : Nat → Int32} {c c' : Nat} {en : Nat → Int32} {n : Nat} (h : oi_MG F g c en n) (hc : c ≤ c') (hF : ∀ s, c ≤ s → s < c' → F s = false) : oi_MG F g c' en n := by
  induction c' with
  | zero => rw [← Nat.le_zero.mp hc]; exact h
  | succ k ih =>
    by_cases e : c = k + 1
    · rw [← e]; exact h
    · exact oi_mg_skip (ih (by omega) (fun s a b => hF s a (by omega))) (hF k (by omega) (by omega))
theorem oi_mg_push {F : Nat → Bool} {g : Nat → Int32} {c : Nat} {en : Nat → Int32} {n a : Nat} {x : Int32} (h : oi_MG F g c en n) (hF : F c = true) (ha : a ≤ n) (hx : x.toInt = (g c).toInt * 64 + c) : oi_MG F g (c + 1) (oi_ins en a n x) (n + 1) := by
  intro Q
  rw [oi_ct_ins ha, oi_cn_s, hF, Bool.true_and, h Q, hx]
theorem oi_mg_put {F F' : Nat → Bool} {g g' : Nat → Int32} {c s : Nat} {en : Nat → Int32} {n a : Nat} {x : Int32} (h : oi_MG F g c en n) (hs : s < c) (hF : F s = false) (hF' : F' s = true) (hFo : ∀ j, j ≠ s → F' j = F j) (hgo : ∀ j, j ≠ s → g' j = g j) (ha : a ≤ n) (hx : x.toInt = (g' s).toInt * 64 + s) : oi_MG F' g' c (oi_ins en a n x) (n + 1) := by
  intro Q
  have h1 := oi_cn_upd (P := fun j => F' j && Q ((g' j).toInt * 64 + j)) (Q := fun j => F j && Q ((g j).toInt * 64 + j)) hs (fun i _ hi => by (try dsimp only); rw [hFo i hi, hgo i hi])
  try dsimp only at h1
  rw [hF, hF', Bool.false_and, Bool.true_and, ← hx] at h1
  rw [oi_ct_ins ha, h Q]
  have : (false).toNat = 0 := rfl
  omega
theorem oi_mg_take {F F' : Nat → Bool} {g g' : Nat → Int32} {c s : Nat} {en : Nat → Int32} {n a : Nat} (h : oi_MG F g c en (n + 1)) (hs : s < c) (hF : F s = true) (hF' : F' s = false) (hFo : ∀ j, j ≠ s → F' j = F j) (hgo : ∀ j, j ≠ s → g' j = g j) (ha : a < n + 1) (hx : (en a).toInt = (g s).toInt * 64 + s) : oi_MG F' g' c (oi_del en a (n + 1)) n := by
  intro Q
  have h1 := oi_cn_upd (P := fun j => F' j && Q ((g' j).toInt * 64 + j)) (Q := fun j => F j && Q ((g j).toInt * 64 + j)) hs (fun i _ hi => by (try dsimp only); rw [hFo i hi, hgo i hi])
  try dsimp only at h1
  rw [hF, hF', Bool.false_and, Bool.true_and, ← hx] at h1
  have h2 := h Q
  rw [oi_ct_del ha] at h2
  have : (false).toNat = 0 := rfl
  omega
/-- sorted arrays under ins, del -/
theorem oi_so_ins {en : Nat → Int32} {a n : Nat} {x : Int32} (h : oi_so en n) (ha : a ≤ n) (h1 : ∀ i, i < a → (en i).toInt ≤ x.toInt) (h2 : ∀ i, a ≤ i → i < n → x.toInt ≤ (en i).toInt) : oi_so (oi_ins en a n x) (n + 1) := by
  intro i j hij hj
  rcases Nat.lt_trichotomy i a with z | z | z
  · rw [oi_ins_lt z]
    rcases Nat.lt_trichotomy j a with w | w | w
    · rw [oi_ins_lt w]; exact h i j hij (by omega)
    · subst w; rw [oi_ins_eq]; exact h1 i z
    · obtain ⟨k, rfl⟩ : ∃ k, j = k + 1 := ⟨j - 1, by omega⟩
      rw [oi_ins_gt (by omega) (by omega)]
      exact Int.le_trans (h1 i z) (h2 k (by omega) (by omega))
  · subst z
    obtain ⟨k, rfl⟩ : ∃ k, j = k + 1 := ⟨j - 1, by omega⟩
    rw [oi_ins_eq, oi_ins_gt (by omega) (by omega)]
    exact h2 k (by omega) (by omega)
  · obtain ⟨k, rfl⟩ : ∃ k, j = k + 1 := ⟨j - 1, by omega⟩
    obtain ⟨m, rfl⟩ : ∃ m, i = m + 1 := ⟨i - 1, by omega⟩
    rw [oi_ins_gt (by omega) (by omega), oi_ins_gt (by omega) (by omega)]
    exact h m k (by omega) (by omega)
theorem oi_so_del {en : Nat → Int32} {a n : Nat} (h : oi_so en (n + 1)) (ha : a < n + 1) : oi_so (oi_del en a (n + 1)) n := by
  intro i j hij hj
  rcases Nat.lt_or_ge i a with z | z
  · rw [oi_del_lt z]
    rcases Nat.lt_or_ge j a with w | w
    · rw [oi_del_lt w]; exact h i j hij (by omega)
    · rw [oi_del_ge w (by omega)]; exact h i (j + 1) (by omega) (by omega)
  · rw [oi_del_ge z (by omega), oi_del_ge (by omega) (by omega)]; exact h (i + 1) (j + 1) (by omega) (by omega)
/-- the last run of 8 takes an entry -/
theorem oi_rn_ins {en : Nat → Int32} {a n : Nat} {x : Int32} (h : oi_rn 8 en n) (hs : n - n % 8 ≤ a) (ha : a ≤ n) (h1 : ∀ i, n - n % 8 ≤ i → i < a → (en i).toInt ≤ x.toInt) (h2 : ∀ i, a ≤ i → i < n → x.toInt ≤ (en i).toInt) : oi_rn 8 (oi_ins en a n x) (n + 1) := by
  intro i j hij hj hr
  rcases Nat.lt_trichotomy i a with z | z | z
  · rw [oi_ins_lt z]
    rcases Nat.lt_trichotomy j a with w | w | w
    · rw [oi_ins_lt w]; exact h i j hij (by omega) hr
    · subst w; rw [oi_ins_eq]; exact h1 i (by omega) z
    · obtain ⟨k, rfl⟩ : ∃ k, j = k + 1 := ⟨j - 1, by omega⟩
      rw [oi_ins_gt (by omega) (by omega)]
      exact Int.le_trans (h1 i (by omega) z) (h2 k (by omega) (by omega))
  · subst z
    obtain ⟨k, rfl⟩ : ∃ k, j = k + 1 := ⟨j - 1, by omega⟩
    rw [oi_ins_eq, oi_ins_gt (by omega) (by omega)]
    exact h2 k (by omega) (by omega)
  · obtain ⟨k, rfl⟩ : ∃ k, j = k + 1 := ⟨j - 1, by omega⟩
    obtain ⟨m, rfl⟩ : ∃ m, i = m + 1 := ⟨i - 1, by omega⟩
    rw [oi_ins_gt (by omega) (by omega), oi_ins_gt (by omega) (by omega)]
    exact h m k (by omega) (by omega) (by omega)
end
section
/-! the bits of a long -/
def oi_b (m : Int64) (s : Nat) : Bool := m.toBitVec.getLsbD s
theorem oi_b_ge {m : Int64} {s : Nat} (h : 64 ≤ s) : oi_b m s = false := BitVec.getLsbD_of_ge _ _ h
theorem oi_b_lt {m : Int64} {s : Nat} (h : oi_b m s = true) : s < 64 := by
  rcases Nat.lt_or_ge s 64 with z | z
  · exact z
  · rw [oi_b_ge z] at h; exact absurd h (by decide)
theorem oi_b_and (a b : Int64) (s : Nat) : oi_b (a &&& b) s = (oi_b a s && oi_b b s) := by
  unfold oi_b; rw [Int64.toBitVec_and, BitVec.getLsbD_and]
theorem oi_b_or (a b : Int64) (s : Nat) : oi_b (a ||| b) s = (oi_b a s || oi_b b s) := by
  unfold oi_b; rw [Int64.toBitVec_or, BitVec.getLsbD_or]
theorem oi_b_not (a : Int64) (s : Nat) : oi_b (a ^^^ (-1)) s = (decide (s < 64) && !oi_b a s) := by
  have ha : (-1 : Int64).toBitVec = BitVec.allOnes 64 := by decide
  unfold oi_b
  rw [Int64.toBitVec_xor, ha, BitVec.getLsbD_xor, BitVec.getLsbD_allOnes]
  by_cases h : s < 64
  · simp [h]
  · rw [BitVec.getLsbD_of_ge _ _ (by omega)]; simp [h]
theorem oi_b_0 (s : Nat) : oi_b 0 s = false := by
  unfold oi_b; show (0#64).getLsbD s = false; exact BitVec.getLsbD_zero
theorem oi_b_m1 (s : Nat) : oi_b (-1) s = decide (s < 64) := by
  have ha : (-1 : Int64).toBitVec = BitVec.allOnes 64 := by decide
  unfold oi_b; rw [ha, BitVec.getLsbD_allOnes]
theorem oi_b_ext {a b : Int64} (h : ∀ s, oi_b a s = oi_b b s) : a = b := wb_inj (BitVec.eq_of_getLsbD_eq (fun i _ => h i))
theorem oi_b_all0 {a : Int64} (h : ∀ s, s < 64 → oi_b a s = false) : a = 0 := oi_b_ext (fun s => by
  rw [oi_b_0]
  rcases Nat.lt_or_ge s 64 with z | z
  · exact h s z
  · exact oi_b_ge z)
theorem oi_b_lN (n s : Nat) : oi_b (lN n) s = (decide (s < 64) && n.testBit s) := by
  unfold oi_b; rw [wb_tb, BitVec.getLsbD_ofNat]
theorem oi_b_bit {s : Nat} (hs : s < 64) (j : Nat) : oi_b ((1 : Int64) <<< ((nI s).toInt64 &&& 63)) j = decide (j = s) := by
  rw [show ((1 : Int64) <<< ((nI s).toInt64 &&& 63)) = lN (1 * 2 ^ s) from wb_shl 1 hs, Nat.one_mul, oi_b_lN, Nat.testBit_two_pow]
  by_cases e : j = s
  · subst e; simp [hs]
  · simp [e, Ne.symm e]
theorem oi_b_rm {R : Nat} (hR : R < 64) (j : Nat) : oi_b (((1 : Int64) <<< ((nI R).toInt64 &&& 63)) - 1) j = decide (j < R) := by
  rw [show ((1 : Int64) <<< ((nI R).toInt64 &&& 63)) = lN (1 * 2 ^ R) from wb_shl 1 hR, Nat.one_mul]
  rw [show lN (2 ^ R) - 1 = lN (2 ^ R - 1) from lN_sub (Nat.two_pow_pos R), oi_b_lN, Nat.testBit_two_pow_sub_one]
  by_cases e : j < R
  · simp [e, show j < 64 by omega]
  · simp [e]
/-- the test of one bit -/
theorem oi_b_tst {m : Int64} {s : Nat} (hs : s < 64) : (m &&& ((1 : Int64) <<< ((nI s).toInt64 &&& 63))) = 0 ↔ oi_b m s = false := by
  constructor
  · intro h
    have t := congrArg (fun x => oi_b x s) h
    try dsimp only at t
    rw [oi_b_and, oi_b_bit hs, oi_b_0] at t
    simpa using t
  · intro h
    apply oi_b_all0
    intro j hj
    rw [oi_b_and, oi_b_bit hs]
    by_cases e : j = s
    · subst e; rw [h]; rfl
    · simp [e]
def oi_low (m : Int64) (s : Nat) : Prop := s < 64 ∧ oi_b m s = true ∧ ∀ j, j < s → oi_b m j = false
theorem oi_low_ex {m : Int64} (h : ¬ m = 0) : ∃ s, oi_low m s := by
  have h1 : ∃ s, oi_b m s = true := by
    apply Classical.byContradiction
    intro z
    apply h
    apply oi_b_all0
    intro s _
    exact Bool.eq_false_iff.mpr (fun e => z ⟨s, e⟩)
  obtain ⟨s, hs, hl⟩ := pk_least _ h1
  exact ⟨s, oi_b_lt hs, hs, fun j hj => Bool.eq_false_iff.mpr (hl j hj)⟩
theorem oi_low_N {N s : Nat} (h : oi_low (lN N) s) : s < 64 ∧ N.testBit s = true ∧ ∀ j, j < s → N.testBit j = false := by
  obtain ⟨h1, h2, h3⟩ := h
  refine ⟨h1, ?_, fun j hj => ?_⟩
  · rw [oi_b_lN] at h2; simpa [h1] using h2
  · have := h3 j hj
    rw [oi_b_lN] at this
    simpa [show j < 64 by omega] using this
theorem oi_low_form {N s : Nat} (h1 : N.testBit s = true) (h2 : ∀ j, j < s → N.testBit j = false) : ∃ q, N = 2 ^ (s + 1) * q + 2 ^ s := by
  have e0 : N % 2 ^ s = 0 := by
    apply Nat.eq_of_testBit_eq
    intro i
    rw [Nat.testBit_mod_two_pow, Nat.zero_testBit]
    by_cases z : i < s
    · rw [h2 i z]; simp
    · simp [z]
  have e1 : N / 2 ^ s % 2 = 1 := by
    rw [Nat.testBit_eq_decide_div_mod_eq] at h1
    simpa using h1
  refine ⟨N / 2 ^ s / 2, ?_⟩
  have e2 := Nat.div_add_mod N (2 ^ s)
  have e3 := Nat.div_add_mod (N / 2 ^ s) 2
  rw [e0, Nat.add_zero] at e2
  rw [e1] at e3
  rw [Nat.pow_succ, Nat.mul_assoc]
  generalize N / 2 ^ s / 2 = q at *
  rw [← e3, Nat.mul_add, Nat.mul_one] at e2
  exact e2.symm
theorem oi_b_drop {m : Int64} {s : Nat} (h : oi_low m s) (j : Nat) : oi_b (m &&& (m - 1)) j = (oi_b m j && !decide (j = s)) := by
  obtain ⟨N, hN, rfl⟩ := wb_of m
  obtain ⟨hs, h1, h2⟩ := oi_low_N h
  obtain ⟨q, e⟩ := oi_low_form h1 h2
  have hp : 0 < 2 ^ s := Nat.two_pow_pos s
  have e1 : N - 1 = 2 ^ (s + 1) * q + (2 ^ s - 1) := by omega
  have hb1 : 2 ^ s < 2 ^ (s + 1) := wb_lt2 (by omega)
  have hb2 : 2 ^ s - 1 < 2 ^ (s + 1) := by omega
  have hN1 : 1 ≤ N := by omega
  rw [show lN N - 1 = lN (N - 1) from lN_sub hN1, oi_b_and, oi_b_lN, oi_b_lN, e1, e, Nat.testBit_two_pow_mul_add q hb1, Nat.testBit_two_pow_mul_add q hb2]
  by_cases z : j < s + 1
  · rw [if_pos z, if_pos z, Nat.testBit_two_pow, Nat.testBit_two_pow_sub_one]
    by_cases w : j = s
    · subst w; simp
    · simp [Ne.symm w]
  · rw [if_neg z, if_neg z]
    have w : ¬ j = s := by omega
    simp [w]
theorem oi_lo_t {N n w s : Nat} {M : Int64} (hM : M = lN (2 ^ w - 1)) (hN : N < 2 ^ 64) (hw : w < 64) (h1 : N.testBit s = true) (h2 : ∀ j, j < s → N.testBit j = false) (hn : n ≤ s) : (lN (N / 2 ^ n) &&& M) = 0 ↔ n + w ≤ s := by
  have hb : N / 2 ^ n < 2 ^ 64 := Nat.lt_of_le_of_lt (Nat.div_le_self _ _) hN
  have hc : N / 2 ^ n % 2 ^ w < 2 ^ 63 := Nat.lt_of_lt_of_le (Nat.mod_lt _ (Nat.two_pow_pos w)) (Nat.pow_le_pow_right (by decide) (by omega))
  rw [hM, wb_mask hb hw, show (0 : Int64) = lN 0 from rfl, pk_lEQ hc (by decide)]
  constructor
  · intro e
    rcases Nat.lt_or_ge s (n + w) with z | z
    · have t := congrArg (fun x => x.testBit (s - n)) e
      try dsimp only at t
      rw [Nat.testBit_mod_two_pow, Nat.testBit_div_two_pow, show s - n + n = s by omega, h1, Nat.zero_testBit] at t
      simp at t
      omega
    · exact z
  · intro z
    apply Nat.eq_of_testBit_eq
    intro i
    rw [Nat.testBit_mod_two_pow, Nat.testBit_div_two_pow, Nat.zero_testBit]
    by_cases y : i < w
    · rw [h2 (i + n) (by omega)]; simp
    · simp [y]
theorem oi_lo_s {N n k : Nat} (hN : N < 2 ^ 64) (hk : k < 64) : ((lN (N / 2 ^ n)).toUInt64 >>> ((nI k).toInt64.toUInt64 &&& Int64.toUInt64 63)).toInt64 = lN (N / 2 ^ (n + k)) := by
  rw [wb_shr (Nat.lt_of_le_of_lt (Nat.div_le_self _ _) hN) hk, Nat.div_div_eq_div_mul, ← Nat.pow_add]
section
variable {fr : Int32} {ft : Int32} {fl : Int32} {rm : Int64} {pr : Int64} {lk : Int64} {ph : Int32} {co : Int32} {uq : Int32} {cu : Int32} {sp : Int32} {su : Int32} {cf : Int32} {lg : Int64} {bl : Int32} {ec : Int32} {ka : Nat → Int32} {kb : Nat → Int32} {ma : Nat → Int32} {mb : Nat → Int32} {ow : Nat → Int32} {ac : Nat → Int32} {od : Nat → Int64} {dr : Nat → Int32} {sd : Nat → Int32} {en : Nat → Int32} {sr : Nat → Int32}
variable {post : Int32 → Prop} {N n s : Nat}
theorem oi_l93 (hN : N < 2 ^ 64) (h1 : N.testBit s = true) (h2 : ∀ j, j < s → N.testBit j = false) (ha : n ≤ s) (hb : s < n + 2) (hp : post (nI s)) : wX_lowestSlot_93 post (lN (N / 2 ^ n)) (nI n) fr ft fl rm pr lk ph co uq cu sp su cf lg bl ec ka kb ma mb ow ac od dr sd en sr := by
  unfold wX_lowestSlot_93
  have T := oi_lo_t (w := 1) (M := 1) rfl hN (by decide) h1 h2 ha
  refine ⟨fun z y ey => ?_, fun z => ?_⟩
  · have := T.mp z
    rw [ey, nI_1, show n + 1 = s by omega]; exact hp
  · have : ¬ n + 1 ≤ s := fun w => z (T.mpr w)
    rw [show n = s by omega]; exact hp
theorem oi_l76 (hN : N < 2 ^ 64) (h1 : N.testBit s = true) (h2 : ∀ j, j < s → N.testBit j = false) (ha : n ≤ s) (hb : s < n + 4) (hp : post (nI s)) : wX_lowestSlot_76 post (lN (N / 2 ^ n)) (nI n) fr ft fl rm pr lk ph co uq cu sp su cf lg bl ec ka kb ma mb ow ac od dr sd en sr := by
  unfold wX_lowestSlot_76
  have T := oi_lo_t (w := 2) (M := 3) rfl hN (by decide) h1 h2 ha
  refine ⟨fun z y ey y2 ey2 => ?_, fun z => ?_⟩
  · have := T.mp z
    rw [show nI n + 2 = nI (n + 2) from nI_add n 2] at ey
    rw [show ((lN (N / 2 ^ n)).toUInt64 >>> ((2 : Int32).toInt64.toUInt64 &&& Int64.toUInt64 63)).toInt64 = lN (N / 2 ^ (n + 2)) from oi_lo_s (k := 2) hN (by decide)] at ey2
    rw [ey, ey2]
    exact oi_l93 hN h1 h2 (by omega) (by omega) hp
  · have : ¬ n + 2 ≤ s := fun w => z (T.mpr w)
    exact oi_l93 hN h1 h2 ha (by omega) hp
theorem oi_l59 (hN : N < 2 ^ 64) (h1 : N.testBit s = true) (h2 : ∀ j, j < s → N.testBit j = false) (ha : n ≤ s) (hb : s < n + 8) (hp : post (nI s)) : wX_lowestSlot_59 post (lN (N / 2 ^ n)) (nI n) fr ft fl rm pr lk ph co uq cu sp su cf lg bl ec ka kb ma mb ow ac od dr sd en sr := by
  unfold wX_lowestSlot_59
  have T := oi_lo_t (w := 4) (M := 15) rfl hN (by decide) h1 h2 ha
  refine ⟨fun z y ey y2 ey2 => ?_, fun z => ?_⟩
  · have := T.mp z
    rw [show nI n + 4 = nI (n + 4) from nI_add n 4] at ey
    rw [show ((lN (N / 2 ^ n)).toUInt64 >>> ((4 : Int32).toInt64.toUInt64 &&& Int64.toUInt64 63)).toInt64 = lN (N / 2 ^ (n + 4)) from oi_lo_s (k := 4) hN (by decide)] at ey2
    rw [ey, ey2]
    exact oi_l76 hN h1 h2 (by omega) (by omega) hp
  · have : ¬ n + 4 ≤ s := fun w => z (T.mpr w)
    exact oi_l76 hN h1 h2 ha (by omega) hp
theorem oi_l41 (hN : N < 2 ^ 64) (h1 : N.testBit s = true) (h2 : ∀ j, j < s → N.testBit j = false) (ha : n ≤ s) (hb : s < n + 16) (hp : post (nI s)) : wX_lowestSlot_41 post (lN (N / 2 ^ n)) (nI n) fr ft fl rm pr lk ph co uq cu sp su cf lg bl ec ka kb ma mb ow ac od dr sd en sr := by
  unfold wX_lowestSlot_41
  have T := oi_lo_t (w := 8) (M := 255) rfl hN (by decide) h1 h2 ha
  refine ⟨fun z y ey y2 ey2 => ?_, fun z => ?_⟩
  · have := T.mp z
    rw [show nI n + 8 = nI (n + 8) from nI_add n 8] at ey
    rw [show ((lN (N / 2 ^ n)).toUInt64 >>> ((8 : Int32).toInt64.toUInt64 &&& Int64.toUInt64 63)).toInt64 = lN (N / 2 ^ (n + 8)) from oi_lo_s (k := 8) hN (by decide)] at ey2
    rw [ey, ey2]
    exact oi_l59 hN h1 h2 (by omega) (by omega) hp
  · have : ¬ n + 8 ≤ s := fun w => z (T.mpr w)
    exact oi_l59 hN h1 h2 ha (by omega) hp
theorem oi_l23 (hN : N < 2 ^ 64) (h1 : N.testBit s = true) (h2 : ∀ j, j < s → N.testBit j = false) (ha : n ≤ s) (hb : s < n + 32) (hp : post (nI s)) : wX_lowestSlot_23 post (lN (N / 2 ^ n)) (nI n) fr ft fl rm pr lk ph co uq cu sp su cf lg bl ec ka kb ma mb ow ac od dr sd en sr := by
  unfold wX_lowestSlot_23
  have T := oi_lo_t (w := 16) (M := 65535) rfl hN (by decide) h1 h2 ha
  refine ⟨fun z y ey y2 ey2 => ?_, fun z => ?_⟩
  · have := T.mp z
    rw [show nI n + 16 = nI (n + 16) from nI_add n 16] at ey
    rw [show ((lN (N / 2 ^ n)).toUInt64 >>> ((16 : Int32).toInt64.toUInt64 &&& Int64.toUInt64 63)).toInt64 = lN (N / 2 ^ (n + 16)) from oi_lo_s (k := 16) hN (by decide)] at ey2
    rw [ey, ey2]
    exact oi_l41 hN h1 h2 (by omega) (by omega) hp
  · have : ¬ n + 16 ≤ s := fun w => z (T.mpr w)
    exact oi_l41 hN h1 h2 ha (by omega) hp
theorem oi_lowest (u : SX) {m : Int64} (h : oi_low m s) (hp : post (nI s)) : wpX_lowestSlot post u m := by
  obtain ⟨N, hN, rfl⟩ := wb_of m
  obtain ⟨hs, h1, h2⟩ := oi_low_N h
  match u with
  | (fr, ft, fl, rm, pr, lk, ph, co, uq, cu, sp, su, cf, lg, bl, ec, ka, kb, ma, mb, ow, ac, od, dr, sd, en, sr) =>
  unfold wpX_lowestSlot
  have e0 : lN N = lN (N / 2 ^ 0) := by rw [Nat.pow_zero, Nat.div_one]
  have T := oi_lo_t (n := 0) (w := 32) (M := 4294967295) rfl hN (by decide) h1 h2 (Nat.zero_le s)
  rw [← e0] at T
  refine ⟨fun z y ey y2 ey2 => ?_, fun z => ?_⟩
  · have := T.mp z
    rw [show (0 : Int32) + 32 = nI 32 from rfl] at ey
    rw [e0, show ((lN (N / 2 ^ 0)).toUInt64 >>> ((32 : Int32).toInt64.toUInt64 &&& Int64.toUInt64 63)).toInt64 = lN (N / 2 ^ (0 + 32)) from oi_lo_s (k := 32) hN (by decide)] at ey2
    rw [ey, ey2]
    exact oi_l23 hN h1 h2 (by omega) (by omega) hp
  · have : ¬ 0 + 32 ≤ s := fun w => z (T.mpr w)
    rw [e0]
    exact oi_l23 (n := 0) hN h1 h2 (Nat.zero_le s) (by omega) hp
end
end
section
/-! numbers -/
def oi_V (x : Int32) : Prop := -1 ≤ x.toInt ∧ x.toInt ≤ 999
theorem oi_m1 : (-1 : Int32).toInt = -1 := by decide
theorem oi_V_m1 : oi_V (-1) := by unfold oi_V; rw [oi_m1]; omega
theorem oi_Vn {x : Int32} (h : oi_V x) (hn : ¬ x = -1) : ∃ j, j ≤ 999 ∧ x = nI j := by
  obtain ⟨h1, h2⟩ := h
  have h3 : x.toInt ≠ -1 := fun e => hn (Int32.toInt_inj.mp (by rw [e, oi_m1]))
  refine ⟨x.toInt.toNat, by omega, Int32.toInt_inj.mp ?_⟩
  rw [nI_toInt (by omega)]
  omega
theorem oi_pk {x : Int32} {s : Nat} (h : oi_V x) (hn : ¬ x = -1) (hs : s < 64) : (x * 64 + nI s).toInt = x.toInt * 64 + s := by
  obtain ⟨j, hj, rfl⟩ := oi_Vn h hn
  rw [show nI j * 64 = nI (j * 64) from pk_mul j 64, nI_add, nI_toInt (by omega), nI_toInt (by omega)]
  omega
theorem oi_unp {y k : Int32} {s : Nat} (h : oi_V k) (hn : ¬ k = -1) (hs : s < 64) (e : y.toInt = k.toInt * 64 + s) : y >>> ((6 : Int32) &&& 31) = k ∧ y &&& 63 = nI s := by
  obtain ⟨j, hj, rfl⟩ := oi_Vn h hn
  rw [nI_toInt (by omega)] at e
  have ey : y = nI (j * 64 + s) := Int32.toInt_inj.mp (by rw [nI_toInt (by omega), e]; omega)
  subst ey
  constructor
  · rw [pk_shrN (by omega) ((6 : Int32) &&& 31) 6 (by decide)]
    exact congrArg nI (by omega)
  · rw [pk_andN (by omega) 6 (by decide)]
    exact congrArg nI (by omega)
theorem oi_sh1 {a : Nat} (h : a < 2 ^ 31) : nI a >>> ((1 : Int32) &&& 31) = nI (a / 2) := pk_shrN h _ 1 (by decide)
/-! the ordered index -/
section
variable {fr : Int32} {ft : Int32} {fl : Int32} {rm : Int64} {pr : Int64} {lk : Int64} {ph : Int32} {co : Int32} {uq : Int32} {cu : Int32} {sp : Int32} {su : Int32} {cf : Int32} {lg : Int64} {bl : Int32} {ec : Int32} {ka : Nat → Int32} {kb : Nat → Int32} {ma : Nat → Int32} {mb : Nat → Int32} {ow : Nat → Int32} {ac : Nat → Int32} {od : Nat → Int64} {dr : Nat → Int32} {sd : Nat → Int32} {en : Nat → Int32} {sr : Nat → Int32}
theorem oi_lb_loop {x : Int32} {n : Nat} (hn : n ≤ 64) (hs : oi_so en n) : ∀ (f lo hi st : Nat), lo ≤ hi → hi ≤ n → (∀ i, i < lo → (en i).toInt < x.toInt) → (∀ i, hi ≤ i → i < n → x.toInt ≤ (en i).toInt) → hi - lo < 2 ^ (7 - st) → hi - lo < f → st ≤ 8 → ∃ r, r ≤ n ∧ (∀ i, i < r → (en i).toInt < x.toInt) ∧ (∀ i, r ≤ i → i < n → x.toInt ≤ (en i).toInt) ∧ ∀ post : Int32 → Prop, post (nI r) → wX_lowerBound_10 post x fr ft fl rm pr lk ph co uq cu sp su cf lg bl ec ka kb ma mb ow ac od dr sd en sr f (nI lo) (nI hi) (nI st) := by
  intro f
  induction f with
  | zero => intro lo hi st _ _ _ _ _ h; exact absurd h (Nat.not_lt_zero _)
  | succ f ih =>
    intro lo hi st h1 h2 h3 h4 h5 h6 h7
    by_cases e : lo = hi
    · subst e
      refine ⟨lo, h2, h3, h4, fun post hp => ?_⟩
      rw [wX_lowerBound_10]
      exact pk_le 8 st (fun _ => hp) (fun _ => pk_le lo lo (fun _ => hp) (fun z => absurd z (by omega)))
    · have hst : st < 7 := by
        rcases Nat.lt_or_ge st 7 with z | z
        · exact z
        · rw [show 7 - st = 0 by omega] at h5; omega
      have hpw : 2 ^ (7 - st) = 2 * 2 ^ (7 - (st + 1)) := by
        rw [show 7 - st = 7 - (st + 1) + 1 by omega, Nat.pow_succ, Nat.mul_comm]
      have em : (nI lo + nI hi) >>> ((1 : Int32) &&& 31) = nI ((lo + hi) / 2) := by rw [nI_add, oi_sh1 (by omega)]
      have hv : vp_in (nI ((lo + hi) / 2)) 64 := vp_in_nI (by omega) (by omega)
      have hc : (nI ((lo + hi) / 2)).toNatClampNeg = (lo + hi) / 2 := nI_clamp (by omega)
      by_cases hx : x ≤ en ((lo + hi) / 2)
      · have hx' := Int32.le_iff_toInt_le.mp hx
        obtain ⟨r, r1, r2, r3, r4⟩ := ih lo ((lo + hi) / 2) (st + 1) (by omega) (by omega) h3 (fun i a b => by
          rcases Nat.eq_or_lt_of_le a with w | w
          · rw [← w]; exact hx'
          · exact Int.le_trans hx' (hs _ i w b)) (by omega) (by omega) (by omega)
        refine ⟨r, r1, r2, r3, fun post hp => ?_⟩
        rw [wX_lowerBound_10]
        refine pk_le 8 st (fun z => absurd z (by omega)) (fun _ => pk_le hi lo (fun z => absurd z (by omega)) (fun _ => nm_r em ⟨hv, ?_⟩))
        rw [hc]
        exact br_t hx (nm_r (nI_1 st) (r4 post hp))
      · have hx' : (en ((lo + hi) / 2)).toInt < x.toInt := by
          have := mt Int32.le_iff_toInt_le.mpr hx; omega
        obtain ⟨r, r1, r2, r3, r4⟩ := ih ((lo + hi) / 2 + 1) hi (st + 1) (by omega) (by omega) (fun i a => by
          rcases Nat.eq_or_lt_of_le (Nat.lt_succ_iff.mp a) with w | w
          · rw [w]; exact hx'
          · have := hs i _ w (by omega); omega) h4 (by omega) (by omega) (by omega)
        refine ⟨r, r1, r2, r3, fun post hp => ?_⟩
        rw [wX_lowerBound_10]
        refine pk_le 8 st (fun z => absurd z (by omega)) (fun _ => pk_le hi lo (fun z => absurd z (by omega)) (fun _ => nm_r em ⟨hv, ?_⟩))
        rw [hc]
        exact br_f hx (nm_r (nI_1 _) (nm_r (nI_1 st) (r4 post hp)))
theorem oi_lb (x : Int32) {n : Nat} (hn : n ≤ 64) (hs : oi_so en n) : ∃ r, r ≤ n ∧ (∀ i, i < r → (en i).toInt < x.toInt) ∧ (∀ i, r ≤ i → i < n → x.toInt ≤ (en i).toInt) ∧ ∀ post : Int32 → Prop, post (nI r) → wpX_lowerBound post (fr, ft, fl, rm, pr, lk, ph, co, uq, cu, sp, su, cf, lg, bl, nI n, ka, kb, ma, mb, ow, ac, od, dr, sd, en, sr) x := by
  obtain ⟨r, r1, r2, r3, r4⟩ := oi_lb_loop (fr := fr) (ft := ft) (fl := fl) (rm := rm) (pr := pr) (lk := lk) (ph := ph) (co := co) (uq := uq) (cu := cu) (sp := sp) (su := su) (cf := cf) (lg := lg) (bl := bl) (ec := nI n) (ka := ka) (kb := kb) (ma := ma) (mb := mb) (ow := ow) (ac := ac) (od := od) (dr := dr) (sd := sd) (sr := sr) (x := x) hn hs 65 0 n 0 (by omega) (by omega) (fun i h => absurd h (by omega)) (fun i a b => absurd b (by omega)) (by show n - 0 < 2 ^ 7; omega) (by omega) (by omega)
  exact ⟨r, r1, r2, r3, fun post hp => ⟨65, r4 post hp⟩⟩
theorem oi_rm_loop {post : SX → Prop} {n a : Nat} (hn : n ≤ 64) (K : post (fr, ft, fl, rm, pr, lk, ph, co, uq, cu, sp, su, cf, lg, bl, nI (n - 1), ka, kb, ma, mb, ow, ac, od, dr, sd, oi_del en a n, sr)) : ∀ (f i : Nat), a < i → i ≤ n → n - i < f → wX_removeEntry_29 post fr ft fl rm pr lk ph co uq cu sp su cf lg bl (nI n) f (nI i) ka kb ma mb ow ac od dr sd (oi_del en a i) sr := by
  intro f
  induction f with
  | zero => intro i _ _ h; exact absurd h (Nat.not_lt_zero _)
  | succ f ih =>
    intro i h1 h2 h3
    rw [wX_removeEntry_29]
    refine pk_le n i (fun z => ?_) (fun z => ?_)
    · have e : i = n := by omega
      subst e
      exact nm_r (show nI i - 1 = nI (i - 1) from pk_sub (b := 1) (by omega)) K
    · have ei : nI i - 1 = nI (i - 1) := pk_sub (b := 1) (by omega)
      have e : upd (oi_del en a i) (nI i - 1).toNatClampNeg (oi_del en a i (nI i).toNatClampNeg) = oi_del en a (i + 1) := by
        rw [ei, nI_clamp (by omega), nI_clamp (by omega)]
        funext j
        by_cases w : j = i - 1
        · subst w
          rw [pk_us, oi_del_ge (n := i + 1) (j := i - 1) (by omega) (by omega), show i - 1 + 1 = i by omega]
          unfold oi_del; rw [if_neg (by omega)]
        · rw [pk_un w]
          unfold oi_del
          by_cases v : a ≤ j ∧ j + 1 < i
          · rw [if_pos v, if_pos (by omega)]
          · rw [if_neg v, if_neg (by omega)]
      refine ⟨vp_in_nI (by omega) (by omega), ?_, nm_r e (nm_r (nI_1 i) (ih (i + 1) (by omega) (by omega) (by omega)))⟩
      rw [ei]; exact vp_in_nI (by omega) (by omega)
theorem oi_remove {post : SX → Prop} {x : Int32} {n : Nat} (hn : n ≤ 64) (hs : oi_so en n) (hx : ∃ i, i < n ∧ en i = x) (K : ∀ a, a < n → en a = x → post (fr, ft, fl, rm, pr, lk, ph, co, uq, cu, sp, su, cf, lg, bl, nI (n - 1), ka, kb, ma, mb, ow, ac, od, dr, sd, oi_del en a n, sr)) : wpX_removeEntry post (fr, ft, fl, rm, pr, lk, ph, co, uq, cu, sp, su, cf, lg, bl, nI n, ka, kb, ma, mb, ow, ac, od, dr, sd, en, sr) x := by
  obtain ⟨r, r1, r2, r3, r4⟩ := oi_lb (fr := fr) (ft := ft) (fl := fl) (rm := rm) (pr := pr) (lk := lk) (ph := ph) (co := co) (uq := uq) (cu := cu) (sp := sp) (su := su) (cf := cf) (lg := lg) (bl := bl) (ka := ka) (kb := kb) (ma := ma) (mb := mb) (ow := ow) (ac := ac) (od := od) (dr := dr) (sd := sd) (sr := sr) x hn hs
  obtain ⟨i, hi, e⟩ := hx
  have hri : r ≤ i := by
    rcases Nat.lt_or_ge i r with z | z
    · have := r2 i z; rw [e] at this; omega
    · exact z
  have her : en r = x := by
    apply Int32.toInt_inj.mp
    have h1 := r3 r (by omega) (by omega)
    rcases Nat.eq_or_lt_of_le hri with w | w
    · rw [w, e]
    · have := hs r i w hi; rw [e] at this; omega
  unfold wpX_removeEntry
  apply r4
  refine pk_le n r (fun z => absurd z (by omega)) (fun _ => ⟨vp_in_nI (by omega) (by omega), ?_⟩)
  have hr : en (nI r).toNatClampNeg = x := by rw [nI_clamp (by omega)]; exact her
  refine br_t hr (nm_r (nI_1 r) ⟨65, ?_⟩)
  have e0 : en = oi_del en r (r + 1) := by
    funext j; unfold oi_del; rw [if_neg (by omega)]
  have := oi_rm_loop (n := n) (a := r) hn (K r (by omega) her) 65 (r + 1) (by omega) (by omega) (by omega)
  rw [← e0] at this
  exact this
def oi_sh (en : Nat → Int32) (i n : Nat) : Nat → Int32 := fun j => if i < j ∧ j ≤ n then en (j - 1) else en j
theorem oi_sh_n (en : Nat → Int32) (n : Nat) : oi_sh en n n = en := by
  funext j; unfold oi_sh; rw [if_neg (by omega)]
theorem oi_sh_le {en : Nat → Int32} {i n j : Nat} (h : j ≤ i) : oi_sh en i n j = en j := by
  unfold oi_sh; rw [if_neg (by omega)]
theorem oi_sh_s {en : Nat → Int32} {i n : Nat} (h0 : 0 < i) (h : i ≤ n) : upd (oi_sh en i n) i (oi_sh en i n (i - 1)) = oi_sh en (i - 1) n := by
  funext j
  by_cases w : j = i
  · subst w
    rw [pk_us, oi_sh_le (by omega)]
    unfold oi_sh; rw [if_pos (by omega)]
  · rw [pk_un w]
    unfold oi_sh
    by_cases v : i < j ∧ j ≤ n
    · rw [if_pos v, if_pos (by omega)]
    · rw [if_neg v, if_neg (by omega)]
theorem oi_sh_ins (en : Nat → Int32) (a n : Nat) (x : Int32) : upd (oi_sh en a n) a x = oi_ins en a n x := rfl
theorem oi_ie_loop {post : SX → Prop} {x : Int32} {n a : Nat} (hn : n < 64) (K : post (fr, ft, fl, rm, pr, lk, ph, co, uq, cu, sp, su, cf, lg, bl, nI (n + 1), ka, kb, ma, mb, ow, ac, od, dr, sd, oi_ins en a n x, sr)) : ∀ (f i : Nat), a ≤ i → i ≤ n → i - a < f → wX_insertEntry_21 post x (nI a) fr ft fl rm pr lk ph co uq cu sp su cf lg bl (nI n) f (nI i) ka kb ma mb ow ac od dr sd (oi_sh en i n) sr := by
  intro f
  induction f with
  | zero => intro i _ _ h; exact absurd h (Nat.not_lt_zero _)
  | succ f ih =>
    intro i h1 h2 h3
    rw [wX_insertEntry_21]
    refine pk_le i a (fun z => ?_) (fun z => ?_)
    · have e : i = a := by omega
      subst e
      have e1 : upd (oi_sh en i n) (nI i).toNatClampNeg x = oi_ins en i n x := by rw [nI_clamp (by omega)]; rfl
      exact ⟨vp_in_nI (by omega) (by omega), nm_r e1 (nm_r (nI_1 n) K)⟩
    · have ei : nI i - 1 = nI (i - 1) := pk_sub (b := 1) (by omega)
      have e : upd (oi_sh en i n) (nI i).toNatClampNeg (oi_sh en i n (nI i - 1).toNatClampNeg) = oi_sh en (i - 1) n := by
        rw [ei, nI_clamp (by omega), nI_clamp (by omega), oi_sh_s (by omega) h2]
      have em : nI i + (-1) = nI (i - 1) := by
        obtain ⟨k, rfl⟩ : ∃ k, i = k + 1 := ⟨i - 1, by omega⟩
        exact pk_m1 k
      refine ⟨?_, vp_in_nI (by omega) (by omega), nm_r e (nm_r em (ih (i - 1) (by omega) (by omega) (by omega)))⟩
      rw [ei]; exact vp_in_nI (by omega) (by omega)
theorem oi_insert {post : SX → Prop} {x : Int32} {n : Nat} (hn : n < 64) (hs : oi_so en n) (K : ∀ a, a ≤ n → (∀ i, i < a → (en i).toInt ≤ x.toInt) → (∀ i, a ≤ i → i < n → x.toInt ≤ (en i).toInt) → post (fr, ft, fl, rm, pr, lk, ph, co, uq, cu, sp, su, cf, lg, bl, nI (n + 1), ka, kb, ma, mb, ow, ac, od, dr, sd, oi_ins en a n x, sr)) : wpX_insertEntry post (fr, ft, fl, rm, pr, lk, ph, co, uq, cu, sp, su, cf, lg, bl, nI n, ka, kb, ma, mb, ow, ac, od, dr, sd, en, sr) x := by
  obtain ⟨r, r1, r2, r3, r4⟩ := oi_lb (fr := fr) (ft := ft) (fl := fl) (rm := rm) (pr := pr) (lk := lk) (ph := ph) (co := co) (uq := uq) (cu := cu) (sp := sp) (su := su) (cf := cf) (lg := lg) (bl := bl) (ka := ka) (kb := kb) (ma := ma) (mb := mb) (ow := ow) (ac := ac) (od := od) (dr := dr) (sd := sd) (sr := sr) x (Nat.le_of_lt hn) hs
  unfold wpX_insertEntry
  refine pk_lt n 64 (fun _ => ?_) (fun z => absurd z (by omega))
  apply r4
  refine ⟨65, ?_⟩
  have := oi_ie_loop (n := n) (a := r) (x := x) hn (K r r1 (fun i h => Int.le_of_lt (r2 i h)) r3) 65 n r1 (Nat.le_refl n) (by omega)
  rw [oi_sh_n] at this
  exact this
def oi_F (dr : Nat → Int32) : Nat → Bool := fun s => !decide (dr s = -1)
theorem oi_F_t {dr : Nat → Int32} {s : Nat} (h : ¬ dr s = -1) : oi_F dr s = true := by unfold oi_F; simp [h]
theorem oi_F_f {dr : Nat → Int32} {s : Nat} (h : dr s = -1) : oi_F dr s = false := by unfold oi_F; simp [h]
theorem oi_F_u {dr : Nat → Int32} {s j : Nat} {k : Int32} (h : j ≠ s) : oi_F (upd dr s k) j = oi_F dr j := by unfold oi_F; rw [pk_un h]
/-- the second half of setDraft: the draft is written and the new entry put in -/
theorem oi_sd28 {post : SX → Prop} {R s n : Nat} {k : Int32} {d0 : Nat → Int32} (hR : R ≤ 64) (hs : s < R) (hk : oi_V k) (hd : d0 s = -1) (hM : oi_MG (oi_F d0) d0 R en n) (hS : oi_so en n) (hdr : ∀ j, j ≠ s → dr j = d0 j)
    (K : ∀ (en' : Nat → Int32) (n' : Nat), oi_MG (oi_F (upd dr s k)) (upd dr s k) R en' n' → oi_so en' n' → post (fr, ft, fl, rm, pr, lk, ph, co, uq, cu, sp, su, cf, lg, bl, nI n', ka, kb, ma, mb, ow, ac, od, upd dr s k, sd, en', sr)) : wX_setDraft_28 post (nI s) k fr ft fl rm pr lk ph co uq cu sp su cf lg bl (nI n) ka kb ma mb ow ac od dr sd en sr := by
  have e : upd dr (nI s).toNatClampNeg k = upd dr s k := by rw [nI_clamp (by omega)]
  have hFo : ∀ j, j ≠ s → oi_F (upd dr s k) j = oi_F d0 j := fun j h => by rw [oi_F_u h]; unfold oi_F; rw [hdr j h]
  have hgo : ∀ j, j ≠ s → upd dr s k j = d0 j := fun j h => by rw [pk_un h, hdr j h]
  unfold wX_setDraft_28
  refine ⟨vp_in_nI (by omega) (by omega), nm_r e (br_c (fun z => ?_) (fun z => ?_))⟩
  · refine K en n ?_ hS
    refine oi_mg_congr hM (fun j hj => ?_) (fun j hj hF => ?_)
    · by_cases w : j = s
      · subst w; rw [oi_F_f hd, oi_F_f (by rw [pk_us]; exact z)]
      · exact hFo j w
    · by_cases w : j = s
      · subst w; rw [oi_F_f hd] at hF; exact absurd hF (by decide)
      · exact hgo j w
  · have hlt : n < 64 := by
      have h1 := oi_mg_cn hM
      have h2 := oi_cn_upd (P := oi_F d0) (Q := fun j => if j = s then true else oi_F d0 j) hs (fun i _ hi => by (try dsimp only); rw [if_neg hi])
      try dsimp only at h2
      rw [if_pos rfl, oi_F_f hd] at h2
      have h3 := oi_cn_le (fun j => if j = s then true else oi_F d0 j) R
      have : (true).toNat = 1 := rfl
      have : (false).toNat = 0 := rfl
      omega
    refine oi_insert hlt hS (fun a ha h1 h2 => ?_)
    refine K (oi_ins en a n (k * 64 + nI s)) (n + 1) ?_ (oi_so_ins hS ha h1 h2)
    refine oi_mg_put hM hs (oi_F_f hd) (oi_F_t (by rw [pk_us]; exact z)) hFo hgo ha ?_
    rw [pk_us]
    exact oi_pk hk z (by omega)
theorem oi_setDraft {post : SX → Prop} {R s n : Nat} {k : Int32} (hR : R ≤ 64) (hs : s < R) (hk : oi_V k) (hd : oi_V (dr s)) (hM : oi_MG (oi_F dr) dr R en n) (hS : oi_so en n)
    (K : ∀ (en' : Nat → Int32) (n' : Nat), oi_MG (oi_F (upd dr s k)) (upd dr s k) R en' n' → oi_so en' n' → post (fr, ft, fl, rm, pr, lk, ph, co, uq, cu, sp, su, cf, lg, bl, nI n', ka, kb, ma, mb, ow, ac, od, upd dr s k, sd, en', sr)) : wpX_setDraft post (fr, ft, fl, rm, pr, lk, ph, co, uq, cu, sp, su, cf, lg, bl, nI n, ka, kb, ma, mb, ow, ac, od, dr, sd, en, sr) (nI s) k := by
  have hn : n ≤ 64 := Nat.le_trans (oi_mg_le hM) hR
  have ed : dr (nI s).toNatClampNeg = dr s := by rw [nI_clamp (by omega)]
  unfold wpX_setDraft
  refine ⟨vp_in_nI (by omega) (by omega), nm_r ed (br_c (fun z => ?_) (fun z => br_c (fun y => ?_) (fun y => ?_)))⟩
  · have e : upd dr s k = dr := by
      funext j
      by_cases w : j = s
      · subst w; rw [pk_us]; exact z.symm
      · rw [pk_un w]
    have := K en n (by rw [e]; exact hM) hS
    rw [e] at this
    exact this
  · exact oi_sd28 hR hs hk y hM hS (fun _ _ => rfl) K
  · have hh : ∃ i, i < n ∧ en i = dr s * 64 + nI s := by
      obtain ⟨i, hi, e⟩ := oi_mg_has hM hs (oi_F_t y)
      exact ⟨i, hi, Int32.toInt_inj.mp (by rw [e, oi_pk hd y (by omega)])⟩
    refine oi_remove hn hS hh (fun a ha ea => ?_)
    obtain ⟨m, rfl⟩ : ∃ m, n = m + 1 := ⟨n - 1, by omega⟩
    refine oi_sd28 (d0 := upd dr s (-1)) (n := m) hR hs hk pk_us ?_ (oi_so_del hS ha) (fun j hj => (pk_un hj).symm) K
    refine oi_mg_take hM hs (oi_F_t y) (oi_F_f pk_us) (fun j hj => oi_F_u hj) (fun j hj => pk_un hj) ha ?_
    rw [ea, oi_pk hd y (by omega)]
end
end
section
/-! lagging slots, current rows -/
def oi_ky (co : Int32) (ka kb : Nat → Int32) (s : Nat) : Int32 := if co = 0 then ka s else kb s
def oi_lag (dr ky : Nat → Int32) (s : Nat) : Bool := !decide (dr s = ky s)
theorem oi_lag_t {dr ky : Nat → Int32} {s : Nat} (h : ¬ dr s = ky s) : oi_lag dr ky s = true := by unfold oi_lag; simp [h]
theorem oi_lag_f {dr ky : Nat → Int32} {s : Nat} (h : dr s = ky s) : oi_lag dr ky s = false := by unfold oi_lag; simp [h]
/-- the build: cursor, draft, side file, entries -/
def oi_BU (R p c n : Nat) (ky dr : Nat → Int32) (lg : Int64) (bl : Int32) (en : Nat → Int32) : Prop :=
  (c ≤ R ∧ (p = 0 → c = 0) ∧ (2 ≤ p → c = R)) ∧ (∀ s, s < R → oi_V (dr s)) ∧ (∀ s, oi_b lg s = (decide (s < c) && oi_lag dr ky s)) ∧ bl = nI (oi_cn (oi_lag dr ky) c) ∧ oi_MG (oi_F dr) dr c en n ∧ (p ≤ 2 → oi_rn 8 en n) ∧ (3 ≤ p → oi_so en n) ∧ (p = 4 → ∀ s, s < R → dr s = ky s)
section
variable {fr : Int32} {ft : Int32} {fl : Int32} {rm : Int64} {pr : Int64} {lk : Int64} {ph : Int32} {co : Int32} {uq : Int32} {cu : Int32} {sp : Int32} {su : Int32} {cf : Int32} {lg : Int64} {bl : Int32} {ec : Int32} {ka : Nat → Int32} {kb : Nat → Int32} {ma : Nat → Int32} {mb : Nat → Int32} {ow : Nat → Int32} {ac : Nat → Int32} {od : Nat → Int64} {dr : Nat → Int32} {sd : Nat → Int32} {en : Nat → Int32} {sr : Nat → Int32}
theorem oi_tk {post : Int32 → Prop} {s : Nat} (hs : s < 64) (hp : post (oi_ky co ka kb s)) : wpX_tableKey post (fr, ft, fl, rm, pr, lk, ph, co, uq, cu, sp, su, cf, lg, bl, ec, ka, kb, ma, mb, ow, ac, od, dr, sd, en, sr) (nI s) := by
  unfold wpX_tableKey
  have hv : vp_in (nI s) 64 := vp_in_nI hs (by omega)
  have hc : (nI s).toNatClampNeg = s := nI_clamp (by omega)
  unfold oi_ky at hp
  refine br_c (fun z => ⟨hv, ?_⟩) (fun z => ⟨hv, ?_⟩)
  · rw [hc]; rw [if_pos z] at hp; exact hp
  · rw [hc]; rw [if_neg z] at hp; exact hp
theorem oi_nl20 {post : SX → Prop} {s : Nat} {x2 : Int64} {z : Int32} (hs : s < 64) (h0 : oi_lag dr (oi_ky co ka kb) s = false → wX_noteLag_41 post x2 z 0 fr ft fl rm pr lk ph co uq cu sp su cf lg bl ec ka kb ma mb ow ac od dr sd en sr) (h1 : oi_lag dr (oi_ky co ka kb) s = true → wX_noteLag_41 post x2 z 1 fr ft fl rm pr lk ph co uq cu sp su cf lg bl ec ka kb ma mb ow ac od dr sd en sr) : wX_noteLag_20 post (nI s) x2 z fr ft fl rm pr lk ph co uq cu sp su cf lg bl ec ka kb ma mb ow ac od dr sd en sr := by
  have hc : (nI s).toNatClampNeg = s := nI_clamp (by omega)
  unfold wX_noteLag_20
  refine ⟨vp_in_nI hs (by omega), oi_tk hs ?_⟩
  rw [hc]
  exact br_c (fun y => h0 (oi_lag_f y)) (fun y => h1 (oi_lag_t y))
theorem oi_noteLag {post : SX → Prop} {s c : Nat} {L0 : Nat → Bool} (hs : s < c) (hc : c ≤ 64) (hb : ∀ j, oi_b lg j = (decide (j < c) && L0 j)) (hbl : bl = nI (oi_cn L0 c)) (ho : ∀ j, j < c → j ≠ s → oi_lag dr (oi_ky co ka kb) j = L0 j)
    (K : ∀ (lg' : Int64) (bl' : Int32), (∀ j, oi_b lg' j = (decide (j < c) && oi_lag dr (oi_ky co ka kb) j)) → bl' = nI (oi_cn (oi_lag dr (oi_ky co ka kb)) c) → post (fr, ft, fl, rm, pr, lk, ph, co, uq, cu, sp, su, cf, lg', bl', ec, ka, kb, ma, mb, ow, ac, od, dr, sd, en, sr)) : wpX_noteLag post (fr, ft, fl, rm, pr, lk, ph, co, uq, cu, sp, su, cf, lg, bl, ec, ka, kb, ma, mb, ow, ac, od, dr, sd, en, sr) (nI s) := by
  have hcn := oi_cn_upd (P := oi_lag dr (oi_ky co ka kb)) (Q := L0) hs ho
  have hle := oi_cn_le L0 c
  have hle1 := oi_cn_le (oi_lag dr (oi_ky co ka kb)) c
  have t1 : (true).toNat = 1 := rfl
  have t0 : (false).toNat = 0 := rfl
  have hbs : oi_b lg s = L0 s := by rw [hb s]; simp [hs]
  have same : L0 s = oi_lag dr (oi_ky co ka kb) s → post (fr, ft, fl, rm, pr, lk, ph, co, uq, cu, sp, su, cf, lg, bl, ec, ka, kb, ma, mb, ow, ac, od, dr, sd, en, sr) := fun e => by
    refine K lg bl (fun j => ?_) ?_
    · rw [hb j]
      by_cases w : j = s
      · rw [w, e]
      · by_cases v : j < c
        · rw [ho j v w]
        · simp [v]
    · rw [hbl]; rw [e] at hcn; exact congrArg nI (by omega)
  unfold wpX_noteLag
  intro x2 e2
  subst e2
  refine br_c (fun z => ?_) (fun z => ?_)
  · have z0 : L0 s = false := by rw [← hbs]; exact (oi_b_tst (by omega)).mp z
    refine oi_nl20 (by omega) (fun y => ?_) (fun y => ?_)
    · unfold wX_noteLag_41
      refine br_t rfl ?_
      unfold wX_noteLag_76
      exact br_t rfl (br_t rfl (same (by rw [z0, y])))
    · unfold wX_noteLag_41
      refine br_f (by decide) (br_t rfl (nm_e (nm_r (e' := nI (oi_cn (oi_lag dr (oi_ky co ka kb)) c)) ?_ (K _ _ (fun j => ?_) rfl))))
      · rw [z0, y] at hcn
        rw [hbl, nI_1]; exact congrArg nI (by omega)
      · rw [oi_b_or, oi_b_bit (by omega), hb j]
        by_cases w : j = s
        · subst w; simp [hs, y]
        · by_cases v : j < c
          · rw [ho j v w]; simp [w]
          · simp [v, w]
  · have z0 : L0 s = true := by
      rw [← hbs]
      exact ts_nf (fun q => z ((oi_b_tst (by omega)).mpr q))
    refine oi_nl20 (by omega) (fun y => ?_) (fun y => ?_)
    · unfold wX_noteLag_41
      refine br_t rfl ?_
      unfold wX_noteLag_76
      refine br_t rfl (br_f (by decide) (nm_e (nm_r (e' := nI (oi_cn (oi_lag dr (oi_ky co ka kb)) c)) ?_ (K _ _ (fun j => ?_) rfl))))
      · rw [z0, y] at hcn
        rw [hbl, show nI (oi_cn L0 c) - 1 = nI (oi_cn L0 c - 1) from pk_sub (b := 1) (by omega)]; exact congrArg nI (by omega)
      · rw [oi_b_and, oi_b_not, oi_b_bit (by omega), hb j]
        by_cases w : j = s
        · subst w; simp [y]
        · by_cases v : j < c
          · rw [ho j v w]; simp [w, show j < 64 by omega]
          · simp [v]
    · unfold wX_noteLag_41
      refine br_f (by decide) (br_f (by decide) ?_)
      unfold wX_noteLag_76
      exact br_f (by decide) (same (by rw [z0, y]))
theorem oi_sc53 {post : SX → Prop} {R p c n s : Nat} {ky0 : Nat → Int32} (hR : R ≤ 64) (hs : s < R) (hp : p ≤ 4) (hB : oi_BU R p c n ky0 dr lg bl en) (hk : oi_V (oi_ky co ka kb s)) (ho : ∀ j, j ≠ s → oi_ky co ka kb j = ky0 j)
    (K : ∀ (lg' : Int64) (bl' : Int32) (n' : Nat) (dr' en' : Nat → Int32), oi_BU R p c n' (oi_ky co ka kb) dr' lg' bl' en' → (p ≠ 4 → dr' = dr) → post (fr, ft, fl, rm, pr, lk, nI p, co, uq, nI c, sp, su, cf, lg', bl', nI n', ka, kb, ma, mb, ow, ac, od, dr', sd, en', sr)) : wX_setCurrent_53 post (nI s) fr ft fl rm pr lk (nI p) co uq (nI c) sp su cf lg bl (nI n) ka kb ma mb ow ac od dr sd en sr := by
  obtain ⟨⟨b1, b2, b3⟩, b4, b5, b6, b7, b8, b9, b10⟩ := hB
  have hlo : ∀ j, j ≠ s → oi_lag dr (oi_ky co ka kb) j = oi_lag dr ky0 j := fun j h => by unfold oi_lag; rw [ho j h]
  unfold wX_setCurrent_53
  refine pk_eq p 4 (fun z => ?_) (fun z => ?_)
  · subst z
    have hc : c = R := b3 (by omega)
    subst hc
    refine oi_tk (by omega) (oi_setDraft hR hs hk (b4 s hs) b7 (b9 (by omega)) (fun en' n' h1 h2 => ?_))
    have hd : ∀ j, j < c → upd dr s (oi_ky co ka kb s) j = oi_ky co ka kb j := fun j hj => by
      by_cases w : j = s
      · subst w; rw [pk_us]
      · rw [pk_un w, ho j w]; exact b10 rfl j hj
    have hl : ∀ j, j < c → oi_lag (upd dr s (oi_ky co ka kb s)) (oi_ky co ka kb) j = oi_lag dr ky0 j := fun j hj => by
      rw [oi_lag_f (hd j hj), oi_lag_f (b10 rfl j hj)]
    refine K lg bl n' _ en' ⟨⟨b1, b2, b3⟩, fun j hj => ?_, fun j => ?_, ?_, h1, fun q => absurd q (by omega), fun _ => h2, fun _ => hd⟩ (fun q => absurd rfl q)
    · by_cases w : j = s
      · subst w; rw [pk_us]; exact hk
      · rw [pk_un w]; exact b4 j hj
    · rw [b5 j]
      by_cases v : j < c
      · rw [hl j v]
      · simp [v]
    · rw [b6]; exact congrArg nI (oi_cn_congr (fun j hj => (hl j hj).symm))
  · refine pk_le c s (fun y => ?_) (fun y => ?_)
    · refine K lg bl n dr en ⟨⟨b1, b2, b3⟩, b4, fun j => ?_, ?_, b7, b8, b9, fun q => absurd q z⟩ (fun _ => rfl)
      · rw [b5 j]
        by_cases v : j < c
        · rw [hlo j (by omega)]
        · simp [v]
      · rw [b6]; exact congrArg nI (oi_cn_congr (fun j hj => (hlo j (by omega)).symm))
    · exact oi_noteLag y (by omega) b5 b6 (fun j _ h => hlo j h) (fun lg' bl' h1 h2 => K lg' bl' n dr en ⟨⟨b1, b2, b3⟩, b4, h1, h2, b7, b8, b9, fun q => absurd q z⟩ (fun _ => rfl))
theorem oi_setCur {post : SX → Prop} {R p c n s : Nat} {a b : Int32} (hR : R ≤ 64) (hs : s < R) (hp : p ≤ 4) (hB : oi_BU R p c n (oi_ky co ka kb) dr lg bl en) (ha : oi_V a) (hb : oi_V b)
    (K : ∀ (pr' lg' : Int64) (bl' : Int32) (n' : Nat) (dr' en' : Nat → Int32), (∀ j, oi_b pr' j = if j = s then !decide (a = -1) else oi_b pr j) → oi_BU R p c n' (oi_ky co (upd ka s a) (upd kb s b)) dr' lg' bl' en' → (p ≠ 4 → dr' = dr) → post (fr, ft, fl, rm, pr', lk, nI p, co, uq, nI c, sp, su, cf, lg', bl', nI n', upd ka s a, upd kb s b, ma, mb, ow, ac, od, dr', sd, en', sr)) : wpX_setCurrent post (fr, ft, fl, rm, pr, lk, nI p, co, uq, nI c, sp, su, cf, lg, bl, nI n, ka, kb, ma, mb, ow, ac, od, dr, sd, en, sr) (nI s) a b := by
  have hc : (nI s).toNatClampNeg = s := nI_clamp (by omega)
  have hv : vp_in (nI s) 64 := vp_in_nI (by omega) (by omega)
  have hk : oi_V (oi_ky co (upd ka s a) (upd kb s b) s) := by
    unfold oi_ky; rw [pk_us, pk_us]; split <;> assumption
  have ho : ∀ j, j ≠ s → oi_ky co (upd ka s a) (upd kb s b) j = oi_ky co ka kb j := fun j h => by
    unfold oi_ky; rw [pk_un h, pk_un h]
  unfold wpX_setCurrent
  refine nm_e ⟨hv, nm_r (e' := upd ka s a) (by rw [hc]) ⟨hv, nm_r (e' := upd kb s b) (by rw [hc]) (br_c (fun z => ?_) (fun z => ?_))⟩⟩
  · refine nm_e (oi_sc53 hR hs hp hB hk ho (fun lg' bl' n' dr' en' h1 h2 => K _ lg' bl' n' dr' en' (fun j => ?_) h1 h2))
    rw [oi_b_and, oi_b_not, oi_b_bit (by omega)]
    by_cases w : j = s
    · subst w; simp [z]
    · rcases Nat.lt_or_ge j 64 with v | v
      · simp [w, v]
      · rw [oi_b_ge v]; simp [w]
  · refine nm_e (oi_sc53 hR hs hp hB hk ho (fun lg' bl' n' dr' en' h1 h2 => K _ lg' bl' n' dr' en' (fun j => ?_) h1 h2))
    rw [oi_b_or, oi_b_bit (by omega)]
    by_cases w : j = s
    · subst w; simp [z]
    · simp [w]
theorem oi_claim {post : SX → Prop} {s t : Nat} (hs : s < 64) (ht : t < 9)
    (K : ∀ (lk' m : Int64), (∀ j, oi_b lk' j = (oi_b lk j || decide (j = s))) → (∀ j, oi_b m j = (oi_b (od t) j || decide (j = s))) → post (fr, ft, fl, rm, pr, lk', ph, co, uq, cu, sp, su, cf, lg, bl, ec, ka, kb, ma, mb, upd ow s (nI t), ac, vp_updL od t m, dr, sd, en, sr)) : wpX_claim post (fr, ft, fl, rm, pr, lk, ph, co, uq, cu, sp, su, cf, lg, bl, ec, ka, kb, ma, mb, ow, ac, od, dr, sd, en, sr) (nI s) (nI t) := by
  have hc : (nI s).toNatClampNeg = s := nI_clamp (by omega)
  have hd : (nI t).toNatClampNeg = t := nI_clamp (by omega)
  have hv : vp_in (nI s) 64 := vp_in_nI (by omega) (by omega)
  have hw : vp_in (nI t) 9 := vp_in_nI (by omega) (by omega)
  unfold wpX_claim
  refine nm_e ⟨hv, nm_r (e' := upd ow s (nI t)) (by rw [hc]) ⟨hw, hw, ?_⟩⟩
  rw [hd]
  exact nm_e (nm_e (K _ _ (fun j => by rw [oi_b_or, oi_b_bit hs]) (fun j => by rw [oi_b_or, oi_b_bit hs])))
end
end
section
/-! sorted runs and their merging -/
section
variable {fr : Int32} {ft : Int32} {fl : Int32} {rm : Int64} {pr : Int64} {lk : Int64} {ph : Int32} {co : Int32} {uq : Int32} {cu : Int32} {sp : Int32} {su : Int32} {cf : Int32} {lg : Int64} {bl : Int32} {ec : Int32} {ka : Nat → Int32} {kb : Nat → Int32} {ma : Nat → Int32} {mb : Nat → Int32} {ow : Nat → Int32} {ac : Nat → Int32} {od : Nat → Int64} {dr : Nat → Int32} {sd : Nat → Int32} {en : Nat → Int32} {sr : Nat → Int32}
theorem oi_ar_loop {post : SX → Prop} {x : Int32} {n st : Nat} (hn : n < 64) (hst : st ≤ n) (hrs : ∀ i j, st ≤ i → i < j → j < n → (en i).toInt ≤ (en j).toInt)
    (K : ∀ a, st ≤ a → a ≤ n → (∀ i, st ≤ i → i < a → (en i).toInt ≤ x.toInt) → (∀ i, a ≤ i → i < n → x.toInt ≤ (en i).toInt) → post (fr, ft, fl, rm, pr, lk, ph, co, uq, cu, sp, su, cf, lg, bl, nI (n + 1), ka, kb, ma, mb, ow, ac, od, dr, sd, oi_ins en a n x, sr)) :
    ∀ (f i : Nat), st ≤ i → i ≤ n → i - st < f → (∀ j, i ≤ j → j < n → x.toInt ≤ (en j).toInt) → wX_addToRun_48 post x (nI st) fr ft fl rm pr lk ph co uq cu sp su cf lg bl (nI n) f (nI i) (nI i) ka kb ma mb ow ac od dr sd (oi_sh en i n) sr := by
  intro f
  induction f with
  | zero => intro i _ _ h; exact absurd h (Nat.not_lt_zero _)
  | succ f ih =>
    intro i h1 h2 h3 h4
    have fin : (∀ j, st ≤ j → j < i → (en j).toInt ≤ x.toInt) → wX_addToRun_96 post x (nI i) fr ft fl rm pr lk ph co uq cu sp su cf lg bl (nI n) ka kb ma mb ow ac od dr sd (oi_sh en i n) sr := fun h5 => by
      have e1 : upd (oi_sh en i n) (nI i).toNatClampNeg x = oi_ins en i n x := by rw [nI_clamp (by omega)]; rfl
      unfold wX_addToRun_96
      exact ⟨vp_in_nI (by omega) (by omega), nm_r e1 (nm_r (nI_1 n) (K i h1 h2 h5 h4))⟩
    rw [wX_addToRun_48]
    refine pk_le i st (fun z => fin (fun j u v => absurd v (by omega))) (fun z => ?_)
    have ei : nI i - 1 = nI (i - 1) := pk_sub (b := 1) (by omega)
    have ec' : (nI i - 1).toNatClampNeg = i - 1 := by rw [ei]; exact nI_clamp (by omega)
    have hv : vp_in (nI i - 1) 64 := by rw [ei]; exact vp_in_nI (by omega) (by omega)
    have ea : oi_sh en i n (nI i - 1).toNatClampNeg = en (i - 1) := by rw [ec', oi_sh_le (by omega)]
    have em : nI i + (-1) = nI (i - 1) := by
      obtain ⟨k, rfl⟩ : ∃ k, i = k + 1 := ⟨i - 1, by omega⟩
      exact pk_m1 k
    have eu : upd (oi_sh en i n) (nI i).toNatClampNeg (oi_sh en i n (nI i - 1).toNatClampNeg) = oi_sh en (i - 1) n := by
      rw [ec', nI_clamp (by omega), oi_sh_s (by omega) h2]
    refine ⟨hv, br_c (fun y => ?_) (fun y => ?_)⟩
    · rw [ea, Int32.le_iff_toInt_le] at y
      refine fin (fun j u v => ?_)
      rcases Nat.eq_or_lt_of_le (show j ≤ i - 1 by omega) with w | w
      · rw [w]; exact y
      · exact Int.le_trans (hrs j (i - 1) u w (by omega)) y
    · rw [ea, Int32.le_iff_toInt_le] at y
      refine ⟨hv, vp_in_nI (by omega) (by omega), nm_r eu (nm_r ei (nm_r em (ih (i - 1) (by omega) (by omega) (by omega) (fun j u v => ?_))))⟩
      rcases Nat.eq_or_lt_of_le u with w | w
      · rw [← w]; omega
      · exact h4 j (by omega) v
theorem oi_addToRun {post : SX → Prop} {s n : Nat} {k : Int32} (hs : s < 64) (hk : oi_V k) (hd : dr s = k) (hM : oi_MG (oi_F dr) dr s en n) (hr : oi_rn 8 en n)
    (K : ∀ (n' : Nat) (en' : Nat → Int32), oi_MG (oi_F dr) dr (s + 1) en' n' → oi_rn 8 en' n' → post (fr, ft, fl, rm, pr, lk, ph, co, uq, cu, sp, su, cf, lg, bl, nI n', ka, kb, ma, mb, ow, ac, od, dr, sd, en', sr)) : wpX_addToRun post (fr, ft, fl, rm, pr, lk, ph, co, uq, cu, sp, su, cf, lg, bl, nI n, ka, kb, ma, mb, ow, ac, od, dr, sd, en, sr) k (nI s) := by
  have hn : n ≤ s := oi_mg_le hM
  unfold wpX_addToRun
  refine br_c (fun z => K n en (oi_mg_skip hM (oi_F_f (by rw [hd]; exact z))) hr) (fun z => ?_)
  refine pk_lt n 64 (fun _ => ?_) (fun y => absurd y (by omega))
  have e : nI n - (nI n - nI n / 8 * 8) = nI (n - n % 8) := by
    rw [show nI n - nI n / 8 * 8 = nI (n % 8) from pk_rem (d := 8) (by omega) (by omega) (by omega), pk_sub (Nat.mod_le n 8)]
  refine nm_e ⟨by decide, nm_r e ⟨65, ?_⟩⟩
  have := oi_ar_loop (fr := fr) (ft := ft) (fl := fl) (rm := rm) (pr := pr) (lk := lk) (ph := ph) (co := co) (uq := uq) (cu := cu) (sp := sp) (su := su) (cf := cf) (lg := lg) (bl := bl) (ka := ka) (kb := kb) (ma := ma) (mb := mb) (ow := ow) (ac := ac) (od := od) (dr := dr) (sd := sd) (en := en) (sr := sr) (post := post) (x := k * 64 + nI s) (n := n) (st := n - n % 8) (by omega) (by omega) (fun i j u v w => hr i j v w (by omega)) (fun a h0 h1 h2 h3 => K (n + 1) _ (oi_mg_push hM (oi_F_t (by rw [hd]; exact z)) h1 (by rw [hd]; exact oi_pk hk z hs)) (oi_rn_ins hr h0 h1 h2 h3)) 65 n (by omega) (by omega) (by omega) (fun j u v => absurd v (by omega))
  rw [oi_sh_n] at this
  exact this
end
/-- the merge of two runs: what holds after i and j entries are taken -/
def oi_MI (lf md ed : Nat) (en s0 sr : Nat → Int32) (i j k : Nat) : Prop :=
  (lf ≤ i ∧ i ≤ md ∧ md ≤ j ∧ j ≤ ed ∧ k + md = i + j) ∧ (∀ a b, lf ≤ a → a < b → b < k → (sr a).toInt ≤ (sr b).toInt) ∧ (∀ a, lf ≤ a → a < k → (i < md → (sr a).toInt ≤ (en i).toInt) ∧ (j < ed → (sr a).toInt ≤ (en j).toInt)) ∧ (∀ Q : Int → Bool, oi_cn (fun x => Q (sr x).toInt) k + oi_cn (fun x => Q (en x).toInt) lf + oi_cn (fun x => Q (en x).toInt) md = oi_cn (fun x => Q (sr x).toInt) lf + oi_cn (fun x => Q (en x).toInt) i + oi_cn (fun x => Q (en x).toInt) j) ∧ (∀ a, a < lf → sr a = s0 a)
theorem oi_cn_u {sr : Nat → Int32} {k m : Nat} {v : Int32} (h : m ≤ k) (Q : Int → Bool) : oi_cn (fun x => Q (upd sr k v x).toInt) m = oi_cn (fun x => Q (sr x).toInt) m :=
  oi_cn_congr (fun i hi => by (try dsimp only); rw [pk_un (by omega)])
theorem oi_cn_us {sr : Nat → Int32} {k : Nat} {v : Int32} (Q : Int → Bool) : oi_cn (fun x => Q (upd sr k v x).toInt) (k + 1) = oi_cn (fun x => Q (sr x).toInt) k + (Q v.toInt).toNat := by
  rw [oi_cn_s, oi_cn_u (Nat.le_refl k)]
  try dsimp only
  rw [pk_us]
theorem oi_mi_l {lf md ed : Nat} {en s0 sr : Nat → Int32} {i j k : Nat} (h : oi_MI lf md ed en s0 sr i j k) (hi : i < md) (H1 : ∀ a b, lf ≤ a → a < b → b < md → (en a).toInt ≤ (en b).toInt) (hm : j < ed → (en i).toInt ≤ (en j).toInt) : oi_MI lf md ed en s0 (upd sr k (en i)) (i + 1) j (k + 1) := by
  obtain ⟨⟨a1, a2, a3, a4, a5⟩, b, c, d, e⟩ := h
  refine ⟨⟨by omega, by omega, a3, a4, by omega⟩, fun x y u v w => ?_, fun x u v => ⟨fun q => ?_, fun q => ?_⟩, fun Q => ?_, fun x u => ?_⟩
  · rcases Nat.eq_or_lt_of_le (Nat.lt_succ_iff.mp w) with z | z
    · rw [z, pk_us, pk_un (by omega)]; exact (c x u (by omega)).1 hi
    · rw [pk_un (by omega), pk_un (by omega)]; exact b x y u v z
  · rcases Nat.eq_or_lt_of_le (Nat.lt_succ_iff.mp v) with z | z
    · rw [z, pk_us]; exact H1 i (i + 1) a1 (by omega) q
    · rw [pk_un (by omega)]; exact Int.le_trans ((c x u z).1 hi) (H1 i (i + 1) a1 (by omega) q)
  · rcases Nat.eq_or_lt_of_le (Nat.lt_succ_iff.mp v) with z | z
    · rw [z, pk_us]; exact hm q
    · rw [pk_un (by omega)]; exact (c x u z).2 q
  · have := d Q
    rw [oi_cn_us, oi_cn_u (show lf ≤ k by omega), oi_cn_s _ i]
    try dsimp only
    omega
  · rw [pk_un (by omega)]; exact e x u
theorem oi_mi_r {lf md ed : Nat} {en s0 sr : Nat → Int32} {i j k : Nat} (h : oi_MI lf md ed en s0 sr i j k) (hj : j < ed) (H2 : ∀ a b, md ≤ a → a < b → b < ed → (en a).toInt ≤ (en b).toInt) (hm : i < md → (en j).toInt ≤ (en i).toInt) : oi_MI lf md ed en s0 (upd sr k (en j)) i (j + 1) (k + 1) := by
  obtain ⟨⟨a1, a2, a3, a4, a5⟩, b, c, d, e⟩ := h
  refine ⟨⟨a1, a2, by omega, by omega, by omega⟩, fun x y u v w => ?_, fun x u v => ⟨fun q => ?_, fun q => ?_⟩, fun Q => ?_, fun x u => ?_⟩
  · rcases Nat.eq_or_lt_of_le (Nat.lt_succ_iff.mp w) with z | z
    · rw [z, pk_us, pk_un (by omega)]; exact (c x u (by omega)).2 hj
    · rw [pk_un (by omega), pk_un (by omega)]; exact b x y u v z
  · rcases Nat.eq_or_lt_of_le (Nat.lt_succ_iff.mp v) with z | z
    · rw [z, pk_us]; exact hm q
    · rw [pk_un (by omega)]; exact (c x u z).1 q
  · rcases Nat.eq_or_lt_of_le (Nat.lt_succ_iff.mp v) with z | z
    · rw [z, pk_us]; exact H2 j (j + 1) a3 (by omega) q
    · rw [pk_un (by omega)]; exact Int.le_trans ((c x u z).2 hj) (H2 j (j + 1) a3 (by omega) q)
  · have := d Q
    rw [oi_cn_us, oi_cn_u (show lf ≤ k by omega), oi_cn_s _ j]
    try dsimp only
    omega
  · rw [pk_un (by omega)]; exact e x u
section
variable {fr : Int32} {ft : Int32} {fl : Int32} {rm : Int64} {pr : Int64} {lk : Int64} {ph : Int32} {co : Int32} {uq : Int32} {cu : Int32} {sp : Int32} {su : Int32} {cf : Int32} {lg : Int64} {bl : Int32} {ec : Int32} {ka : Nat → Int32} {kb : Nat → Int32} {ma : Nat → Int32} {mb : Nat → Int32} {ow : Nat → Int32} {ac : Nat → Int32} {od : Nat → Int64} {dr : Nat → Int32} {sd : Nat → Int32} {en : Nat → Int32} {sr : Nat → Int32}
theorem oi_mp_loop {post : SX → Prop} {lf md ed : Nat} {s0 : Nat → Int32} (hed : ed ≤ 64) (H1 : ∀ a b, lf ≤ a → a < b → b < md → (en a).toInt ≤ (en b).toInt) (H2 : ∀ a b, md ≤ a → a < b → b < ed → (en a).toInt ≤ (en b).toInt)
    (K : ∀ sr', oi_MI lf md ed en s0 sr' md ed ed → post (fr, ft, fl, rm, pr, lk, ph, co, uq, cu, sp, su, cf, lg, bl, ec, ka, kb, ma, mb, ow, ac, od, dr, sd, en, sr')) :
    ∀ (f i j k : Nat) (sr : Nat → Int32), oi_MI lf md ed en s0 sr i j k → ed - k < f → wX_mergePair_48 post (nI md) (nI ed) fr ft fl rm pr lk ph co uq cu sp su cf lg bl ec f (nI i) (nI j) (nI k) ka kb ma mb ow ac od dr sd en sr := by
  intro f
  induction f with
  | zero => intro i j k sr _ h; exact absurd h (Nat.not_lt_zero _)
  | succ f ih =>
    intro i j k sr h hf
    have h' := h
    obtain ⟨⟨a1, a2, a3, a4, a5⟩, -⟩ := h'
    rw [wX_mergePair_48]
    have L : i < md → k < ed → (j < ed → (en i).toInt ≤ (en j).toInt) → wX_mergePair_85 post (wX_mergePair_48 post (nI md) (nI ed) fr ft fl rm pr lk ph co uq cu sp su cf lg bl ec f) (nI md) (nI ed) (nI i) (nI j) (nI k) fr ft fl rm pr lk ph co uq cu sp su cf lg bl ec ka kb ma mb ow ac od dr sd en sr := fun hi hk hm => by
      have e : upd sr (nI k).toNatClampNeg (en (nI i).toNatClampNeg) = upd sr k (en i) := by rw [nI_clamp (by omega), nI_clamp (by omega)]
      unfold wX_mergePair_85
      exact ⟨vp_in_nI (by omega) (by omega), vp_in_nI (by omega) (by omega), nm_r e (nm_r (nI_1 i) (nm_r (nI_1 k) (ih (i + 1) j (k + 1) _ (oi_mi_l h hi H1 hm) (by omega))))⟩
    have Rr : j < ed → k < ed → (i < md → (en j).toInt ≤ (en i).toInt) → wX_mergePair_105 post (wX_mergePair_48 post (nI md) (nI ed) fr ft fl rm pr lk ph co uq cu sp su cf lg bl ec f) (nI md) (nI ed) (nI i) (nI j) (nI k) fr ft fl rm pr lk ph co uq cu sp su cf lg bl ec ka kb ma mb ow ac od dr sd en sr := fun hi hk hm => by
      have e : upd sr (nI k).toNatClampNeg (en (nI j).toNatClampNeg) = upd sr k (en j) := by rw [nI_clamp (by omega), nI_clamp (by omega)]
      unfold wX_mergePair_105
      exact ⟨vp_in_nI (by omega) (by omega), vp_in_nI (by omega) (by omega), nm_r e (nm_r (nI_1 j) (nm_r (nI_1 k) (ih i (j + 1) (k + 1) _ (oi_mi_r h hi H2 hm) (by omega))))⟩
    refine pk_le ed k (fun z => ?_) (fun z => ?_)
    · have e1 : i = md := by omega
      have e2 : j = ed := by omega
      have e3 : k = ed := by omega
      rw [e1, e2, e3] at h
      exact K sr h
    · refine pk_le ed j (fun y => L (by omega) z (fun q => absurd q (by omega))) (fun y => pk_le md i (fun x => Rr y z (fun q => absurd q (by omega))) (fun x => ?_))
      refine ⟨vp_in_nI (by omega) (by omega), vp_in_nI (by omega) (by omega), ?_⟩
      rw [nI_clamp (show i < 2 ^ 31 by omega), nI_clamp (show j < 2 ^ 31 by omega), Int32.lt_iff_toInt_lt]
      exact br_c (fun w => Rr y z (fun _ => by omega)) (fun w => L x z (fun _ => by omega))
theorem oi_mp17 {post : SX → Prop} {lf w md n : Nat} (hn : n ≤ 64) (hw : w ≤ 64) (hl : lf < n) (hm : md = min (lf + w) n) (hr : ∀ a b, a < b → b < n → (lf ≤ a ∧ b < md ∨ md ≤ a ∧ b < lf + 2 * w) → (en a).toInt ≤ (en b).toInt)
    (K : ∀ sr', oi_MI lf md (min (lf + 2 * w) n) en sr sr' md (min (lf + 2 * w) n) (min (lf + 2 * w) n) → post (fr, ft, fl, rm, pr, lk, ph, co, uq, cu, sp, su, cf, lg, bl, nI n, ka, kb, ma, mb, ow, ac, od, dr, sd, en, sr')) : wX_mergePair_17 post (nI lf) (nI w) (nI md) fr ft fl rm pr lk ph co uq cu sp su cf lg bl (nI n) ka kb ma mb ow ac od dr sd en sr := by
  have h0 : ∀ ed, ed = min (lf + 2 * w) n → oi_MI lf md ed en sr sr lf md lf := fun ed he =>
    ⟨⟨by omega, by omega, by omega, by omega, by omega⟩, fun a b u v w => absurd w (by omega), fun a u v => absurd v (by omega), fun Q => by omega, fun _ _ => rfl⟩
  have e4 : nI lf + 2 * nI w = nI (lf + 2 * w) := by
    rw [show (2 : Int32) * nI w = nI (2 * w) from pk_mul 2 w, nI_add]
  unfold wX_mergePair_17
  refine nm_r e4 (pk_le (lf + 2 * w) n (fun z => ⟨65, ?_⟩) (fun z => ⟨65, ?_⟩))
  · have he : lf + 2 * w = min (lf + 2 * w) n := by omega
    rw [← he] at K
    exact oi_mp_loop (by omega) (fun a b u v w => hr a b v (by omega) (Or.inl ⟨u, w⟩)) (fun a b u v w => hr a b v (by omega) (Or.inr ⟨u, w⟩)) K 65 lf md lf sr (h0 _ he) (by omega)
  · have he : n = min (lf + 2 * w) n := by omega
    rw [← he] at K
    exact oi_mp_loop (by omega) (fun a b u v w => hr a b v (by omega) (Or.inl ⟨u, w⟩)) (fun a b u v w => hr a b v (by omega) (Or.inr ⟨u, by omega⟩)) K 65 lf md lf sr (h0 _ he) (by omega)
theorem oi_mergePair {post : SX → Prop} {lf w n : Nat} (hn : n ≤ 64) (hw : w ≤ 64) (hl : lf < n) (hr : ∀ a b, a < b → b < n → (lf ≤ a ∧ b < min (lf + w) n ∨ min (lf + w) n ≤ a ∧ b < lf + 2 * w) → (en a).toInt ≤ (en b).toInt)
    (K : ∀ sr', oi_MI lf (min (lf + w) n) (min (lf + 2 * w) n) en sr sr' (min (lf + w) n) (min (lf + 2 * w) n) (min (lf + 2 * w) n) → post (fr, ft, fl, rm, pr, lk, ph, co, uq, cu, sp, su, cf, lg, bl, nI n, ka, kb, ma, mb, ow, ac, od, dr, sd, en, sr')) : wpX_mergePair post (fr, ft, fl, rm, pr, lk, ph, co, uq, cu, sp, su, cf, lg, bl, nI n, ka, kb, ma, mb, ow, ac, od, dr, sd, en, sr) (nI lf) (nI w) := by
  unfold wpX_mergePair
  refine nm_r (nI_add lf w) (pk_le (lf + w) n (fun z => ?_) (fun z => ?_))
  · have e : lf + w = min (lf + w) n := by omega
    exact oi_mp17 hn hw hl e (by rw [← e] at hr; exact hr) (by rw [← e] at K; exact K)
  · have e : n = min (lf + w) n := by omega
    exact oi_mp17 hn hw hl e (by rw [← e] at hr; exact hr) (by rw [← e] at K; exact K)
/-- a pass: the copy back -/
theorem oi_mr44 {post : SX → Prop} {J : Int32 → Int32 → Int32 → Int32 → Int64 → Int64 → Int64 → Int32 → Int32 → Int32 → Int32 → Int32 → Int32 → Int32 → Int64 → Int32 → Int32 → (Nat → Int32) → (Nat → Int32) → (Nat → Int32) → (Nat → Int32) → (Nat → Int32) → (Nat → Int32) → (Nat → Int64) → (Nat → Int32) → (Nat → Int32) → (Nat → Int32) → (Nat → Int32) → Prop} {w n : Nat} (hn : n ≤ 64)
    (K : J (nI (w * 2)) fr ft fl rm pr lk ph co uq cu sp su cf lg bl (nI n) ka kb ma mb ow ac od dr sd (fun j => if j < n then sr j else en j) sr) :
    ∀ (f i : Nat), i ≤ n → n - i < f → wX_mergeRuns_44 post J (nI w) fr ft fl rm pr lk ph co uq cu sp su cf lg bl (nI n) f (nI i) ka kb ma mb ow ac od dr sd (fun j => if j < i then sr j else en j) sr := by
  intro f
  induction f with
  | zero => intro i _ h; exact absurd h (Nat.not_lt_zero _)
  | succ f ih =>
    intro i h1 h2
    rw [wX_mergeRuns_44]
    refine pk_le n i (fun z => ?_) (fun z => ?_)
    · have e : i = n := by omega
      subst e
      exact nm_r (show nI w * 2 = nI (w * 2) from pk_mul w 2) K
    · have e : upd (fun j => if j < i then sr j else en j) (nI i).toNatClampNeg (sr (nI i).toNatClampNeg) = fun j => if j < i + 1 then sr j else en j := by
        rw [nI_clamp (by omega)]
        funext j
        by_cases v : j = i
        · subst v; rw [pk_us, if_pos (by omega)]
        · rw [pk_un v]
          by_cases u : j < i
          · rw [if_pos u, if_pos (by omega)]
          · rw [if_neg u, if_neg (by omega)]
      exact ⟨vp_in_nI (by omega) (by omega), vp_in_nI (by omega) (by omega), nm_r e (nm_r (nI_1 i) (ih (i + 1) (by omega) (by omega)))⟩
/-- a pass: its pairs -/
theorem oi_mr19 {post : SX → Prop} {J : Int32 → Int32 → Int32 → Int32 → Int64 → Int64 → Int64 → Int32 → Int32 → Int32 → Int32 → Int32 → Int32 → Int32 → Int64 → Int32 → Int32 → (Nat → Int32) → (Nat → Int32) → (Nat → Int32) → (Nat → Int32) → (Nat → Int32) → (Nat → Int32) → (Nat → Int64) → (Nat → Int32) → (Nat → Int32) → (Nat → Int32) → (Nat → Int32) → Prop} {w n : Nat} (hn : n ≤ 64) (hw0 : 0 < w) (hw : w ≤ 64) (hr : oi_rn w en n)
    (K : ∀ (en' sr' : Nat → Int32), oi_rn (2 * w) en' n → (∀ Q : Int → Bool, oi_cn (fun x => Q (en' x).toInt) n = oi_cn (fun x => Q (en x).toInt) n) → J (nI (w * 2)) fr ft fl rm pr lk ph co uq cu sp su cf lg bl (nI n) ka kb ma mb ow ac od dr sd en' sr') :
    ∀ (f q : Nat) (sr : Nat → Int32), 2 * w * q ≤ n + 2 * w → n - 2 * w * q < f → oi_rn (2 * w) sr (min (2 * w * q) n) → (∀ Q : Int → Bool, oi_cn (fun x => Q (sr x).toInt) (min (2 * w * q) n) = oi_cn (fun x => Q (en x).toInt) (min (2 * w * q) n)) → wX_mergeRuns_19 post J (nI w) f (nI (2 * w * q)) fr ft fl rm pr lk ph co uq cu sp su cf lg bl (nI n) ka kb ma mb ow ac od dr sd en sr := by
  intro f
  induction f with
  | zero => intro q sr _ h; exact absurd h (Nat.not_lt_zero _)
  | succ f ih =>
    intro q sr h1 h2 h3 h4
    rw [wX_mergeRuns_19]
    refine pk_le n (2 * w * q) (fun z => ⟨65, ?_⟩) (fun z => ?_)
    · have e : min (2 * w * q) n = n := by omega
      rw [e] at h3 h4
      have e0 : (fun j => if j < 0 then sr j else en j) = en := by funext j; rw [if_neg (by omega)]
      have := oi_mr44 (fr := fr) (ft := ft) (fl := fl) (rm := rm) (pr := pr) (lk := lk) (ph := ph) (co := co) (uq := uq) (cu := cu) (sp := sp) (su := su) (cf := cf) (lg := lg) (bl := bl) (ka := ka) (kb := kb) (ma := ma) (mb := mb) (ow := ow) (ac := ac) (od := od) (dr := dr) (sd := sd) (en := en) (sr := sr) (post := post) (J := J) (w := w) (n := n) hn (K (fun j => if j < n then sr j else en j) sr ?_ ?_) 65 0 (by omega) (by omega)
      · rw [e0] at this; exact this
      · intro a b u v x
        try dsimp only
        rw [if_pos (by omega), if_pos v]
        exact h3 a b u v x
      · intro Q
        rw [← h4 Q]
        exact oi_cn_congr (fun a ha => by (try dsimp only); rw [if_pos ha])
    · have hq : 2 * w * (q + 1) = 2 * w * q + 2 * w := by rw [Nat.mul_succ]
      have el : min (2 * w * q) n = 2 * w * q := by omega
      rw [el] at h3 h4
      have hd : ∀ a, 2 * w * q ≤ a → a < 2 * w * q + 2 * w → a / (2 * w) = q := fun a u v => by
        apply Nat.div_eq_of_lt_le
        · rw [Nat.mul_comm]; exact u
        · rw [Nat.mul_comm, hq]; exact v
      have hd1 : ∀ a, 2 * w * q ≤ a → a < 2 * w * q + w → a / w = 2 * q := fun a u v => by
        apply Nat.div_eq_of_lt_le
        · rw [show 2 * q * w = 2 * w * q by rw [Nat.mul_assoc, Nat.mul_assoc, Nat.mul_comm q w]]; exact u
        · rw [Nat.succ_mul, show 2 * q * w = 2 * w * q by rw [Nat.mul_assoc, Nat.mul_assoc, Nat.mul_comm q w]]; exact v
      have hd2 : ∀ a, 2 * w * q + w ≤ a → a < 2 * w * q + 2 * w → a / w = 2 * q + 1 := fun a u v => by
        apply Nat.div_eq_of_lt_le
        · rw [Nat.succ_mul, show 2 * q * w = 2 * w * q by rw [Nat.mul_assoc, Nat.mul_assoc, Nat.mul_comm q w]]; exact u
        · rw [Nat.succ_mul, Nat.succ_mul, show 2 * q * w = 2 * w * q by rw [Nat.mul_assoc, Nat.mul_assoc, Nat.mul_comm q w]]; omega
      generalize hlf : 2 * w * q = lf at *
      refine oi_mergePair hn hw z (fun a b u v x => ?_) (fun sr' h => ?_)
      · apply hr a b u v
        rcases x with ⟨x1, x2⟩ | ⟨x1, x2⟩
        · rw [hd1 a x1 (by omega), hd1 b (by omega) (by omega)]
        · rw [hd2 a (by omega) (by omega), hd2 b (by omega) (by omega)]
      · obtain ⟨⟨a1, a2, a3, a4, a5⟩, b, c, d, e⟩ := h
        have e4 : nI lf + 2 * nI w = nI (2 * w * (q + 1)) := by
          rw [show (2 : Int32) * nI w = nI (2 * w) from pk_mul 2 w, nI_add, hq]
        have em : min (2 * w * (q + 1)) n = min (lf + 2 * w) n := by rw [hq]
        refine nm_r e4 (ih (q + 1) sr' (by omega) (by omega) ?_ ?_)
        · rw [em]
          intro x y u v r
          rcases Nat.lt_or_ge y lf with s | s
          · rw [e x (by omega), e y s]; exact h3 x y u s r
          · have hx : lf ≤ x := by
              rcases Nat.lt_or_ge x lf with t | t
              · have h5 := hd y s (by omega)
                rw [h5] at r
                have h6 : x / (2 * w) < q := by
                  apply (Nat.div_lt_iff_lt_mul (by omega)).mpr
                  rw [Nat.mul_comm, hlf]; exact t
                omega
              · exact t
            exact b x y hx u v
        · rw [em]
          intro Q
          have h5 := d Q
          have h6 := h4 Q
          have h7 : oi_cn (fun x => Q (sr' x).toInt) lf = oi_cn (fun x => Q (sr x).toInt) lf := oi_cn_congr (fun a ha => by (try dsimp only); rw [e a ha])
          omega
end
end
section
theorem oi_cn_0 (P : Nat → Bool) : oi_cn P 0 = 0 := rfl
section
variable {fr : Int32} {ft : Int32} {fl : Int32} {rm : Int64} {pr : Int64} {lk : Int64} {ph : Int32} {co : Int32} {uq : Int32} {cu : Int32} {sp : Int32} {su : Int32} {cf : Int32} {lg : Int64} {bl : Int32} {ec : Int32} {ka : Nat → Int32} {kb : Nat → Int32} {ma : Nat → Int32} {mb : Nat → Int32} {ow : Nat → Int32} {ac : Nat → Int32} {od : Nat → Int64} {dr : Nat → Int32} {sd : Nat → Int32} {en : Nat → Int32} {sr : Nat → Int32}
theorem oi_mr3 {post : SX → Prop} {F : Nat → Bool} {g : Nat → Int32} {c n : Nat} (hn : n ≤ 64) (K : ∀ (en' sr' : Nat → Int32), oi_MG F g c en' n → oi_so en' n → post (fr, ft, fl, rm, pr, lk, ph, co, uq, cu, sp, su, cf, lg, bl, nI n, ka, kb, ma, mb, ow, ac, od, dr, sd, en', sr')) :
    ∀ (m w : Nat) (en sr : Nat → Int32), (w = 8 ∨ w = 16 ∨ w = 32 ∨ w = 64) → 64 ≤ w * 2 ^ m → oi_MG F g c en n → oi_rn w en n → wX_mergeRuns_3 post (m + 1) (nI w) fr ft fl rm pr lk ph co uq cu sp su cf lg bl (nI n) ka kb ma mb ow ac od dr sd en sr := by
  intro m
  induction m with
  | zero =>
    intro w en sr h0 h2 h3 h4
    rw [wX_mergeRuns_3]
    rw [Nat.pow_zero, Nat.mul_one] at h2
    refine pk_le 64 w (fun _ => K en sr h3 (fun i j u v => h4 i j u v ?_)) (fun z => absurd z (by omega))
    rw [Nat.div_eq_of_lt (by omega), Nat.div_eq_of_lt (by omega)]
  | succ m ih =>
    intro w en sr h0 h2 h3 h4
    rw [wX_mergeRuns_3]
    refine pk_le 64 w (fun z => K en sr h3 (fun i j u v => h4 i j u v ?_)) (fun z => pk_le n w (fun y => K en sr h3 (fun i j u v => h4 i j u v ?_)) (fun y => ⟨65, ?_⟩))
    · rw [Nat.div_eq_of_lt (by omega), Nat.div_eq_of_lt (by omega)]
    · rw [Nat.div_eq_of_lt (by omega), Nat.div_eq_of_lt (by omega)]
    · have L := oi_mr19 (fr := fr) (ft := ft) (fl := fl) (rm := rm) (pr := pr) (lk := lk) (ph := ph) (co := co) (uq := uq) (cu := cu) (sp := sp) (su := su) (cf := cf) (lg := lg) (bl := bl) (ka := ka) (kb := kb) (ma := ma) (mb := mb) (ow := ow) (ac := ac) (od := od) (dr := dr) (sd := sd) (en := en) (post := post) (J := wX_mergeRuns_3 post (m + 1)) (w := w) (n := n) hn (by omega) (by omega) h4 (fun en' sr' k1 k2 => ?_) 65 0 sr
      · rw [Nat.mul_zero, Nat.zero_min, nI_0] at L
        exact L (Nat.zero_le _) (by omega) (fun i j u v => absurd v (Nat.not_lt_zero j)) (fun Q => (oi_cn_0 _).trans (oi_cn_0 _).symm)
      · rw [show w * 2 = 2 * w by omega]
        refine ih (2 * w) en' sr' (by omega) ?_ (fun Q => by rw [k2 Q]; exact h3 Q) k1
        rw [Nat.pow_succ] at h2
        rw [Nat.mul_comm 2 w, Nat.mul_assoc, Nat.mul_comm 2]; exact h2
theorem oi_mergeRuns {post : SX → Prop} {F : Nat → Bool} {g : Nat → Int32} {c n : Nat} (hc : c ≤ 64) (hM : oi_MG F g c en n) (hr : oi_rn 8 en n) (K : ∀ (en' sr' : Nat → Int32), oi_MG F g c en' n → oi_so en' n → post (fr, ft, fl, rm, pr, lk, ph, co, uq, cu, sp, su, cf, lg, bl, nI n, ka, kb, ma, mb, ow, ac, od, dr, sd, en', sr')) : wpX_mergeRuns post (fr, ft, fl, rm, pr, lk, ph, co, uq, cu, sp, su, cf, lg, bl, nI n, ka, kb, ma, mb, ow, ac, od, dr, sd, en, sr) := by
  unfold wpX_mergeRuns
  exact ⟨4, oi_mr3 (Nat.le_trans (oi_mg_le hM) hc) K 3 8 en sr (Or.inl rfl) (by decide) hM hr⟩
end
end
section
/-! catching up; the loops over the bits of a mask -/
/-- a loop over the bits of m, lowest first -/
theorem oi_mloop {σ : Type} (W : Nat → Int64 → Int32 → σ → Prop) (m : Int64) (I : Nat → σ → Prop)
    (hx : ∀ (f : Nat) (rest : Int64) (st : Nat) (x : σ), st ≤ 64 → (64 ≤ st ∨ rest = 0) → I 64 x → W (f + 1) rest (nI st) x)
    (hs : ∀ (f : Nat) (rest : Int64) (st i s : Nat) (x : σ), st < 64 → ¬ rest = 0 → oi_low rest s → i ≤ s → oi_b m s = true → (∀ j, i ≤ j → j < s → oi_b m j = false) → I i x → (∀ x', I (s + 1) x' → W f (rest &&& (rest - 1)) (nI (st + 1)) x') → W (f + 1) rest (nI st) x)
    (hI : ∀ (i : Nat) (x : σ), i ≤ 64 → (∀ j, i ≤ j → j < 64 → oi_b m j = false) → I i x → I 64 x) :
    ∀ (f : Nat) (rest : Int64) (st i : Nat) (x : σ), st ≤ i → i ≤ 64 → 64 - i < f → (∀ j, oi_b rest j = (oi_b m j && decide (i ≤ j))) → I i x → W f rest (nI st) x := by
  intro f
  induction f with
  | zero => intro rest st i x _ _ h; exact absurd h (Nat.not_lt_zero _)
  | succ f ih =>
    intro rest st i x h1 h2 h3 h4 h5
    by_cases z : 64 ≤ st
    · refine hx f rest st x (by omega) (Or.inl z) (hI i x h2 (fun j a b => absurd b (by omega)) h5)
    · by_cases y : rest = 0
      · refine hx f rest st x (by omega) (Or.inr y) (hI i x h2 (fun j a b => ?_) h5)
        have := h4 j
        rw [y, oi_b_0] at this
        simpa [a] using this.symm
      · obtain ⟨s, hl⟩ := oi_low_ex y
        have hl' := hl
        obtain ⟨l1, l2, l3⟩ := hl'
        have hb := h4 s
        rw [l2] at hb
        have hb' : oi_b m s = true ∧ i ≤ s := by simpa using hb.symm
        refine hs f rest st i s x (by omega) y hl hb'.2 hb'.1 (fun j a b => ?_) h5 (fun x' h' => ?_)
        · have := h4 j
          rw [l3 j b] at this
          simpa [a] using this.symm
        · refine ih _ (st + 1) (s + 1) x' (by omega) (by omega) (by omega) (fun j => ?_) h'
          rw [oi_b_drop hl, h4 j]
          by_cases w : j = s
          · subst w; simp
          · by_cases v : s + 1 ≤ j
            · simp [w, v, show i ≤ j by omega]
            · rcases Nat.lt_or_ge j i with u | u
              · simp [v, show ¬ i ≤ j by omega]
              · have hj : oi_b m j = false := by
                  have := h4 j
                  rw [l3 j (by omega)] at this
                  simpa [u] using this.symm
                rw [hj]; rfl
section
variable {fr : Int32} {ft : Int32} {fl : Int32} {rm : Int64} {pr : Int64} {lk : Int64} {ph : Int32} {co : Int32} {uq : Int32} {cu : Int32} {sp : Int32} {su : Int32} {cf : Int32} {lg : Int64} {bl : Int32} {ec : Int32} {ka : Nat → Int32} {kb : Nat → Int32} {ma : Nat → Int32} {mb : Nat → Int32} {ow : Nat → Int32} {ac : Nat → Int32} {od : Nat → Int64} {dr : Nat → Int32} {sd : Nat → Int32} {en : Nat → Int32} {sr : Nat → Int32}
theorem oi_cu_loop {post : SX → Prop} {R m : Nat} {d0 ky : Nat → Int32} {B : Nat} (hR : R ≤ 64) (hky : ky = oi_ky co ka kb) (hV : ∀ s, s < R → oi_V (ky s)) (hB : B = oi_cn (oi_lag d0 ky) R) (hm : m ≤ B)
    (K : ∀ (dr' en' : Nat → Int32) (n' : Nat) (lg' : Int64), (∀ s, s < R → dr' s = if (oi_lag d0 ky s && decide (oi_cn (oi_lag d0 ky) s < m)) = true then ky s else d0 s) → (∀ s, s < R → oi_V (dr' s)) → oi_MG (oi_F dr') dr' R en' n' → oi_so en' n' → (∀ s, oi_b lg' s = (decide (s < R) && (oi_lag d0 ky s && decide (m ≤ oi_cn (oi_lag d0 ky) s)))) → post (fr, ft, fl, rm, pr, lk, ph, co, uq, cu, sp, su, cf, lg', nI (B - m), nI n', ka, kb, ma, mb, ow, ac, od, dr', sd, en', sr)) :
    ∀ (f j n : Nat) (lg : Int64) (dr en : Nat → Int32), j ≤ m → m - j < f → (∀ s, s < R → dr s = if (oi_lag d0 ky s && decide (oi_cn (oi_lag d0 ky) s < j)) = true then ky s else d0 s) → (∀ s, s < R → oi_V (dr s)) → oi_MG (oi_F dr) dr R en n → oi_so en n → (∀ s, oi_b lg s = (decide (s < R) && (oi_lag d0 ky s && decide (j ≤ oi_cn (oi_lag d0 ky) s)))) → wX_catchUp_2 post (nI m) f (nI j) fr ft fl rm pr lk ph co uq cu sp su cf lg (nI (B - j)) (nI n) ka kb ma mb ow ac od dr sd en sr := by
  have hBR : B ≤ R := by rw [hB]; exact oi_cn_le _ _
  intro f
  induction f with
  | zero => intro j n lg dr en _ h; exact absurd h (Nat.not_lt_zero _)
  | succ f ih =>
    intro j n lg dr en h1 h2 h3 h4 h5 h6 h7
    have fin : j = m → post (fr, ft, fl, rm, pr, lk, ph, co, uq, cu, sp, su, cf, lg, nI (B - j), nI n, ka, kb, ma, mb, ow, ac, od, dr, sd, en, sr) := fun e => by
      subst e
      exact K dr en n lg h3 h4 h5 h6 h7
    rw [wX_catchUp_2]
    refine pk_le 64 j (fun z => fin (by omega)) (fun z => pk_le m j (fun y => fin (by omega)) (fun y => br_c (fun x => ?_) (fun x => ?_)))
    · obtain ⟨s, s1, s2, s3⟩ := oi_cn_at (P := oi_lag d0 ky) (n := R) (j := j) (by omega)
      have := h7 s
      rw [x, oi_b_0, s2, s3] at this
      simp [s1] at this
    · obtain ⟨s, hl⟩ := oi_low_ex x
      have hl' := hl
      obtain ⟨l1, l2, l3⟩ := hl'
      have hb := h7 s
      rw [l2] at hb
      have hb' : s < R ∧ oi_lag d0 ky s = true ∧ j ≤ oi_cn (oi_lag d0 ky) s := by simpa using hb.symm
      obtain ⟨c1, c2, c3⟩ := hb'
      have c4 : oi_cn (oi_lag d0 ky) s = j := by
        rcases Nat.eq_or_lt_of_le c3 with w | w
        · exact w.symm
        · obtain ⟨s', s1, s2, s3⟩ := oi_cn_at w
          have q := h7 s'
          rw [l3 s' s1, s2, s3] at q
          simp [show s' < R by omega] at q
      have hk : oi_V (oi_ky co ka kb s) := by rw [← hky]; exact hV s c1
      refine oi_lowest _ hl (oi_tk (by omega) (oi_setDraft hR c1 hk (h4 s c1) h5 h6 (fun en' n' k1 k2 => ?_)))
      rw [← hky] at k1
      rw [← hky]
      have e1 : nI (B - j) - 1 = nI (B - (j + 1)) := by
        rw [show nI (B - j) - 1 = nI (B - j - 1) from pk_sub (b := 1) (by omega)]
        exact congrArg nI (by omega)
      refine nm_e (nm_r e1 (nm_r (nI_1 j) (ih (j + 1) n' _ _ en' (by omega) (by omega) (fun i hi => ?_) (fun i hi => ?_) k1 k2 (fun i => ?_))))
      · by_cases w : i = s
        · subst w
          rw [pk_us, if_pos (by rw [c2, c4]; simp)]
        · rw [pk_un w, h3 i hi]
          by_cases v : oi_lag d0 ky i = true
          · have q : oi_cn (oi_lag d0 ky) i ≠ j := fun q => by
              rcases Nat.lt_trichotomy i s with u | u | u
              · have := oi_cn_lt u v; omega
              · exact w u
              · have := oi_cn_lt u c2; omega
            by_cases u : oi_cn (oi_lag d0 ky) i < j
            · rw [if_pos (by rw [v]; simp [u]), if_pos (by rw [v]; simp; omega)]
            · rw [if_neg (by rw [v]; simp; omega), if_neg (by rw [v]; simp; omega)]
          · rw [Bool.eq_false_iff.mpr v]; rfl
      · by_cases w : i = s
        · subst w; rw [pk_us]; exact hV i hi
        · rw [pk_un w]; exact h4 i hi
      · rw [oi_b_drop hl, h7 i]
        by_cases w : i = s
        · subst w; rw [c4]; simp
        · by_cases v : oi_lag d0 ky i = true
          · have q : oi_cn (oi_lag d0 ky) i ≠ j := fun q => by
              rcases Nat.lt_trichotomy i s with u | u | u
              · have := oi_cn_lt u v; omega
              · exact w u
              · have := oi_cn_lt u c2; omega
            rw [v]
            by_cases u : j ≤ oi_cn (oi_lag d0 ky) i
            · simp [w, u, show j + 1 ≤ oi_cn (oi_lag d0 ky) i by omega]
            · simp [u, show ¬ j + 1 ≤ oi_cn (oi_lag d0 ky) i by omega]
          · rw [Bool.eq_false_iff.mpr v]; simp
theorem oi_catchUp {post : SX → Prop} {R m B n : Nat} (hR : R ≤ 64) (hV : ∀ s, s < R → oi_V (oi_ky co ka kb s)) (hD : ∀ s, s < R → oi_V (dr s)) (hB : B = oi_cn (oi_lag dr (oi_ky co ka kb)) R) (hm : m ≤ B) (hM : oi_MG (oi_F dr) dr R en n) (hS : oi_so en n) (hlg : ∀ s, oi_b lg s = (decide (s < R) && oi_lag dr (oi_ky co ka kb) s))
    (K : ∀ (dr' en' : Nat → Int32) (n' : Nat) (lg' : Int64), (∀ s, s < R → dr' s = if (oi_lag dr (oi_ky co ka kb) s && decide (oi_cn (oi_lag dr (oi_ky co ka kb)) s < m)) = true then oi_ky co ka kb s else dr s) → (∀ s, s < R → oi_V (dr' s)) → oi_MG (oi_F dr') dr' R en' n' → oi_so en' n' → (∀ s, oi_b lg' s = (decide (s < R) && oi_lag dr' (oi_ky co ka kb) s)) → oi_cn (oi_lag dr' (oi_ky co ka kb)) R = B - m → post (fr, ft, fl, rm, pr, lk, ph, co, uq, cu, sp, su, cf, lg', nI (B - m), nI n', ka, kb, ma, mb, ow, ac, od, dr', sd, en', sr)) : wpX_catchUp post (fr, ft, fl, rm, pr, lk, ph, co, uq, cu, sp, su, cf, lg, nI B, nI n, ka, kb, ma, mb, ow, ac, od, dr, sd, en, sr) (nI m) := by
  unfold wpX_catchUp
  refine ⟨m + 1, oi_cu_loop (d0 := dr) (B := B) hR rfl hV hB hm (fun dr' en' n' lg' k1 k2 k3 k4 k5 => ?_) (m + 1) 0 n lg dr en (by omega) (by omega) (fun s hs => ?_) hD hM hS (fun s => ?_)⟩
  · have hl : ∀ s, s < R → oi_lag dr' (oi_ky co ka kb) s = (oi_lag dr (oi_ky co ka kb) s && decide (m ≤ oi_cn (oi_lag dr (oi_ky co ka kb)) s)) := fun s hs => by
      have e := k1 s hs
      by_cases v : oi_lag dr (oi_ky co ka kb) s = true
      · rw [v] at e ⊢
        by_cases u : oi_cn (oi_lag dr (oi_ky co ka kb)) s < m
        · rw [if_pos (by simp [u])] at e
          rw [oi_lag_f e]; simp; omega
        · rw [if_neg (by simp; omega)] at e
          rw [show oi_lag dr' (oi_ky co ka kb) s = oi_lag dr (oi_ky co ka kb) s by unfold oi_lag; rw [e], v]; simp; omega
      · rw [Bool.eq_false_iff.mpr v] at e ⊢
        rw [if_neg (by simp)] at e
        rw [show oi_lag dr' (oi_ky co ka kb) s = oi_lag dr (oi_ky co ka kb) s by unfold oi_lag; rw [e], Bool.eq_false_iff.mpr v]; rfl
    refine K dr' en' n' lg' k1 k2 k3 k4 (fun s => ?_) ?_
    · rw [k5 s]
      by_cases w : s < R
      · rw [hl s w]
      · simp [w]
    · rw [oi_cn_congr hl]
      have h1 := oi_cn_add (P := oi_lag dr (oi_ky co ka kb)) (A := fun s => oi_lag dr (oi_ky co ka kb) s && decide (m ≤ oi_cn (oi_lag dr (oi_ky co ka kb)) s)) (B := fun s => oi_lag dr (oi_ky co ka kb) s && decide (oi_cn (oi_lag dr (oi_ky co ka kb)) s < m)) (n := R) (fun i _ => by
        try dsimp only
        by_cases u : oi_cn (oi_lag dr (oi_ky co ka kb)) i < m
        · simp [u, show ¬ m ≤ oi_cn (oi_lag dr (oi_ky co ka kb)) i by omega]
        · simp [u, show m ≤ oi_cn (oi_lag dr (oi_ky co ka kb)) i by omega])
      have h2 : ∀ r, oi_cn (fun s => oi_lag dr (oi_ky co ka kb) s && decide (oi_cn (oi_lag dr (oi_ky co ka kb)) s < m)) r = min (oi_cn (oi_lag dr (oi_ky co ka kb)) r) m := fun r => by
        induction r with
        | zero => exact (Nat.zero_min m).symm
        | succ r ih =>
          rw [oi_cn_s, ih, oi_cn_s (oi_lag dr (oi_ky co ka kb))]
          have t1 : (true).toNat = 1 := rfl
          have t0 : (false).toNat = 0 := rfl
          by_cases v : oi_lag dr (oi_ky co ka kb) r = true
          · by_cases u : oi_cn (oi_lag dr (oi_ky co ka kb)) r < m
            · simp only [v, u, decide_true, Bool.and_true]; omega
            · simp only [v, u, decide_false, Bool.and_false]; omega
          · simp only [Bool.eq_false_iff.mpr v, Bool.false_and]; omega
      have h3 := h2 R
      rw [← hB] at h1 h3
      omega
  · rw [if_neg (by simp)]
  · rw [hlg s]; simp
/-- endTransaction: holder -/
theorem oi_et_loop {post : SX → Prop} {t : Nat} {m : Int64} (ht : t < 9)
    (K : wX_endTransaction_50 post (nI t) fr ft fl rm pr lk ph co uq cu sp su cf lg bl ec ka kb ma mb (fun s => if oi_b m s = true then 0 else ow s) ac od dr sd en sr) : wX_endTransaction_10 post (nI t) fr ft fl rm pr lk ph co uq cu sp su cf lg bl ec 65 m (nI 0) ka kb ma mb ow ac od dr sd en sr := by
  have := oi_mloop (fun f rest st x => wX_endTransaction_10 post (nI t) fr ft fl rm pr lk ph co uq cu sp su cf lg bl ec f rest st ka kb ma mb x ac od dr sd en sr) m (fun i x => x = fun s => if (oi_b m s && decide (s < i)) = true then 0 else ow s) ?_ ?_ ?_ 65 m 0 0 ow (by omega) (by omega) (by omega) (fun j => by simp) (by funext s; simp)
  · exact this
  · intro f rest st x h1 h2 h3
    have e : x = fun s => if oi_b m s = true then 0 else ow s := by
      rw [h3]; funext s
      rcases Nat.lt_or_ge s 64 with z | z
      · simp [z]
      · rw [oi_b_ge z]; simp
    subst e
    try dsimp only
    rw [wX_endTransaction_10]
    refine pk_le 64 st (fun _ => K) (fun z => ?_)
    rcases h2 with h2 | h2
    · exact absurd h2 (by omega)
    · exact br_t h2 K
  · intro f rest st i s x h1 h2 h3 h4 h5 h6 h7 h8
    try dsimp only at h8 ⊢
    have hl := h3.1
    rw [wX_endTransaction_10]
    refine pk_le 64 st (fun z => absurd z (by omega)) (fun _ => br_f h2 (oi_lowest _ h3 ?_))
    have e : upd x (nI s).toNatClampNeg 0 = fun j => if (oi_b m j && decide (j < s + 1)) = true then 0 else ow j := by
      rw [nI_clamp (by omega), h7]
      funext j
      by_cases w : j = s
      · subst w; rw [pk_us, h5]; simp
      · rw [pk_un w]
        by_cases v : j < i
        · simp [v, show j < s + 1 by omega]
        · by_cases u : j < s
          · rw [h6 j (by omega) u]; simp
          · simp [v, show ¬ j < s + 1 by omega]
    exact nm_e ⟨vp_in_nI hl (by omega), nm_r e (nm_r (nI_1 st) (h8 _ rfl))⟩
  · intro i x h1 h2 h3
    rw [h3]; funext s
    rcases Nat.lt_or_ge s i with z | z
    · simp [z, show s < 64 by omega]
    · rcases Nat.lt_or_ge s 64 with y | y
      · rw [h2 s z y]; simp
      · rw [oi_b_ge y]; simp
theorem oi_endT {post : SX → Prop} {t : Nat} (ht : t < 9)
    (K : ∀ lk' : Int64, (∀ j, oi_b lk' j = (oi_b lk j && !oi_b (od t) j)) → post (fr, ft, fl, rm, pr, lk', ph, co, uq, cu, sp, su, cf, lg, bl, ec, ka, kb, ma, mb, fun s => if oi_b (od t) s = true then 0 else ow s, upd ac t 0, vp_updL od t 0, dr, sd, en, sr)) : wpX_endTransaction post (fr, ft, fl, rm, pr, lk, ph, co, uq, cu, sp, su, cf, lg, bl, ec, ka, kb, ma, mb, ow, ac, od, dr, sd, en, sr) (nI t) := by
  have hc : (nI t).toNatClampNeg = t := nI_clamp (by omega)
  have hv : vp_in (nI t) 9 := vp_in_nI (by omega) (by omega)
  unfold wpX_endTransaction
  refine ⟨hv, nm_r (e' := od t) (by rw [hc]) ⟨65, oi_et_loop ht ?_⟩⟩
  unfold wX_endTransaction_50
  refine ⟨hv, nm_e ⟨hv, nm_r (e' := vp_updL od t 0) (by rw [hc]) ⟨hv, nm_r (e' := upd ac t 0) (by rw [hc]; rfl) (K _ (fun j => ?_))⟩⟩⟩
  rw [hc, oi_b_and, oi_b_not]
  rcases Nat.lt_or_ge j 64 with z | z
  · simp [z]
  · rw [oi_b_ge z]; simp
/-- commit: the committed rows -/
theorem oi_cm_loop {post : Int32 → SX → Prop} {t : Nat} {m : Int64}
    (K : wX_commit_115 post (nI t) fr ft fl rm pr lk ph co uq cu sp su cf lg bl ec ka kb (fun s => if oi_b m s = true then ka s else ma s) (fun s => if oi_b m s = true then kb s else mb s) ow ac od dr sd en sr) : wX_commit_55 post (nI t) fr ft fl rm pr lk ph co uq cu sp su cf lg bl ec 65 m (nI 0) ka kb ma mb ow ac od dr sd en sr := by
  have := oi_mloop (fun f rest st (x : (Nat → Int32) × (Nat → Int32)) => wX_commit_55 post (nI t) fr ft fl rm pr lk ph co uq cu sp su cf lg bl ec f rest st ka kb (x.1) (x.2) ow ac od dr sd en sr) m (fun i x => x.1 = (fun s => if (oi_b m s && decide (s < i)) = true then ka s else ma s) ∧ x.2 = (fun s => if (oi_b m s && decide (s < i)) = true then kb s else mb s)) ?_ ?_ ?_ 65 m 0 0 (ma, mb) (by omega) (by omega) (by omega) (fun j => by simp) ⟨by funext s; simp, by funext s; simp⟩
  · exact this
  · intro f rest st x h1 h2 h3
    obtain ⟨x1, x2⟩ := x
    have e1 : x1 = fun s => if oi_b m s = true then ka s else ma s := by
      rw [show x1 = _ from h3.1]; funext s
      rcases Nat.lt_or_ge s 64 with z | z
      · simp [z]
      · rw [oi_b_ge z]; simp
    have e2 : x2 = fun s => if oi_b m s = true then kb s else mb s := by
      rw [show x2 = _ from h3.2]; funext s
      rcases Nat.lt_or_ge s 64 with z | z
      · simp [z]
      · rw [oi_b_ge z]; simp
    subst e1 e2
    try dsimp only
    rw [wX_commit_55]
    refine pk_le 64 st (fun _ => K) (fun z => ?_)
    rcases h2 with h2 | h2
    · exact absurd h2 (by omega)
    · exact br_t h2 K
  · intro f rest st i s x h1 h2 h3 h4 h5 h6 h7 h8
    obtain ⟨x1, x2⟩ := x
    obtain ⟨g1, g2⟩ := h7
    try dsimp only at g1 g2 h8 ⊢
    have hl := h3.1
    have hv : vp_in (nI s) 64 := vp_in_nI hl (by omega)
    rw [wX_commit_55]
    refine pk_le 64 st (fun z => absurd z (by omega)) (fun _ => br_f h2 (oi_lowest _ h3 ?_))
    have e : ∀ (x k0 m0 : Nat → Int32), x = (fun s => if (oi_b m s && decide (s < i)) = true then k0 s else m0 s) → upd x (nI s).toNatClampNeg (k0 (nI s).toNatClampNeg) = fun j => if (oi_b m j && decide (j < s + 1)) = true then k0 j else m0 j := fun x k0 m0 hx => by
      rw [nI_clamp (by omega), hx]
      funext j
      by_cases w : j = s
      · subst w; rw [pk_us, h5]; simp
      · rw [pk_un w]
        by_cases v : j < i
        · simp [v, show j < s + 1 by omega]
        · by_cases u : j < s
          · rw [h6 j (by omega) u]; simp
          · simp [v, show ¬ j < s + 1 by omega]
    exact nm_e ⟨hv, hv, nm_r (e x1 ka ma g1) ⟨hv, hv, nm_r (e x2 kb mb g2) (nm_r (nI_1 st) (h8 (_, _) ⟨rfl, rfl⟩))⟩⟩
  · intro i x h1 h2 h3
    obtain ⟨x1, x2⟩ := x
    obtain ⟨g1, g2⟩ := h3
    have e : ∀ (x k0 m0 : Nat → Int32), x = (fun s => if (oi_b m s && decide (s < i)) = true then k0 s else m0 s) → x = (fun s => if (oi_b m s && decide (s < 64)) = true then k0 s else m0 s) := fun x k0 m0 hx => by
      rw [hx]; funext s
      rcases Nat.lt_or_ge s i with z | z
      · simp [z, show s < 64 by omega]
      · rcases Nat.lt_or_ge s 64 with y | y
        · rw [h2 s z y]; simp
        · rw [oi_b_ge y]; simp
    exact ⟨e x1 ka ma g1, e x2 kb mb g2⟩
end
end
section
/-! undo -/
section
variable {fr : Int32} {ft : Int32} {fl : Int32} {rm : Int64} {pr : Int64} {lk : Int64} {ph : Int32} {co : Int32} {uq : Int32} {cu : Int32} {sp : Int32} {su : Int32} {cf : Int32} {lg : Int64} {bl : Int32} {ec : Int32} {ka : Nat → Int32} {kb : Nat → Int32} {ma : Nat → Int32} {mb : Nat → Int32} {ow : Nat → Int32} {ac : Nat → Int32} {od : Nat → Int64} {dr : Nat → Int32} {sd : Nat → Int32} {en : Nat → Int32} {sr : Nat → Int32}
theorem oi_undo {post : SX → Prop} {R p c n t : Nat} (hR : R ≤ 64) (hp : p ≤ 4) (ht : t < 9) (hm : ∀ j, oi_b (od t) j = true → j < R) (hV : ∀ s, s < R → oi_V (ma s) ∧ oi_V (mb s)) (hB : oi_BU R p c n (oi_ky co ka kb) dr lg bl en)
    (K : ∀ (pr' lk' lg' : Int64) (bl' : Int32) (n' : Nat) (dr' en' : Nat → Int32), (∀ j, oi_b pr' j = if oi_b (od t) j = true then !decide (ma j = -1) else oi_b pr j) → (∀ j, oi_b lk' j = (oi_b lk j && !oi_b (od t) j)) → oi_BU R p c n' (oi_ky co (fun s => if oi_b (od t) s = true then ma s else ka s) (fun s => if oi_b (od t) s = true then mb s else kb s)) dr' lg' bl' en' → (p ≠ 4 → dr' = dr) → post (fr, ft, fl, rm, pr', lk', nI p, co, uq, nI c, sp, su, cf, lg', bl', nI n', fun s => if oi_b (od t) s = true then ma s else ka s, fun s => if oi_b (od t) s = true then mb s else kb s, ma, mb, fun s => if oi_b (od t) s = true then 0 else ow s, upd ac t 0, vp_updL od t 0, dr', sd, en', sr)) : wpX_undo post (fr, ft, fl, rm, pr, lk, nI p, co, uq, nI c, sp, su, cf, lg, bl, nI n, ka, kb, ma, mb, ow, ac, od, dr, sd, en, sr) (nI t) := by
  have hc : (nI t).toNatClampNeg = t := nI_clamp (by omega)
  have hv : vp_in (nI t) 9 := vp_in_nI (by omega) (by omega)
  unfold wpX_undo
  refine ⟨hv, nm_r (e' := od t) (by rw [hc]) ⟨65, ?_⟩⟩
  have := oi_mloop (fun f rest st (x : Int64 × Int64 × Int32 × Nat × (Nat → Int32) × (Nat → Int32) × (Nat → Int32) × (Nat → Int32)) => wX_undo_10 post (nI t) f rest st fr ft fl rm (x.1) lk (nI p) co uq (nI c) sp su cf (x.2.1) (x.2.2.1) (nI x.2.2.2.1) (x.2.2.2.2.1) (x.2.2.2.2.2.1) ma mb ow ac od (x.2.2.2.2.2.2.1) sd (x.2.2.2.2.2.2.2) sr) (od t)
    (fun i x => x.2.2.2.2.1 = (fun s => if (oi_b (od t) s && decide (s < i)) = true then ma s else ka s) ∧ x.2.2.2.2.2.1 = (fun s => if (oi_b (od t) s && decide (s < i)) = true then mb s else kb s) ∧ (∀ j, oi_b x.1 j = if (oi_b (od t) j && decide (j < i)) = true then !decide (ma j = -1) else oi_b pr j) ∧ oi_BU R p c x.2.2.2.1 (oi_ky co x.2.2.2.2.1 x.2.2.2.2.2.1) x.2.2.2.2.2.2.1 x.2.1 x.2.2.1 x.2.2.2.2.2.2.2 ∧ (p ≠ 4 → x.2.2.2.2.2.2.1 = dr)) ?_ ?_ ?_ 65 (od t) 0 0 (pr, lg, bl, n, ka, kb, dr, en) (by omega) (by omega) (by omega) (fun j => by simp) ⟨by funext s; simp, by funext s; simp, fun j => by simp, hB, fun _ => rfl⟩
  · exact this
  · intro f rest st x h1 h2 h3
    obtain ⟨x1, x2, x3, x4, x5, x6, x7, x8⟩ := x
    dsimp only at h3 ⊢
    obtain ⟨g1, g2, g3, g4, g5⟩ := h3
    have e0 : ∀ s, (oi_b (od t) s && decide (s < 64)) = oi_b (od t) s := fun s => by
      rcases Nat.lt_or_ge s 64 with z | z
      · simp [z]
      · rw [oi_b_ge z]; rfl
    simp only [e0] at g1 g2 g3
    subst g1 g2
    have fin : wX_undo_62 post (nI t) fr ft fl rm x1 lk (nI p) co uq (nI c) sp su cf x2 x3 (nI x4) (fun s => if oi_b (od t) s = true then ma s else ka s) (fun s => if oi_b (od t) s = true then mb s else kb s) ma mb ow ac od x7 sd x8 sr := by
      unfold wX_undo_62
      exact oi_endT ht (fun lk' k1 => K x1 lk' x2 x3 x4 x7 x8 g3 k1 g4 g5)
    rw [wX_undo_10]
    refine pk_le 64 st (fun _ => fin) (fun z => ?_)
    rcases h2 with h2 | h2
    · exact absurd h2 (by omega)
    · exact br_t h2 fin
  · intro f rest st i s x h1 h2 h3 h4 h5 h6 h7 h8
    obtain ⟨x1, x2, x3, x4, x5, x6, x7, x8⟩ := x
    dsimp only at h7 h8 ⊢
    obtain ⟨g1, g2, g3, g4, g5⟩ := h7
    have hl := h3.1
    have hs : vp_in (nI s) 64 := vp_in_nI hl (by omega)
    have hcs : (nI s).toNatClampNeg = s := nI_clamp (by omega)
    have e : ∀ (x k0 m0 : Nat → Int32), x = (fun s => if (oi_b (od t) s && decide (s < i)) = true then m0 s else k0 s) → upd x s (m0 s) = fun j => if (oi_b (od t) j && decide (j < s + 1)) = true then m0 j else k0 j := fun x k0 m0 hx => by
      rw [hx]
      funext j
      by_cases w : j = s
      · subst w; rw [pk_us, h5]; simp
      · rw [pk_un w]
        by_cases v : j < i
        · simp [v, show j < s + 1 by omega]
        · by_cases u : j < s
          · rw [h6 j (by omega) u]; simp
          · simp [v, show ¬ j < s + 1 by omega]
    rw [wX_undo_10]
    refine pk_le 64 st (fun z => absurd z (by omega)) (fun _ => br_f h2 (oi_lowest _ h3 (nm_e ⟨hs, hs, ?_⟩)))
    rw [hcs]
    have hsR := hm s h5
    refine oi_setCur hR hsR hp g4 (hV s hsR).1 (hV s hsR).2 (fun pr' lg' bl' n' dr' en' k1 k2 k3 => nm_r (nI_1 st) ?_)
    rw [e x5 ka ma g1, e x6 kb mb g2] at k2 ⊢
    refine h8 (pr', lg', bl', n', _, _, dr', en') ⟨rfl, rfl, fun j => ?_, k2, fun q => by rw [k3 q]; exact g5 q⟩
    try dsimp only
    rw [k1 j]
    by_cases w : j = s
    · subst w; rw [if_pos rfl, h5]; simp
    · rw [if_neg w, g3 j]
      by_cases v : j < i
      · simp [v, show j < s + 1 by omega]
      · by_cases u : j < s
        · rw [h6 j (by omega) u]; simp
        · simp [v, show ¬ j < s + 1 by omega]
  · intro i x h1 h2 h3
    obtain ⟨g1, g2, g3, g4, g5⟩ := h3
    have e0 : ∀ s, (oi_b (od t) s && decide (s < i)) = (oi_b (od t) s && decide (s < 64)) := fun s => by
      rcases Nat.lt_or_ge s i with z | z
      · simp [z, show s < 64 by omega]
      · rcases Nat.lt_or_ge s 64 with y | y
        · rw [h2 s z y]; rfl
        · rw [oi_b_ge y]; rfl
    simp only [e0] at g1 g2 g3
    exact ⟨g1, g2, g3, g4, g5⟩
end
end
section
/-! the lowest shared key -/
def oi_LS (R : Nat) (vk : Nat → Int32) (r : Int32) : Prop := (r = -1 ∧ ∀ a b, a < b → b < R → vk a = vk b → vk a = -1) ∨ (¬ r = -1 ∧ (∃ a b, a < b ∧ b < R ∧ vk a = r ∧ vk b = r) ∧ ∀ a b, a < b → b < R → vk a = vk b → ¬ vk a = -1 → r.toInt ≤ (vk a).toInt)
theorem oi_ls_u {R : Nat} {vk : Nat → Int32} {r r' : Int32} (h : oi_LS R vk r) (h' : oi_LS R vk r') : r = r' := by
  rcases h with ⟨h1, h2⟩ | ⟨h1, ⟨a, b, h2, h3, h4, h5⟩, h6⟩
  · rcases h' with ⟨k1, k2⟩ | ⟨k1, ⟨a, b, k2, k3, k4, k5⟩, k6⟩
    · rw [h1, k1]
    · exact absurd (by rw [← k4]; exact h2 a b k2 k3 (by rw [k4, k5])) k1
  · rcases h' with ⟨k1, k2⟩ | ⟨k1, ⟨a', b', k2, k3, k4, k5⟩, k6⟩
    · exact absurd (by rw [← h4]; exact k2 a b h2 h3 (by rw [h4, h5])) h1
    · apply Int32.toInt_inj.mp
      have q1 := h6 a' b' k2 k3 (by rw [k4, k5]) (by rw [k4]; exact k1)
      have q2 := k6 a b h2 h3 (by rw [h4, h5]) (by rw [h4]; exact h1)
      rw [k4] at q1
      rw [h4] at q2
      omega
theorem oi_ls_congr {R : Nat} {vk vk' : Nat → Int32} {r : Int32} (h : oi_LS R vk r) (e : ∀ a, a < R → vk' a = vk a) : oi_LS R vk' r := by
  rcases h with ⟨h1, h2⟩ | ⟨h1, ⟨a, b, h2, h3, h4, h5⟩, h6⟩
  · refine Or.inl ⟨h1, fun a b u v w => ?_⟩
    rw [e a (by omega), e b v] at w
    rw [e a (by omega)]
    exact h2 a b u v w
  · refine Or.inr ⟨h1, ⟨a, b, h2, h3, by rw [e a (by omega)]; exact h4, by rw [e b h3]; exact h5⟩, fun a b u v w x => ?_⟩
    rw [e a (by omega), e b v] at w
    rw [e a (by omega)] at x ⊢
    exact h6 a b u v w x
/-- what is known of the keys whose packed value is below th -/
def oi_PP (R : Nat) (vk : Nat → Int32) (th : Int) (pv : Int32) : Prop :=
  (∀ a b, a < b → b < R → ¬ vk a = -1 → vk a = vk b → (vk a).toInt * 64 + a < th → (vk b).toInt * 64 + b < th → False) ∧ ((pv = -1 ∧ ∀ a, a < R → ¬ vk a = -1 → th ≤ (vk a).toInt * 64 + a) ∨ (¬ pv = -1 ∧ (∃ a, a < R ∧ vk a = pv ∧ (vk a).toInt * 64 + a < th) ∧ ∀ b, b < R → ¬ vk b = -1 → (vk b).toInt * 64 + b < th → (vk b).toInt ≤ pv.toInt))
theorem oi_pp_0 {R : Nat} {vk : Nat → Int32} (hV : ∀ a, a < R → oi_V (vk a)) : oi_PP R vk 0 (-1) := by
  have h : ∀ a, a < R → ¬ vk a = -1 → 0 ≤ (vk a).toInt * 64 + a := fun a ha hn => by
    obtain ⟨j, hj, e⟩ := oi_Vn (hV a ha) hn
    rw [e, nI_toInt (by omega)]; omega
  refine ⟨fun a b u v w x y z => ?_, Or.inl ⟨rfl, h⟩⟩
  have := h a (by omega) w
  omega
theorem oi_pp_end {R : Nat} {vk : Nat → Int32} {th : Int} {pv : Int32} (h : oi_PP R vk th pv) (he : ∀ a, a < R → ¬ vk a = -1 → (vk a).toInt * 64 + a < th) : oi_LS R vk (-1) := by
  refine Or.inl ⟨rfl, fun a b u v w => ?_⟩
  apply Classical.byContradiction
  intro q
  exact h.1 a b u v q w (he a (by omega) q) (he b v (by rw [← w]; exact q))
theorem oi_pp_skip {R : Nat} {vk : Nat → Int32} {th x : Int} {pv : Int32} (h : oi_PP R vk th pv) (hx : th ≤ x) (hn : ∀ a, a < R → ¬ vk a = -1 → th ≤ (vk a).toInt * 64 + a → x < (vk a).toInt * 64 + a) : oi_PP R vk (x + 1) pv := by
  have hb : ∀ a, a < R → ¬ vk a = -1 → (vk a).toInt * 64 + a < x + 1 → (vk a).toInt * 64 + a < th := fun a u v w => by
    rcases Int.lt_or_le ((vk a).toInt * 64 + a) th with z | z
    · exact z
    · have := hn a u v z; omega
  refine ⟨fun a b u v w y z1 z2 => h.1 a b u v w y (hb a (by omega) w z1) (hb b v (by rw [← y]; exact w) z2), ?_⟩
  rcases h.2 with ⟨h1, h2⟩ | ⟨h1, ⟨a, h2, h3, h4⟩, h5⟩
  · refine Or.inl ⟨h1, fun a u v => ?_⟩
    have := hn a u v (h2 a u v)
    omega
  · exact Or.inr ⟨h1, ⟨a, h2, h3, by omega⟩, fun b u v w => h5 b u v (hb b u v w)⟩
theorem oi_pp_hit {R s : Nat} {vk : Nat → Int32} {th x : Int} {pv : Int32} (hR : R ≤ 64) (h : oi_PP R vk th pv) (hx : th ≤ x) (hn : ∀ a, a < R → ¬ vk a = -1 → th ≤ (vk a).toInt * 64 + a → x ≤ (vk a).toInt * 64 + a) (hs : s < R) (hv : ¬ vk s = -1) (e : (vk s).toInt * 64 + s = x) : (vk s = pv → oi_LS R vk pv) ∧ (¬ vk s = pv → oi_PP R vk (x + 1) (vk s)) := by
  have hb : ∀ a, a < R → ¬ vk a = -1 → (vk a).toInt * 64 + a < x → (vk a).toInt * 64 + a < th := fun a u v w => by
    rcases Int.lt_or_le ((vk a).toInt * 64 + a) th with z | z
    · exact z
    · have := hn a u v z; omega
  constructor
  · intro q
    rcases h.2 with ⟨h1, h2⟩ | ⟨h1, ⟨a, h2, h3, h4⟩, h5⟩
    · exact absurd (q.trans h1) hv
    · refine Or.inr ⟨h1, ?_, fun b1 b2 u v w y => ?_⟩
      · rcases Nat.lt_trichotomy a s with z | z | z
        · exact ⟨a, s, z, hs, h3, q⟩
        · subst z; omega
        · exact ⟨s, a, z, h2, q, h3⟩
      · rcases Int.lt_or_le (vk b1).toInt pv.toInt with z | z
        · have y2 : ¬ vk b2 = -1 := by rw [← w]; exact y
          have w' : (vk b1).toInt = (vk b2).toInt := by rw [w]
          have q' : (vk s).toInt = pv.toInt := by rw [q]
          exact (h.1 b1 b2 u v y w (hb b1 (by omega) y (by omega)) (hb b2 v y2 (by omega))).elim
        · exact z
  · intro q
    have hb1 : ∀ a, a < R → ¬ vk a = -1 → (vk a).toInt * 64 + a < x + 1 → a = s ∨ (vk a).toInt * 64 + a < th := fun a u v w => by
      rcases Int.lt_or_le ((vk a).toInt * 64 + a) x with z | z
      · exact Or.inr (hb a u v z)
      · exact Or.inl (by omega)
    have hs2 : ∀ b, b < R → ¬ vk b = -1 → (vk b).toInt * 64 + b < th → vk b = vk s → False := fun b u v w y => by
      rcases h.2 with ⟨h1, h2⟩ | ⟨h1, ⟨a, h2, h3, h4⟩, h5⟩
      · have := h2 b u v; omega
      · have k1 := h5 b u v w
        have k2 : (vk a).toInt = pv.toInt := by rw [h3]
        have k3 : (vk b).toInt = (vk s).toInt := by rw [y]
        exact q (Int32.toInt_inj.mp (by omega))
    refine ⟨fun a b u v w y z1 z2 => ?_, Or.inr ⟨hv, ⟨s, hs, rfl, by omega⟩, fun b u v w => by omega⟩⟩
    have w2 : ¬ vk b = -1 := by rw [← y]; exact w
    rcases hb1 a (by omega) w z1 with k | k
    · subst k
      rcases hb1 b v w2 z2 with k | k
      · omega
      · exact hs2 b v w2 k y.symm
    · rcases hb1 b v w2 z2 with k' | k'
      · subst k'; exact hs2 a (by omega) w k y
      · exact h.1 a b u v w y k k'
/-! the view of t -/
def oi_vk (co t : Int32) (ow ka kb ma mb : Nat → Int32) (s : Nat) : Int32 := if ow s = t then oi_ky co ka kb s else oi_ky co ma mb s
def oi_im (R : Nat) (vk dr : Nat → Int32) (s : Nat) : Bool := decide (s < R) && (!decide (vk s = -1) && !decide (vk s = dr s))
section
variable {fr : Int32} {ft : Int32} {fl : Int32} {rm : Int64} {pr : Int64} {lk : Int64} {ph : Int32} {co : Int32} {uq : Int32} {cu : Int32} {sp : Int32} {su : Int32} {cf : Int32} {lg : Int64} {bl : Int32} {ec : Int32} {ka : Nat → Int32} {kb : Nat → Int32} {ma : Nat → Int32} {mb : Nat → Int32} {ow : Nat → Int32} {ac : Nat → Int32} {od : Nat → Int64} {dr : Nat → Int32} {sd : Nat → Int32} {en : Nat → Int32} {sr : Nat → Int32}
theorem oi_view {post : Int32 → Prop} {s : Nat} {t : Int32} (hs : s < 64) (hp : post (oi_vk co t ow ka kb ma mb s)) : wpX_viewKey post (fr, ft, fl, rm, pr, lk, ph, co, uq, cu, sp, su, cf, lg, bl, ec, ka, kb, ma, mb, ow, ac, od, dr, sd, en, sr) (nI s) t := by
  have hv : vp_in (nI s) 64 := vp_in_nI hs (by omega)
  have hc : (nI s).toNatClampNeg = s := nI_clamp (by omega)
  unfold oi_vk at hp
  unfold wpX_viewKey
  refine ⟨hv, ?_⟩
  rw [hc]
  refine br_c (fun z => ?_) (fun z => ?_)
  · rw [if_pos z] at hp
    exact oi_tk hs hp
  · rw [if_neg z] at hp
    unfold oi_ky at hp
    unfold wpX_committedKey
    refine br_c (fun y => ⟨hv, ?_⟩) (fun y => ⟨hv, ?_⟩)
    · rw [hc]; rw [if_pos y] at hp; exact hp
    · rw [hc]; rw [if_neg y] at hp; exact hp
theorem oi_ci_loop {post : Int32 → SX → Prop} {J : Int32 → Int64 → Int32 → (Nat → Int32) → (Nat → Int32) → (Nat → Int32) → (Nat → Int32) → (Nat → Int32) → (Nat → Int32) → (Nat → Int64) → (Nat → Int32) → (Nat → Int32) → (Nat → Int32) → (Nat → Int32) → Prop} {x t : Int32} {rest : Int64} {st n : Nat} (hn : n < 64) (hS : oi_so sr n)
    (K : ∀ a, a ≤ n → (∀ i, i < a → (sr i).toInt ≤ x.toInt) → (∀ i, a ≤ i → i < n → x.toInt ≤ (sr i).toInt) → J (nI (n + 1)) rest (nI (st + 1)) ka kb ma mb ow ac od dr sd en (oi_ins sr a n x)) :
    ∀ (f i : Nat), i ≤ n → i < f → (∀ j, i ≤ j → j < n → x.toInt ≤ (sr j).toInt) → wX_collectImages_84 post J t (nI n) rest (nI st) x fr ft fl rm pr lk ph co uq cu sp su cf lg bl ec f (nI i) (nI i) ka kb ma mb ow ac od dr sd en (oi_sh sr i n) := by
  intro f
  induction f with
  | zero => intro i _ h; exact absurd h (Nat.not_lt_zero _)
  | succ f ih =>
    intro i h2 h3 h4
    have fin : (∀ j, j < i → (sr j).toInt ≤ x.toInt) → wX_collectImages_131 post J t (nI n) rest (nI st) x (nI i) fr ft fl rm pr lk ph co uq cu sp su cf lg bl ec ka kb ma mb ow ac od dr sd en (oi_sh sr i n) := fun h5 => by
      have e1 : upd (oi_sh sr i n) (nI i).toNatClampNeg x = oi_ins sr i n x := by rw [nI_clamp (by omega)]; rfl
      unfold wX_collectImages_131
      exact ⟨vp_in_nI (by omega) (by omega), nm_r e1 (nm_r (nI_1 n) (nm_r (nI_1 st) (K i h2 h5 h4)))⟩
    rw [wX_collectImages_84]
    refine pk_le i 0 (fun z => fin (fun j v => absurd v (by omega))) (fun z => ?_)
    have ei : nI i - 1 = nI (i - 1) := pk_sub (b := 1) (by omega)
    have ec' : (nI i - 1).toNatClampNeg = i - 1 := by rw [ei]; exact nI_clamp (by omega)
    have hv : vp_in (nI i - 1) 64 := by rw [ei]; exact vp_in_nI (by omega) (by omega)
    have ea : oi_sh sr i n (nI i - 1).toNatClampNeg = sr (i - 1) := by rw [ec', oi_sh_le (by omega)]
    have em : nI i + (-1) = nI (i - 1) := by
      obtain ⟨k, rfl⟩ : ∃ k, i = k + 1 := ⟨i - 1, by omega⟩
      exact pk_m1 k
    have eu : upd (oi_sh sr i n) (nI i).toNatClampNeg (oi_sh sr i n (nI i - 1).toNatClampNeg) = oi_sh sr (i - 1) n := by
      rw [ec', nI_clamp (by omega), oi_sh_s (by omega) h2]
    refine ⟨hv, br_c (fun y => ?_) (fun y => ?_)⟩
    · rw [ea, Int32.le_iff_toInt_le] at y
      refine fin (fun j v => ?_)
      rcases Nat.eq_or_lt_of_le (show j ≤ i - 1 by omega) with w | w
      · rw [w]; exact y
      · exact Int.le_trans (hS j (i - 1) w (by omega)) y
    · rw [ea, Int32.le_iff_toInt_le] at y
      refine ⟨hv, vp_in_nI (by omega) (by omega), nm_r eu (nm_r ei (nm_r em (ih (i - 1) (by omega) (by omega) (fun j u v => ?_))))⟩
      rcases Nat.eq_or_lt_of_le u with w | w
      · rw [← w]; omega
      · exact h4 j (by omega) v
theorem oi_collect {post : Int32 → SX → Prop} {R : Nat} {t : Int32} {vk : Nat → Int32} (hR : R ≤ 64) (hvk : vk = oi_vk co t ow ka kb ma mb) (hV : ∀ s, s < R → oi_V (vk s)) (hm : ∀ j, oi_b (lg ||| lk) j = true → j < R) (hi : ∀ j, j < R → oi_b (lg ||| lk) j = false → oi_im R vk dr j = false)
    (K : ∀ (m : Nat) (sr' : Nat → Int32), oi_MG (oi_im R vk dr) vk 64 sr' m → oi_so sr' m → post (nI m) (fr, ft, fl, rm, pr, lk, ph, co, uq, cu, sp, su, cf, lg, bl, ec, ka, kb, ma, mb, ow, ac, od, dr, sd, en, sr')) : wpX_collectImages post (fr, ft, fl, rm, pr, lk, ph, co, uq, cu, sp, su, cf, lg, bl, ec, ka, kb, ma, mb, ow, ac, od, dr, sd, en, sr) t := by
  have hi' : ∀ j, oi_b (lg ||| lk) j = false → oi_im R vk dr j = false := fun j h => by
    rcases Nat.lt_or_ge j R with z | z
    · exact hi j z h
    · unfold oi_im; simp [show ¬ j < R by omega]
  unfold wpX_collectImages
  refine nm_e ⟨65, ?_⟩
  have := oi_mloop (fun f rest st (x : Nat × (Nat → Int32)) => wX_collectImages_15 post t fr ft fl rm pr lk ph co uq cu sp su cf lg bl ec f (nI x.1) rest st ka kb ma mb ow ac od dr sd en (x.2)) (lg ||| lk) (fun i x => oi_MG (oi_im R vk dr) vk i x.2 x.1 ∧ oi_so x.2 x.1) ?_ ?_ ?_ 65 (lg ||| lk) 0 0 (0, sr) (by omega) (by omega) (by omega) (fun j => by simp) ⟨oi_mg_0 _ _ _, fun i j u v => absurd v (Nat.not_lt_zero _)⟩
  · exact this
  · intro f rest st x h1 h2 h3
    obtain ⟨x1, x2⟩ := x
    dsimp only at h3 ⊢
    have fin := K x1 x2 h3.1 h3.2
    rw [wX_collectImages_15]
    refine pk_le 64 st (fun _ => fin) (fun z => ?_)
    rcases h2 with h2 | h2
    · exact absurd h2 (by omega)
    · exact br_t h2 fin
  · intro f rest st i s x h1 h2 h3 h4 h5 h6 h7 h8
    obtain ⟨x1, x2⟩ := x
    dsimp only at h7 h8 ⊢
    obtain ⟨g1, g2⟩ := h7
    have hl := h3.1
    have hsR := hm s h5
    have g3 : oi_MG (oi_im R vk dr) vk s x2 x1 := oi_mg_skips g1 h4 (fun j a b => hi' j (h6 j a b))
    have hn := oi_mg_le g3
    have hv : vp_in (nI s) 64 := vp_in_nI hl (by omega)
    have hcs : (nI s).toNatClampNeg = s := nI_clamp (by omega)
    have hve : oi_vk co t ow ka kb ma mb s = vk s := by rw [hvk]
    rw [wX_collectImages_15]
    refine pk_le 64 st (fun z => absurd z (by omega)) (fun _ => br_f h2 (oi_lowest _ h3 (nm_e (oi_view hl ?_))))
    rw [hve]
    refine br_c (fun z => nm_r (nI_1 st) (h8 (x1, x2) ⟨oi_mg_skip g3 ?_, g2⟩)) (fun z => ⟨hv, ?_⟩)
    · unfold oi_im; simp [z]
    · rw [hcs]
      refine br_c (fun y => nm_r (nI_1 st) (h8 (x1, x2) ⟨oi_mg_skip g3 ?_, g2⟩)) (fun y => nm_e ⟨65, ?_⟩)
      · unfold oi_im; simp [y]
      · have hx : (vk s * 64 + nI s).toInt = (vk s).toInt * 64 + s := oi_pk (hV s hsR) z (by omega)
        have := oi_ci_loop (fr := fr) (ft := ft) (fl := fl) (rm := rm) (pr := pr) (lk := lk) (ph := ph) (co := co) (uq := uq) (cu := cu) (sp := sp) (su := su) (cf := cf) (lg := lg) (bl := bl) (ec := ec) (ka := ka) (kb := kb) (ma := ma) (mb := mb) (ow := ow) (ac := ac) (od := od) (dr := dr) (sd := sd) (en := en) (sr := x2) (post := post) (J := wX_collectImages_15 post t fr ft fl rm pr lk ph co uq cu sp su cf lg bl ec f) (x := vk s * 64 + nI s) (t := t) (rest := rest &&& (rest - 1)) (st := st) (n := x1) (by omega) g2 (fun a ha k1 k2 => h8 (x1 + 1, oi_ins x2 a x1 (vk s * 64 + nI s)) ⟨oi_mg_push g3 ?_ ha hx, oi_so_ins g2 ha k1 k2⟩) 65 x1 (by omega) (by omega) (fun j u v => absurd v (by omega))
        · rw [oi_sh_n] at this
          exact this
        · unfold oi_im; simp [z, y, hsR]
  · intro i x h1 h2 h3
    exact ⟨oi_mg_skips h3.1 h1 (fun j a b => hi' j (h2 j a b)), h3.2⟩
theorem oi_lsk_loop {post : Int32 → SX → Prop} {R n m : Nat} {t : Int32} {vk : Nat → Int32} (hR : R ≤ 64) (hvk : vk = oi_vk co t ow ka kb ma mb) (hV : ∀ s, s < R → oi_V (vk s)) (hD : ∀ s, s < R → oi_V (dr s)) (hM : oi_MG (oi_F dr) dr R en n) (hS : oi_so en n) (hM' : oi_MG (oi_im R vk dr) vk 64 sr m) (hS' : oi_so sr m)
    (K : ∀ r : Int32, oi_LS R vk r → post r (fr, ft, fl, rm, pr, lk, ph, co, uq, cu, sp, su, cf, lg, bl, nI n, ka, kb, ma, mb, ow, ac, od, dr, sd, en, sr)) :
    ∀ (f i j : Nat) (pv : Int32) (th : Int), i ≤ n → j ≤ m → (n - i) + (m - j) < f → (∀ a, a < i → (en a).toInt < th) → (∀ a, i ≤ a → a < n → th ≤ (en a).toInt) → (∀ a, a < j → (sr a).toInt < th) → (∀ a, j ≤ a → a < m → th ≤ (sr a).toInt) → oi_PP R vk th pv → wX_lowestSharedKey_17 post t (nI m) fr ft fl rm pr lk ph co uq cu sp su cf lg bl (nI n) ka kb ma mb ow ac od dr sd en sr f pv (nI i) (nI j) (nI (i + j)) := by
  have hn : n ≤ 64 := Nat.le_trans (oi_mg_le hM) hR
  have hm : m ≤ 64 := oi_mg_le hM'
  -- every counted slot lies in the index or in the images
  have cov : ∀ a, a < R → ¬ vk a = -1 → (∃ k, k < n ∧ (en k).toInt = (vk a).toInt * 64 + a) ∨ (∃ k, k < m ∧ (sr k).toInt = (vk a).toInt * 64 + a) := fun a ha hv => by
    by_cases z : vk a = dr a
    · obtain ⟨k, hk, e⟩ := oi_mg_has hM ha (oi_F_t (by rw [← z]; exact hv))
      exact Or.inl ⟨k, hk, by rw [e, z]⟩
    · exact Or.inr (oi_mg_has hM' (by omega) (by unfold oi_im; simp [ha, hv, z]))
  intro f
  induction f with
  | zero => intro i j pv th _ _ h; exact absurd h (Nat.not_lt_zero _)
  | succ f ih =>
    intro i j pv th h1 h2 h3 h4 h5 h6 h7 h8
    have rem : ∀ a, a < R → ¬ vk a = -1 → th ≤ (vk a).toInt * 64 + a → (∃ k, i ≤ k ∧ k < n ∧ (en k).toInt = (vk a).toInt * 64 + a) ∨ (∃ k, j ≤ k ∧ k < m ∧ (sr k).toInt = (vk a).toInt * 64 + a) := fun a ha hv ht => by
      rcases cov a ha hv with ⟨k, hk, e⟩ | ⟨k, hk, e⟩
      · refine Or.inl ⟨k, ?_, hk, e⟩
        rcases Nat.lt_or_ge k i with z | z
        · have := h4 k z; omega
        · exact z
      · refine Or.inr ⟨k, ?_, hk, e⟩
        rcases Nat.lt_or_ge k j with z | z
        · have := h6 k z; omega
        · exact z
    have fin : i = n → j = m → post (-1) (fr, ft, fl, rm, pr, lk, ph, co, uq, cu, sp, su, cf, lg, bl, nI n, ka, kb, ma, mb, ow, ac, od, dr, sd, en, sr) := fun e1 e2 => by
      refine K (-1) (oi_pp_end h8 (fun a ha hv => ?_))
      rcases Int.lt_or_le ((vk a).toInt * 64 + a) th with z | z
      · exact z
      · rcases rem a ha hv z with ⟨k, k1, k2, -⟩ | ⟨k, k1, k2, -⟩
        · omega
        · omega
    -- an entry of the index is taken
    have tI : i < n → (∀ b, j ≤ b → b < m → (en i).toInt < (sr b).toInt) → wX_lowestSharedKey_72 post (wX_lowestSharedKey_17 post t (nI m) fr ft fl rm pr lk ph co uq cu sp su cf lg bl (nI n) ka kb ma mb ow ac od dr sd en sr f) t (nI m) pv (nI i) (nI j) (nI (i + j)) fr ft fl rm pr lk ph co uq cu sp su cf lg bl (nI n) ka kb ma mb ow ac od dr sd en sr := fun hi hlt => by
      obtain ⟨s, hs, hF, e⟩ := oi_mg_mem hM hi
      have hds : ¬ dr s = -1 := fun q => by rw [oi_F_f q] at hF; exact absurd hF (by decide)
      obtain ⟨u1, u2⟩ := oi_unp (hD s hs) hds (by omega) e
      have hci : (nI i).toNatClampNeg = i := nI_clamp (by omega)
      have hth := h5 i (Nat.le_refl i) hi
      have hle : ∀ a, a < R → ¬ vk a = -1 → th ≤ (vk a).toInt * 64 + a → (en i).toInt ≤ (vk a).toInt * 64 + a := fun a ha hv ht => by
        rcases rem a ha hv ht with ⟨k, k1, k2, k3⟩ | ⟨k, k1, k2, k3⟩
        · rcases Nat.eq_or_lt_of_le k1 with z | z
          · subst z; omega
          · have := hS i k z k2; omega
        · have := hlt k k1 k2; omega
      have q4 : ∀ a, a < i + 1 → (en a).toInt < (en i).toInt + 1 := fun a ha => by
        rcases Nat.eq_or_lt_of_le (Nat.lt_succ_iff.mp ha) with z | z
        · subst z; omega
        · have := h4 a z; omega
      have q5 : ∀ a, i + 1 ≤ a → a < n → (en i).toInt + 1 ≤ (en a).toInt := fun a ha hb => by
        have := oi_mg_lt hM hS hR (show i < a by omega) hb; omega
      have q6 : ∀ a, a < j → (sr a).toInt < (en i).toInt + 1 := fun a ha => by
        have := h6 a ha; omega
      have q7 : ∀ a, j ≤ a → a < m → (en i).toInt + 1 ≤ (sr a).toInt := fun a ha hb => by
        have := hlt a ha hb; omega
      have e1 : nI (i + j) + 1 = nI (i + 1 + j) := by rw [nI_1]; exact congrArg nI (by omega)
      unfold wX_lowestSharedKey_72
      refine ⟨vp_in_nI (by omega) (by omega), nm_r (e' := en i) (by rw [hci]) (nm_r (nI_1 i) ?_)⟩
      rw [u2]
      refine oi_view (by omega) ?_
      rw [u1, show oi_vk co t ow ka kb ma mb s = vk s by rw [hvk]]
      refine br_c (fun z => ?_) (fun z => ?_)
      · unfold wX_lowestSharedKey_107 wX_lowestSharedKey_127
        have hvs : ¬ vk s = -1 := by rw [z]; exact hds
        have H := oi_pp_hit hR h8 hth hle hs hvs (by rw [z]; exact e.symm)
        rw [u1]
        refine br_f (by decide) (nm_e (br_c (fun y => ?_) (fun y => ?_)))
        · rw [y]; exact K pv (H.1 (z.trans y))
        · refine nm_r e1 (ih (i + 1) j (dr s) _ (by omega) h2 (by omega) q4 q5 q6 q7 ?_)
          rw [← z]
          exact H.2 (fun y' => y (z.symm.trans y'))
      · unfold wX_lowestSharedKey_107 wX_lowestSharedKey_127
        refine br_t rfl (nm_r e1 (ih (i + 1) j pv _ (by omega) h2 (by omega) q4 q5 q6 q7 (oi_pp_skip h8 hth (fun a ha hv ht => ?_))))
        rcases Int.lt_or_le (en i).toInt ((vk a).toInt * 64 + a) with y | y
        · exact y
        · have k1 := hle a ha hv ht
          have k2 : a = s := by omega
          subst k2
          exact absurd (Int32.toInt_inj.mp (by omega)) z
    -- an image is taken
    have tJ : j < m → (∀ b, i ≤ b → b < n → (sr j).toInt < (en b).toInt) → wX_lowestSharedKey_112 post (wX_lowestSharedKey_17 post t (nI m) fr ft fl rm pr lk ph co uq cu sp su cf lg bl (nI n) ka kb ma mb ow ac od dr sd en sr f) t (nI m) pv (nI i) (nI j) (nI (i + j)) fr ft fl rm pr lk ph co uq cu sp su cf lg bl (nI n) ka kb ma mb ow ac od dr sd en sr := fun hj hlt => by
      obtain ⟨s, hs, hF, e⟩ := oi_mg_mem hM' hj
      have hF' : s < R ∧ ¬ vk s = -1 ∧ ¬ vk s = dr s := by unfold oi_im at hF; simpa using hF
      obtain ⟨f1, f2, f3⟩ := hF'
      obtain ⟨u1, u2⟩ := oi_unp (hV s f1) f2 (by omega) e
      have hcj : (nI j).toNatClampNeg = j := nI_clamp (by omega)
      have hth := h7 j (Nat.le_refl j) hj
      have hle : ∀ a, a < R → ¬ vk a = -1 → th ≤ (vk a).toInt * 64 + a → (sr j).toInt ≤ (vk a).toInt * 64 + a := fun a ha hv ht => by
        rcases rem a ha hv ht with ⟨k, k1, k2, k3⟩ | ⟨k, k1, k2, k3⟩
        · have := hlt k k1 k2; omega
        · rcases Nat.eq_or_lt_of_le k1 with z | z
          · subst z; omega
          · have := hS' j k z k2; omega
      have q4 : ∀ a, a < i → (en a).toInt < (sr j).toInt + 1 := fun a ha => by
        have := h4 a ha; omega
      have q5 : ∀ a, i ≤ a → a < n → (sr j).toInt + 1 ≤ (en a).toInt := fun a ha hb => by
        have := hlt a ha hb; omega
      have q6 : ∀ a, a < j + 1 → (sr a).toInt < (sr j).toInt + 1 := fun a ha => by
        rcases Nat.eq_or_lt_of_le (Nat.lt_succ_iff.mp ha) with z | z
        · subst z; omega
        · have := h6 a z; omega
      have q7 : ∀ a, j + 1 ≤ a → a < m → (sr j).toInt + 1 ≤ (sr a).toInt := fun a ha hb => by
        have := oi_mg_lt hM' hS' (Nat.le_refl 64) (show j < a by omega) hb; omega
      have e1 : nI (i + j) + 1 = nI (i + (j + 1)) := by rw [nI_1]; exact congrArg nI (by omega)
      unfold wX_lowestSharedKey_112
      refine ⟨vp_in_nI (by omega) (by omega), nm_r (e' := sr j) (by rw [hcj]) (nm_r (nI_1 j) ?_)⟩
      unfold wX_lowestSharedKey_127
      have H := oi_pp_hit hR h8 hth hle f1 f2 e.symm
      rw [u1]
      refine br_f (by decide) (nm_e (br_c (fun y => ?_) (fun y => ?_)))
      · rw [y]; exact K pv (H.1 y)
      · exact nm_r e1 (ih i (j + 1) (vk s) _ h1 (by omega) (by omega) q4 q5 q6 q7 (H.2 y))
    have tB : (i < n ∨ j < m) → wX_lowestSharedKey_40 post (wX_lowestSharedKey_17 post t (nI m) fr ft fl rm pr lk ph co uq cu sp su cf lg bl (nI n) ka kb ma mb ow ac od dr sd en sr f) t (nI m) pv (nI i) (nI j) (nI (i + j)) fr ft fl rm pr lk ph co uq cu sp su cf lg bl (nI n) ka kb ma mb ow ac od dr sd en sr := fun hor => by
      unfold wX_lowestSharedKey_40
      refine pk_le m j (fun z => tI (by omega) (fun b u v => absurd v (by omega))) (fun z => pk_le n i (fun y => tJ z (fun b u v => absurd v (by omega))) (fun y => ⟨vp_in_nI (by omega) (by omega), vp_in_nI (by omega) (by omega), ?_⟩))
      rw [nI_clamp (show i < 2 ^ 31 by omega), nI_clamp (show j < 2 ^ 31 by omega), Int32.le_iff_toInt_le]
      refine br_c (fun x => tJ z (fun b u v => ?_)) (fun x => tI y (fun b u v => ?_))
      · have k1 : (sr j).toInt ≤ (en b).toInt := by
          rcases Nat.eq_or_lt_of_le u with w | w
          · rw [← w]; exact x
          · exact Int.le_trans x (hS i b w v)
        rcases Int.lt_or_le (sr j).toInt (en b).toInt with w | w
        · exact w
        · obtain ⟨s, hs, hF, e⟩ := oi_mg_mem hM' z
          have hF' : s < R ∧ ¬ vk s = -1 ∧ ¬ vk s = dr s := by unfold oi_im at hF; simpa using hF
          obtain ⟨s', hs', hF2, e'⟩ := oi_mg_mem hM v
          have k2 : s = s' := by omega
          subst k2
          exact absurd (Int32.toInt_inj.mp (by omega)) hF'.2.2
      · rcases Nat.eq_or_lt_of_le u with w | w
        · rw [← w]; omega
        · have := hS' j b w v; omega
    rw [wX_lowestSharedKey_17]
    refine pk_le 128 (i + j) (fun z => fin (by omega) (by omega)) (fun z => pk_lt i n (fun y => tB (Or.inl y)) (fun y => pk_le m j (fun x => fin (by omega) (by omega)) (fun x => tB (Or.inr x))))
theorem oi_lsk {post : Int32 → SX → Prop} {R n : Nat} {t : Int32} {vk : Nat → Int32} (hR : R ≤ 64) (hvk : vk = oi_vk co t ow ka kb ma mb) (hV : ∀ s, s < R → oi_V (vk s)) (hD : ∀ s, s < R → oi_V (dr s)) (hM : oi_MG (oi_F dr) dr R en n) (hS : oi_so en n) (hm : ∀ j, oi_b (lg ||| lk) j = true → j < R) (hi : ∀ j, j < R → oi_b (lg ||| lk) j = false → oi_im R vk dr j = false)
    (K : ∀ (r : Int32) (sr' : Nat → Int32), oi_LS R vk r → post r (fr, ft, fl, rm, pr, lk, ph, co, uq, cu, sp, su, cf, lg, bl, nI n, ka, kb, ma, mb, ow, ac, od, dr, sd, en, sr')) : wpX_lowestSharedKey post (fr, ft, fl, rm, pr, lk, ph, co, uq, cu, sp, su, cf, lg, bl, nI n, ka, kb, ma, mb, ow, ac, od, dr, sd, en, sr) t := by
  unfold wpX_lowestSharedKey
  refine oi_collect hR hvk hV hm hi (fun m sr' k1 k2 => ⟨(n + m) + 1, ?_⟩)
  have pos : ∀ (g : Nat → Int32) (s : Nat), oi_V (g s) → ¬ g s = -1 → 0 ≤ (g s).toInt * 64 + s := fun g s a b => by
    obtain ⟨j, hj, e⟩ := oi_Vn a b
    rw [e, nI_toInt (by omega)]; omega
  refine oi_lsk_loop hR hvk hV hD hM hS k1 k2 (fun r h => K r sr' h) (n + m + 1) 0 0 (-1) 0 (by omega) (by omega) (by omega) (fun a h => absurd h (Nat.not_lt_zero a)) (fun a _ h => ?_) (fun a h => absurd h (Nat.not_lt_zero a)) (fun a _ h => ?_) (oi_pp_0 hV)
  · obtain ⟨s, hs, hF, e⟩ := oi_mg_mem hM h
    rw [e]
    exact pos dr s (hD s hs) (fun q => by rw [oi_F_f q] at hF; exact absurd hF (by decide))
  · obtain ⟨s, hs, hF, e⟩ := oi_mg_mem k1 h
    have hF' : s < R ∧ ¬ vk s = -1 ∧ ¬ vk s = dr s := by unfold oi_im at hF; simpa using hF
    rw [e]
    exact pos vk s (hV s hF'.1) hF'.2.1
end
end
section
/-! the reference: reading -/
theorem oi_cn_cap {L : Nat → Bool} {c R : Nat} (h : c ≤ R) : oi_cn (fun s => decide (s < c) && L s) R = oi_cn L c := by
  induction R with
  | zero => rw [Nat.le_zero.mp h]; rfl
  | succ R ih =>
    by_cases e : c = R + 1
    · subst e; exact oi_cn_congr (fun i hi => by simp [hi])
    · rw [oi_cn_s, ih (by omega)]; simp [show ¬ R < c by omega]
section
variable {fr : Int32} {ft : Int32} {fl : Int32} {rm : Int64} {pr : Int64} {lk : Int64} {ph : Int32} {co : Int32} {uq : Int32} {cu : Int32} {sp : Int32} {su : Int32} {cf : Int32} {lg : Int64} {bl : Int32} {ec : Int32} {ka : Nat → Int32} {kb : Nat → Int32} {ma : Nat → Int32} {mb : Nat → Int32} {ow : Nat → Int32} {ac : Nat → Int32} {od : Nat → Int64} {dr : Nat → Int32} {sd : Nat → Int32} {en : Nat → Int32} {sr : Nat → Int32}
variable {dy : Nat → Int32} {sy : Nat → Int32}
theorem oi_ytk {post : Int32 → Prop} {s : Nat} (hs : s < 64) (hco : co = 0 ∨ co = 1) (hp : post (oi_ky co ka kb s)) : wpY_tableKey post (fr, ft, fl, ph, co, uq, cu, sp, su, cf, ka, kb, ma, mb, ow, ac, dy, sy) (nI s) := by
  have hv : vp_in (nI s) 64 := vp_in_nI hs (by omega)
  have hc : (nI s).toNatClampNeg = s := nI_clamp (by omega)
  unfold oi_ky at hp
  unfold wpY_tableKey
  refine br_c (fun z => ⟨hv, ?_⟩) (fun z => br_c (fun y => ⟨hv, ?_⟩) (fun y => ?_))
  · rw [hc]; rw [if_pos z] at hp; exact hp
  · rw [hc]; rw [if_neg z] at hp; exact hp
  · rcases hco with q | q
    · exact absurd q z
    · exact absurd q y
theorem oi_ytr {post : Int32 → Prop} {s : Nat} {t : Int32} (hs : s < 64) (hco : co = 0 ∨ co = 1) (hp : post (oi_vk co t ow ka kb ma mb s)) : wpY_trialKey post (fr, ft, fl, ph, co, uq, cu, sp, su, cf, ka, kb, ma, mb, ow, ac, dy, sy) (nI s) t := by
  have hv : vp_in (nI s) 64 := vp_in_nI hs (by omega)
  have hc : (nI s).toNatClampNeg = s := nI_clamp (by omega)
  unfold oi_vk at hp
  unfold wpY_trialKey
  refine ⟨hv, ?_⟩
  rw [hc]
  refine br_c (fun x => ?_) (fun x => ?_)
  · rw [if_pos x] at hp
    exact oi_ytk hs hco hp
  · rw [if_neg x] at hp
    unfold oi_ky at hp
    unfold wpY_committedKey
    refine br_c (fun z => ⟨hv, ?_⟩) (fun z => br_c (fun y => ⟨hv, ?_⟩) (fun y => ?_))
    · rw [hc]; rw [if_pos z] at hp; exact hp
    · rw [hc]; rw [if_neg z] at hp; exact hp
    · rcases hco with q | q
      · exact absurd q z
      · exact absurd q y
theorem oi_ylive {post : Int32 → Prop} {s p : Nat} {d : Int32} (hs : s < 64) (hp : p ≤ 4) (h4 : p = 4 → (co = 0 ∨ co = 1) ∧ oi_ky co ka kb s = d) (h : p ≠ 4 → dy s = d) (K : post d) : wpY_liveKey post (fr, ft, fl, nI p, co, uq, cu, sp, su, cf, ka, kb, ma, mb, ow, ac, dy, sy) (nI s) := by
  unfold wpY_liveKey
  refine pk_eq p 4 (fun z => ?_) (fun z => ⟨vp_in_nI hs (by omega), ?_⟩)
  · refine oi_ytk hs (h4 z).1 ?_
    rw [(h4 z).2]; exact K
  · rw [nI_clamp (by omega), h z]; exact K
theorem oi_ylags {post : Int32 → Prop} {s p c : Nat} (hs : s < 64) (hp : p ≤ 4) (hc : c ≤ 64) (h4 : p = 4 → (co = 0 ∨ co = 1) ∧ oi_ky co ka kb s = dr s) (h : p ≠ 4 → dy s = dr s) (hco : s < c → co = 0 ∨ co = 1) (h0 : (decide (s < c) && oi_lag dr (oi_ky co ka kb) s) = false → post 0) (h1 : (decide (s < c) && oi_lag dr (oi_ky co ka kb) s) = true → post 1) : wpY_lags post (fr, ft, fl, nI p, co, uq, nI c, sp, su, cf, ka, kb, ma, mb, ow, ac, dy, sy) (nI s) := by
  unfold wpY_lags
  refine pk_lt s c (fun z => ?_) (fun z => h0 (by simp [show ¬ s < c by omega]))
  refine oi_ylive hs hp h4 h (oi_ytk hs (hco z) (br_c (fun y => h0 ?_) (fun y => h1 ?_)))
  · rw [oi_lag_f y]; simp
  · rw [oi_lag_t y]; simp [z]
theorem oi_ybl_loop {post : Int32 → Prop} {R p c : Nat} (hR : R ≤ 64) (hp : p ≤ 4) (hc : c ≤ 64) (h4 : p = 4 → ∀ s, s < R → (co = 0 ∨ co = 1) ∧ oi_ky co ka kb s = dr s) (h : p ≠ 4 → ∀ s, s < R → dy s = dr s) (hco : ∀ s, s < c → co = 0 ∨ co = 1) (K : post (nI (oi_cn (fun s => decide (s < c) && oi_lag dr (oi_ky co ka kb) s) R))) :
    ∀ (f i : Nat), i ≤ R → R - i < f → wY_backlog_4 post (nI R) ft fl (nI p) co uq (nI c) sp su cf ka kb ma mb ow ac dy sy f (nI (oi_cn (fun s => decide (s < c) && oi_lag dr (oi_ky co ka kb) s) i)) (nI i) := by
  intro f
  induction f with
  | zero => intro i _ h; exact absurd h (Nat.not_lt_zero _)
  | succ f ih =>
    intro i h1 h2
    have hcl := oi_cn_le (fun s => decide (s < c) && oi_lag dr (oi_ky co ka kb) s) i
    rw [wY_backlog_4]
    refine pk_le R i (fun z => ?_) (fun z => ?_)
    · rw [show i = R by omega]; exact K
    · have IH := ih (i + 1) (by omega) (by omega)
      rw [oi_cn_s] at IH
      refine oi_ylags (dr := dr) (by omega) hp hc (fun q => h4 q i (by omega)) (fun q => h q i (by omega)) (hco i) (fun y => ?_) (fun y => ?_)
      · rw [y] at IH
        exact br_t rfl (nm_r (nI_1 i) IH)
      · rw [y] at IH
        exact br_f (by decide) (nm_r (nI_1 _) (nm_r (nI_1 i) IH))
theorem oi_ybl {post : Int32 → Prop} {R p c : Nat} (hR : R ≤ 64) (hp : p ≤ 4) (hc : c ≤ R) (h4 : p = 4 → ∀ s, s < R → (co = 0 ∨ co = 1) ∧ oi_ky co ka kb s = dr s) (h : p ≠ 4 → ∀ s, s < R → dy s = dr s) (hco : ∀ s, s < c → co = 0 ∨ co = 1) (K : post (nI (oi_cn (oi_lag dr (oi_ky co ka kb)) c))) : wpY_backlog post (nI R, ft, fl, nI p, co, uq, nI c, sp, su, cf, ka, kb, ma, mb, ow, ac, dy, sy) := by
  unfold wpY_backlog
  exact ⟨65, oi_ybl_loop hR hp (by omega) h4 h hco (by rw [oi_cn_cap hc]; exact K) 65 0 (by omega) (by omega)⟩
/-- the lowest shared key: pairs seen so far -/
theorem oi_yls_in {post : Int32 → Prop} {J : Int32 → Int32 → Prop} {R i : Nat} {t : Int32} {vk : Nat → Int32} (hR : R ≤ 64) (hco : co = 0 ∨ co = 1) (hvk : vk = oi_vk co t ow ka kb ma mb) (hV : ∀ s, s < R → oi_V (vk s)) (hi : i < R)
    (K : ∀ r : Int32, oi_V r → ((r = -1 ∧ ∀ a b, a < b → b < R → a < i + 1 → vk a = vk b → vk a = -1) ∨ (¬ r = -1 ∧ (∃ a b, a < b ∧ b < R ∧ vk a = r ∧ vk b = r) ∧ ∀ a b, a < b → b < R → a < i + 1 → vk a = vk b → ¬ vk a = -1 → r.toInt ≤ (vk a).toInt)) → J r (nI (i + 1))) :
    ∀ (f j : Nat) (r : Int32), i < j → j ≤ R → R - j < f → oi_V r → ((r = -1 ∧ ∀ a b, a < b → b < R → (a < i ∨ a = i ∧ b < j) → vk a = vk b → vk a = -1) ∨ (¬ r = -1 ∧ (∃ a b, a < b ∧ b < R ∧ vk a = r ∧ vk b = r) ∧ ∀ a b, a < b → b < R → (a < i ∨ a = i ∧ b < j) → vk a = vk b → ¬ vk a = -1 → r.toInt ≤ (vk a).toInt)) → wY_lowestShared_25 post J t (nI i) (vk i) (nI R) ft fl ph co uq cu sp su cf ka kb ma mb ow ac dy sy f r (nI j) := by
  intro f
  induction f with
  | zero => intro j r _ _ h; exact absurd h (Nat.not_lt_zero _)
  | succ f ih =>
    intro j r h1 h2 h3 h4 h5
    rw [wY_lowestShared_25]
    refine pk_le R j (fun z => ?_) (fun z => ?_)
    · refine nm_r (nI_1 i) (K r h4 ?_)
      rcases h5 with ⟨k1, k2⟩ | ⟨k1, k2, k3⟩
      · exact Or.inl ⟨k1, fun a b u v w x => k2 a b u v (by omega) x⟩
      · exact Or.inr ⟨k1, k2, fun a b u v w x => k3 a b u v (by omega) x⟩
    · refine oi_ytr (by omega) hco ?_
      rw [show oi_vk co t ow ka kb ma mb j = vk j by rw [hvk]]
      have keep : (vk i = vk j → ¬ vk i = -1 → ¬ r = -1 ∧ r.toInt ≤ (vk i).toInt) → wY_lowestShared_25 post J t (nI i) (vk i) (nI R) ft fl ph co uq cu sp su cf ka kb ma mb ow ac dy sy f r (nI (j + 1)) := fun H => by
        refine ih (j + 1) r (by omega) (by omega) (by omega) h4 ?_
        rcases h5 with ⟨k1, k2⟩ | ⟨k1, k2, k3⟩
        · refine Or.inl ⟨k1, fun a b u v w x => ?_⟩
          by_cases y : a < i ∨ a = i ∧ b < j
          · exact k2 a b u v y x
          · have e1 : a = i := by omega
            have e2 : b = j := by omega
            subst e1 e2
            apply Classical.byContradiction
            intro q
            exact (H x q).1 k1
        · refine Or.inr ⟨k1, k2, fun a b u v w x y => ?_⟩
          by_cases y' : a < i ∨ a = i ∧ b < j
          · exact k3 a b u v y' x y
          · have e1 : a = i := by omega
            have e2 : b = j := by omega
            subst e1 e2
            exact (H x y).2
      have take : vk i = vk j → ¬ vk i = -1 → (¬ r = -1 → (vk i).toInt ≤ r.toInt) → wY_lowestShared_25 post J t (nI i) (vk i) (nI R) ft fl ph co uq cu sp su cf ka kb ma mb ow ac dy sy f (vk i) (nI (j + 1)) := fun e hn H => by
        refine ih (j + 1) (vk i) (by omega) (by omega) (by omega) (hV i hi) (Or.inr ⟨hn, ⟨i, j, h1, z, rfl, e.symm⟩, fun a b u v w x y => ?_⟩)
        by_cases y' : a < i ∨ a = i ∧ b < j
        · rcases h5 with ⟨k1, k2⟩ | ⟨k1, k2, k3⟩
          · exact absurd (k2 a b u v y' x) y
          · exact Int.le_trans (H k1) (k3 a b u v y' x y)
        · have e1 : a = i := by omega
          subst e1
          exact Int.le_refl _
      refine br_c (fun y => nm_r (nI_1 j) (keep (fun _ q => absurd y q))) (fun y => br_c (fun x => br_c (fun w => nm_r (nI_1 j) (take x y (fun q => absurd w q))) (fun w => br_c (fun v => nm_r (nI_1 j) (keep (fun _ _ => ⟨w, Int32.le_iff_toInt_le.mp v⟩))) (fun v => nm_r (nI_1 j) (take x y (fun _ => ?_))))) (fun x => nm_r (nI_1 j) (keep (fun q => absurd q x))))
      have := mt Int32.le_iff_toInt_le.mpr v
      omega
theorem oi_yls_out {post : Int32 → Prop} {R : Nat} {t : Int32} {vk : Nat → Int32} (hR : R ≤ 64) (hco : co = 0 ∨ co = 1) (hvk : vk = oi_vk co t ow ka kb ma mb) (hV : ∀ s, s < R → oi_V (vk s)) (K : ∀ r : Int32, oi_LS R vk r → post r) :
    ∀ (f i : Nat) (r : Int32), i ≤ R → R - i < f → oi_V r → ((r = -1 ∧ ∀ a b, a < b → b < R → a < i → vk a = vk b → vk a = -1) ∨ (¬ r = -1 ∧ (∃ a b, a < b ∧ b < R ∧ vk a = r ∧ vk b = r) ∧ ∀ a b, a < b → b < R → a < i → vk a = vk b → ¬ vk a = -1 → r.toInt ≤ (vk a).toInt)) → wY_lowestShared_4 post t (nI R) ft fl ph co uq cu sp su cf ka kb ma mb ow ac dy sy f r (nI i) := by
  intro f
  induction f with
  | zero => intro i r _ h; exact absurd h (Nat.not_lt_zero _)
  | succ f ih =>
    intro i r h1 h2 h3 h4
    rw [wY_lowestShared_4]
    refine pk_le R i (fun z => K r ?_) (fun z => ?_)
    · rcases h4 with ⟨k1, k2⟩ | ⟨k1, k2, k3⟩
      · exact Or.inl ⟨k1, fun a b u v x => k2 a b u v (by omega) x⟩
      · exact Or.inr ⟨k1, k2, fun a b u v x => k3 a b u v (by omega) x⟩
    · refine oi_ytr (by omega) hco (nm_r (nI_1 i) ⟨65, ?_⟩)
      rw [show oi_vk co t ow ka kb ma mb i = vk i by rw [hvk]]
      refine oi_yls_in hR hco hvk hV z (fun r' q1 q2 => ih (i + 1) r' (by omega) (by omega) q1 q2) 65 (i + 1) r (by omega) (by omega) (by omega) h3 ?_
      rcases h4 with ⟨k1, k2⟩ | ⟨k1, k2, k3⟩
      · exact Or.inl ⟨k1, fun a b u v w x => k2 a b u v (by omega) x⟩
      · exact Or.inr ⟨k1, k2, fun a b u v w x => k3 a b u v (by omega) x⟩
theorem oi_yls {post : Int32 → Prop} {R : Nat} {t : Int32} {vk : Nat → Int32} (hR : R ≤ 64) (hco : co = 0 ∨ co = 1) (hvk : vk = oi_vk co t ow ka kb ma mb) (hV : ∀ s, s < R → oi_V (vk s)) (K : ∀ r : Int32, oi_LS R vk r → post r) : wpY_lowestShared post (nI R, ft, fl, ph, co, uq, cu, sp, su, cf, ka, kb, ma, mb, ow, ac, dy, sy) t := by
  unfold wpY_lowestShared
  exact ⟨65, oi_yls_out hR hco hvk hV K 65 0 (-1) (by omega) (by omega) oi_V_m1 (Or.inl ⟨rfl, fun a b u v w => absurd w (Nat.not_lt_zero a)⟩)⟩
/-- the pairs before slot i -/
theorem oi_yps_in {post : Int32 → Prop} {J : Int32 → Prop} {R p i : Nat} {rk : Int32} (hR : R ≤ 64) (hp : p ≤ 4) (h4 : p = 4 → ∀ s, s < R → (co = 0 ∨ co = 1) ∧ oi_ky co ka kb s = dr s) (h : p ≠ 4 → ∀ s, s < R → dy s = dr s) (hi : i < R)
    (K1 : nI (oi_cn (fun s => oi_F dr s && decide ((dr s).toInt * 64 + s < (dr i).toInt * 64 + i)) R) = rk → post (nI i)) (K2 : ¬ nI (oi_cn (fun s => oi_F dr s && decide ((dr s).toInt * 64 + s < (dr i).toInt * 64 + i)) R) = rk → J (nI (i + 1))) :
    ∀ (f j : Nat), j ≤ R → R - j < f → wY_pairSlot_27 post J rk (nI i) (dr i) (nI R) ft fl (nI p) co uq cu sp su cf ka kb ma mb ow ac dy sy f (nI (oi_cn (fun s => oi_F dr s && decide ((dr s).toInt * 64 + s < (dr i).toInt * 64 + i)) j)) (nI j) := by
  intro f
  induction f with
  | zero => intro j _ h; exact absurd h (Nat.not_lt_zero _)
  | succ f ih =>
    intro j h1 h2
    rw [wY_pairSlot_27]
    refine pk_le R j (fun z => ?_) (fun z => ?_)
    · rw [show j = R by omega]
      exact br_c K1 (fun y => nm_r (nI_1 i) (K2 y))
    · have IH := ih (j + 1) (by omega) (by omega)
      rw [oi_cn_s] at IH
      refine oi_ylive (d := dr j) (by omega) hp (fun q => h4 q j (by omega)) (fun q => h q j (by omega)) ?_
      have no : (oi_F dr j && decide ((dr j).toInt * 64 + (j : Int) < (dr i).toInt * 64 + (i : Int))) = false → wY_pairSlot_27 post J rk (nI i) (dr i) (nI R) ft fl (nI p) co uq cu sp su cf ka kb ma mb ow ac dy sy f (nI (oi_cn (fun s => oi_F dr s && decide ((dr s).toInt * 64 + s < (dr i).toInt * 64 + i)) j)) (nI (j + 1)) := fun q => by
        rw [q] at IH; exact IH
      have yes : (oi_F dr j && decide ((dr j).toInt * 64 + (j : Int) < (dr i).toInt * 64 + (i : Int))) = true → wY_pairSlot_27 post J rk (nI i) (dr i) (nI R) ft fl (nI p) co uq cu sp su cf ka kb ma mb ow ac dy sy f (nI (oi_cn (fun s => oi_F dr s && decide ((dr s).toInt * 64 + s < (dr i).toInt * 64 + i)) j + 1)) (nI (j + 1)) := fun q => by
        rw [q] at IH; exact IH
      refine br_c (fun y => nm_r (nI_1 j) (no (by rw [oi_F_f y]; rfl))) (fun y => br_c (fun x => nm_r (nI_1 _) (nm_r (nI_1 j) (yes ?_))) (fun x => br_c (fun w => pk_le i j (fun v => nm_r (nI_1 j) (no ?_)) (fun v => nm_r (nI_1 _) (nm_r (nI_1 j) (yes ?_)))) (fun w => nm_r (nI_1 j) (no ?_))))
      · have := Int32.lt_iff_toInt_lt.mp x
        rw [oi_F_t y, Bool.true_and, decide_eq_true_eq]; omega
      · rw [oi_F_t y, Bool.true_and, decide_eq_false_iff_not, w]; omega
      · rw [oi_F_t y, Bool.true_and, decide_eq_true_eq, w]; omega
      · have k1 := mt Int32.lt_iff_toInt_lt.mpr x
        have k2 : ¬ (dr j).toInt = (dr i).toInt := fun e => w (Int32.toInt_inj.mp e)
        rw [oi_F_t y, Bool.true_and, decide_eq_false_iff_not]; omega
theorem oi_yps {post : Int32 → Prop} {R p : Nat} {rk : Int32} (hR : R ≤ 64) (hp : p ≤ 4) (h4 : p = 4 → ∀ s, s < R → (co = 0 ∨ co = 1) ∧ oi_ky co ka kb s = dr s) (h : p ≠ 4 → ∀ s, s < R → dy s = dr s)
    (K1 : ∀ i, i < R → oi_F dr i = true → nI (oi_cn (fun s => oi_F dr s && decide ((dr s).toInt * 64 + s < (dr i).toInt * 64 + i)) R) = rk → post (nI i)) (K2 : (∀ i, i < R → oi_F dr i = true → ¬ nI (oi_cn (fun s => oi_F dr s && decide ((dr s).toInt * 64 + s < (dr i).toInt * 64 + i)) R) = rk) → post (-1)) : wpY_pairSlot post (nI R, ft, fl, nI p, co, uq, cu, sp, su, cf, ka, kb, ma, mb, ow, ac, dy, sy) rk := by
  have L : ∀ (f i : Nat), i ≤ R → R - i < f → (∀ a, a < i → oi_F dr a = true → ¬ nI (oi_cn (fun s => oi_F dr s && decide ((dr s).toInt * 64 + s < (dr a).toInt * 64 + a)) R) = rk) → wY_pairSlot_2 post rk (nI R) ft fl (nI p) co uq cu sp su cf ka kb ma mb ow ac dy sy f (nI i) := by
    intro f
    induction f with
    | zero => intro i _ h; exact absurd h (Nat.not_lt_zero _)
    | succ f ih =>
      intro i h1 h2 h3
      rw [wY_pairSlot_2]
      refine pk_le R i (fun z => K2 (fun a ha => h3 a (by omega))) (fun z => ?_)
      refine oi_ylive (d := dr i) (by omega) hp (fun q => h4 q i (by omega)) (fun q => h q i (by omega)) (br_c (fun y => nm_r (nI_1 i) (ih (i + 1) (by omega) (by omega) (fun a ha hF => ?_))) (fun y => ⟨65, ?_⟩))
      · rcases Nat.eq_or_lt_of_le (Nat.lt_succ_iff.mp ha) with w | w
        · subst w; rw [oi_F_f y] at hF; exact absurd hF (by decide)
        · exact h3 a w hF
      · refine oi_yps_in hR hp h4 h z (K1 i z (oi_F_t y)) (fun q => ih (i + 1) (by omega) (by omega) (fun a ha hF => ?_)) 65 0 (by omega) (by omega)
        rcases Nat.eq_or_lt_of_le (Nat.lt_succ_iff.mp ha) with w | w
        · subst w; exact q
        · exact h3 a w hF
  unfold wpY_pairSlot
  exact ⟨65, L 65 0 (by omega) (by omega) (fun a ha => absurd ha (Nat.not_lt_zero a))⟩
theorem oi_yic {post : Int32 → Prop} {R p : Nat} {lo hi : Int32} (hR : R ≤ 64) (hp : p = 3 ∨ p = 4) (h4 : p = 4 → ∀ s, s < R → (co = 0 ∨ co = 1) ∧ oi_ky co ka kb s = dr s) (h : p ≠ 4 → ∀ s, s < R → dy s = dr s) (K : post (nI (oi_cn (fun s => oi_F dr s && (decide (lo.toInt ≤ (dr s).toInt) && decide ((dr s).toInt ≤ hi.toInt))) R))) : wpY_indexCount post (nI R, ft, fl, nI p, co, uq, cu, sp, su, cf, ka, kb, ma, mb, ow, ac, dy, sy) lo hi := by
  have L : ∀ (f i : Nat), i ≤ R → R - i < f → wY_indexCount_24 post lo hi (nI R) ft fl (nI p) co uq cu sp su cf ka kb ma mb ow ac dy sy f (nI (oi_cn (fun s => oi_F dr s && (decide (lo.toInt ≤ (dr s).toInt) && decide ((dr s).toInt ≤ hi.toInt))) i)) (nI i) := by
    intro f
    induction f with
    | zero => intro i _ h; exact absurd h (Nat.not_lt_zero _)
    | succ f ih =>
      intro i h1 h2
      rw [wY_indexCount_24]
      refine pk_le R i (fun z => ?_) (fun z => ?_)
      · rw [show i = R by omega]; exact K
      · have IH := ih (i + 1) (by omega) (by omega)
        rw [oi_cn_s] at IH
        have no : (oi_F dr i && (decide (lo.toInt ≤ (dr i).toInt) && decide ((dr i).toInt ≤ hi.toInt))) = false → wY_indexCount_24 post lo hi (nI R) ft fl (nI p) co uq cu sp su cf ka kb ma mb ow ac dy sy f (nI (oi_cn (fun s => oi_F dr s && (decide (lo.toInt ≤ (dr s).toInt) && decide ((dr s).toInt ≤ hi.toInt))) i)) (nI (i + 1)) := fun q => by
          rw [q] at IH; exact IH
        have yes : (oi_F dr i && (decide (lo.toInt ≤ (dr i).toInt) && decide ((dr i).toInt ≤ hi.toInt))) = true → wY_indexCount_24 post lo hi (nI R) ft fl (nI p) co uq cu sp su cf ka kb ma mb ow ac dy sy f (nI (oi_cn (fun s => oi_F dr s && (decide (lo.toInt ≤ (dr s).toInt) && decide ((dr s).toInt ≤ hi.toInt))) i + 1)) (nI (i + 1)) := fun q => by
          rw [q] at IH; exact IH
        refine oi_ylive (d := dr i) (by omega) (by omega) (fun q => h4 q i (by omega)) (fun q => h q i (by omega)) ?_
        refine br_c (fun y => nm_r (nI_1 i) (no (by rw [oi_F_f y]; rfl))) (fun y => br_c (fun x => nm_r (nI_1 i) (no ?_)) (fun x => br_c (fun w => nm_r (nI_1 i) (no ?_)) (fun w => nm_r (nI_1 _) (nm_r (nI_1 i) (yes ?_)))))
        · have := Int32.lt_iff_toInt_lt.mp x
          simp [show ¬ lo.toInt ≤ (dr i).toInt by omega]
        · have := Int32.lt_iff_toInt_lt.mp w
          simp [show ¬ (dr i).toInt ≤ hi.toInt by omega]
        · have k1 := mt Int32.lt_iff_toInt_lt.mpr x
          have k2 := mt Int32.lt_iff_toInt_lt.mpr w
          rw [oi_F_t y]
          simp [show lo.toInt ≤ (dr i).toInt by omega, show (dr i).toInt ≤ hi.toInt by omega]
  unfold wpY_indexCount
  refine pk_eq p 3 (fun _ => ⟨65, L 65 0 (by omega) (by omega)⟩) (fun z => pk_eq p 4 (fun _ => ⟨65, L 65 0 (by omega) (by omega)⟩) (fun y => ?_))
  omega
end
end
section
/-! the relation -/
def oi_SZ (R T : Nat) (rm : Int64) : Prop := 4 ≤ R ∧ R ≤ 64 ∧ 1 ≤ T ∧ T ≤ 8 ∧ ∀ s, oi_b rm s = decide (s < R)
def oi_VL (R : Nat) (ka kb ma mb : Nat → Int32) : Prop := ∀ s, s < R → oi_V (ka s) ∧ oi_V (kb s) ∧ oi_V (ma s) ∧ oi_V (mb s)
def oi_OW (R T : Nat) (lk : Int64) (ow : Nat → Int32) (od : Nat → Int64) : Prop := (∀ s, s < R → ∃ t, t ≤ T ∧ ow s = nI t) ∧ (∀ s, oi_b lk s = (decide (s < R) && !decide (ow s = 0))) ∧ (∀ t, 1 ≤ t → t ≤ T → ∀ s, oi_b (od t) s = (decide (s < R) && decide (ow s = nI t)))
def oi_PR (R : Nat) (pr : Int64) (ka : Nat → Int32) : Prop := ∀ s, s < R → oi_b pr s = !decide (ka s = -1)
def oi_UN (R : Nat) (ow ka kb ma mb : Nat → Int32) : Prop := ∀ s, s < R → ow s = 0 → ka s = ma s ∧ kb s = mb s
def oi_PH (R p q w : Nat) (co : Int32) : Prop := p ≤ 4 ∧ (p ≠ 0 → co = 0 ∨ co = 1) ∧ q ≤ 4 ∧ w ≤ R ∧ (1 ≤ p → p ≤ 3 → 1 ≤ q ∧ q ≤ 3 ∧ (2 ≤ q → w = R))
def oi_SV (R : Nat) (sd sy : Nat → Int32) : Prop := ∀ s, s < R → oi_V (sd s) ∧ sy s = sd s
def oi_DY (R p : Nat) (dr dy : Nat → Int32) : Prop := p ≠ 4 → ∀ s, s < R → dy s = dr s
def oi_IV (R T p c q w n : Nat) (co bl : Int32) (rm pr lk lg : Int64) (ka kb ma mb ow : Nat → Int32) (od : Nat → Int64) (dr sd en dy sy : Nat → Int32) : Prop := oi_SZ R T rm ∧ oi_VL R ka kb ma mb ∧ oi_OW R T lk ow od ∧ oi_PR R pr ka ∧ oi_UN R ow ka kb ma mb ∧ oi_PH R p q w co ∧ oi_BU R p c n (oi_ky co ka kb) dr lg bl en ∧ oi_SV R sd sy ∧ oi_DY R p dr dy
def i_Rel (_ : Nat) (u : SX) (v : SY) : Prop := ∃ (R T p c q w n : Nat) (fl co uq cf bl : Int32) (rm pr lk lg : Int64) (ka kb ma mb ow ac : Nat → Int32) (od : Nat → Int64) (dr sd en sr dy sy : Nat → Int32), u = (nI R, nI T, fl, rm, pr, lk, nI p, co, uq, nI c, nI q, nI w, cf, lg, bl, nI n, ka, kb, ma, mb, ow, ac, od, dr, sd, en, sr) ∧ v = (nI R, nI T, fl, nI p, co, uq, nI c, nI q, nI w, cf, ka, kb, ma, mb, ow, ac, dy, sy) ∧ oi_IV R T p c q w n co bl rm pr lk lg ka kb ma mb ow od dr sd en dy sy
theorem i_up {k : Nat} {u : SX} {v : SY} (h : i_Rel k u v) : i_Rel (k + 5) u v := h
theorem oi_el {k : Nat} {u : SX} {v : SY} {P : SX → SY → Prop} (I : i_Rel k u v) (h : ∀ (R T p c q w n : Nat) (fl co uq cf bl : Int32) (rm pr lk lg : Int64) (ka kb ma mb ow ac : Nat → Int32) (od : Nat → Int64) (dr sd en sr dy sy : Nat → Int32), oi_IV R T p c q w n co bl rm pr lk lg ka kb ma mb ow od dr sd en dy sy → P (nI R, nI T, fl, rm, pr, lk, nI p, co, uq, nI c, nI q, nI w, cf, lg, bl, nI n, ka, kb, ma, mb, ow, ac, od, dr, sd, en, sr) (nI R, nI T, fl, nI p, co, uq, nI c, nI q, nI w, cf, ka, kb, ma, mb, ow, ac, dy, sy)) : P u v :=
  Exists.elim I fun R I => Exists.elim I fun T I => Exists.elim I fun p I => Exists.elim I fun c I => Exists.elim I fun q I => Exists.elim I fun w I => Exists.elim I fun n I => Exists.elim I fun fl I => Exists.elim I fun co I => Exists.elim I fun uq I => Exists.elim I fun cf I => Exists.elim I fun bl I => Exists.elim I fun rm I => Exists.elim I fun pr I => Exists.elim I fun lk I => Exists.elim I fun lg I => Exists.elim I fun ka I => Exists.elim I fun kb I => Exists.elim I fun ma I => Exists.elim I fun mb I => Exists.elim I fun ow I => Exists.elim I fun ac I => Exists.elim I fun od I => Exists.elim I fun dr I => Exists.elim I fun sd I => Exists.elim I fun en I => Exists.elim I fun sr I => Exists.elim I fun dy I => Exists.elim I fun sy I => I.1.symm ▸ (I.2.1.symm ▸ h R T p c q w n fl co uq cf bl rm pr lk lg ka kb ma mb ow ac od dr sd en sr dy sy I.2.2)
theorem oi_mk (k : Nat) {R T p c q w n : Nat} {fl co uq cf bl : Int32} {rm pr lk lg : Int64} {ka kb ma mb ow ac : Nat → Int32} {od : Nat → Int64} {dr sd en sr dy sy : Nat → Int32} (h : oi_IV R T p c q w n co bl rm pr lk lg ka kb ma mb ow od dr sd en dy sy) : i_Rel k (nI R, nI T, fl, rm, pr, lk, nI p, co, uq, nI c, nI q, nI w, cf, lg, bl, nI n, ka, kb, ma, mb, ow, ac, od, dr, sd, en, sr) (nI R, nI T, fl, nI p, co, uq, nI c, nI q, nI w, cf, ka, kb, ma, mb, ow, ac, dy, sy) := ⟨R, T, p, c, q, w, n, fl, co, uq, cf, bl, rm, pr, lk, lg, ka, kb, ma, mb, ow, ac, od, dr, sd, en, sr, dy, sy, rfl, rfl, h⟩
section
variable {fr : Int32} {ft : Int32} {fl : Int32} {rm : Int64} {pr : Int64} {lk : Int64} {ph : Int32} {co : Int32} {uq : Int32} {cu : Int32} {sp : Int32} {su : Int32} {cf : Int32} {lg : Int64} {bl : Int32} {ec : Int32} {ka : Nat → Int32} {kb : Nat → Int32} {ma : Nat → Int32} {mb : Nat → Int32} {ow : Nat → Int32} {ac : Nat → Int32} {od : Nat → Int64} {dr : Nat → Int32} {sd : Nat → Int32} {en : Nat → Int32} {sr : Nat → Int32}
variable {dy : Nat → Int32} {sy : Nat → Int32}
variable {R T p c q w n : Nat}
theorem oi_iv4 (h : oi_IV R T p c q w n co bl rm pr lk lg ka kb ma mb ow od dr sd en dy sy) : p = 4 → ∀ s, s < R → (co = 0 ∨ co = 1) ∧ oi_ky co ka kb s = dr s := fun e s hs => by
  obtain ⟨-, -, -, -, -, ⟨-, h2, -⟩, ⟨-, -, -, -, -, -, -, h3⟩, -, -⟩ := h
  exact ⟨h2 (by omega), (h3 e s hs).symm⟩
theorem oi_ivd (h : oi_IV R T p c q w n co bl rm pr lk lg ka kb ma mb ow od dr sd en dy sy) : p ≠ 4 → ∀ s, s < R → dy s = dr s := h.2.2.2.2.2.2.2.2
theorem oi_ivc (h : oi_IV R T p c q w n co bl rm pr lk lg ka kb ma mb ow od dr sd en dy sy) : ∀ s, s < c → co = 0 ∨ co = 1 := fun s hs => by
  obtain ⟨-, -, -, -, -, ⟨-, h2, -⟩, ⟨⟨h3, h4, h5⟩, -⟩, -, -⟩ := h
  refine h2 (fun e => ?_)
  have := h4 e
  omega
theorem oi_ivk (h : oi_IV R T p c q w n co bl rm pr lk lg ka kb ma mb ow od dr sd en dy sy) : ∀ s, s < R → oi_V (oi_ky co ka kb s) := fun s hs => by
  obtain ⟨-, h1, -⟩ := h
  unfold oi_ky
  split
  · exact (h1 s hs).1
  · exact (h1 s hs).2.1
theorem oi_ivm (h : oi_IV R T p c q w n co bl rm pr lk lg ka kb ma mb ow od dr sd en dy sy) : ∀ s, s < R → oi_V (oi_ky co ma mb s) := fun s hs => by
  obtain ⟨-, h1, -⟩ := h
  unfold oi_ky
  split
  · exact (h1 s hs).2.2.1
  · exact (h1 s hs).2.2.2
theorem oi_nn {a b : Nat} (ha : a ≤ 8) (hb : b ≤ 8) (h : nI a = nI b) : a = b := (nI_eq (by omega) (by omega)).mp h
/-- a row is written by its owner -/
theorem oi_iv_cur {s t n' : Nat} {a b bl' : Int32} {pr' lk' lg' m : Int64} {dr' en' : Nat → Int32} (h : oi_IV R T p c q w n co bl rm pr lk lg ka kb ma mb ow od dr sd en dy sy) (hs : s < R) (ht1 : 1 ≤ t) (ht : t ≤ T) (ho : ow s = 0 ∨ ow s = nI t) (ha : oi_V a) (hb : oi_V b) (h1 : ∀ j, oi_b pr' j = if j = s then !decide (a = -1) else oi_b pr j) (h2 : ∀ j, oi_b lk' j = (oi_b lk j || decide (j = s))) (h3 : ∀ j, oi_b m j = (oi_b (od t) j || decide (j = s))) (h4 : oi_BU R p c n' (oi_ky co (upd ka s a) (upd kb s b)) dr' lg' bl' en') (h5 : p ≠ 4 → dr' = dr) : oi_IV R T p c q w n' co bl' rm pr' lk' lg' (upd ka s a) (upd kb s b) ma mb (upd ow s (nI t)) (vp_updL od t m) dr' sd en' dy sy := by
  obtain ⟨g1, g2, ⟨g3, g4, g5⟩, g6, g7, g8, -, g10, g11⟩ := h
  have hT : T ≤ 8 := g1.2.2.2.1
  have hz : ¬ nI t = 0 := fun e => by
    have := oi_nn (a := t) (b := 0) (by omega) (by omega) e
    omega
  refine ⟨g1, fun j hj => ?_, ⟨fun j hj => ?_, fun j => ?_, fun t' h6 h7 j => ?_⟩, fun j hj => ?_, fun j hj hj0 => ?_, g8, h4, g10, fun e j hj => ?_⟩
  · obtain ⟨k1, k2, k3, k4⟩ := g2 j hj
    by_cases e : j = s
    · subst e; rw [pk_us, pk_us]; exact ⟨ha, hb, k3, k4⟩
    · rw [pk_un e, pk_un e]; exact ⟨k1, k2, k3, k4⟩
  · by_cases e : j = s
    · subst e; rw [pk_us]; exact ⟨t, ht, rfl⟩
    · rw [pk_un e]; exact g3 j hj
  · rw [h2 j, g4 j]
    by_cases e : j = s
    · subst e; rw [pk_us]; simp [hs, hz]
    · rw [pk_un e]; simp [e]
  · by_cases e : t' = t
    · subst e
      rw [pk_uLs, h3 j, g5 t' h6 h7 j]
      by_cases e : j = s
      · subst e; rw [pk_us]; simp [hs]
      · rw [pk_un e]; simp [e]
    · rw [pk_uLn e, g5 t' h6 h7 j]
      by_cases e' : j = s
      · subst e'; rw [pk_us]
        have k1 : ¬ nI t = nI t' := fun q => e (oi_nn (by omega) (by omega) q).symm
        have k2 : ¬ ow j = nI t' := fun q => by
          rcases ho with z | z
          · rw [z] at q
            have := oi_nn (a := 0) (b := t') (by omega) (by omega) q
            omega
          · exact k1 (z.symm.trans q)
        simp [k1, k2]
      · rw [pk_un e']
  · rw [h1 j]
    by_cases e : j = s
    · subst e; rw [if_pos rfl, pk_us]
    · rw [if_neg e, pk_un e]; exact g6 j hj
  · by_cases e : j = s
    · subst e; rw [pk_us] at hj0; exact absurd hj0 hz
    · rw [pk_un e] at hj0; rw [pk_un e, pk_un e]; exact g7 j hj hj0
  · rw [h5 e]; exact g11 e j hj
end
end
section
/-! small checks -/
def oi_A (T : Nat) (ac : Nat → Int32) (v : Int32) : Prop := ∃ t, 1 ≤ t ∧ t ≤ T ∧ v = nI t ∧ ¬ ac t = 0
theorem oi_Asp {T : Nat} {ac : Nat → Int32} {v : Int32} (hT : T ≤ 8) {P0 P1 : Prop} (h1 : oi_A T ac v → P1) (h0 : ¬ oi_A T ac v → P0) : (v < 1 → P0) ∧ (¬ v < 1 → ((nI T < v → P0) ∧ (¬ nI T < v → (vp_in v 9 ∧ ((ac v.toNatClampNeg = 0 → P0) ∧ (¬ ac v.toNatClampNeg = 0 → P1)))))) := by
  refine br_c (fun z => h0 ?_) (fun z => br_c (fun y => h0 ?_) (fun y => ?_))
  · rintro ⟨t, a, b, rfl, e⟩
    exact absurd z (nI_nlt (b := 1) a (by omega))
  · rintro ⟨t, a, b, rfl, e⟩
    exact absurd y (nI_nlt b (by omega))
  · have hz : ¬ v < 0 := fun q => z (Int32.lt_trans q (by decide))
    obtain ⟨t, ht, rfl⟩ := nI_of hz
    have k1 : 1 ≤ t := Nat.le_of_not_lt fun q => z (nI_lt (b := 1) q (by omega))
    have k2 : t ≤ T := Nat.le_of_not_lt fun q => y (nI_lt q ht)
    refine ⟨vp_in_nI (by omega) (by omega), ?_⟩
    rw [nI_clamp ht]
    refine br_c (fun x => h0 ?_) (fun x => h1 ⟨t, k1, k2, rfl, x⟩)
    rintro ⟨t', a, b, e, f⟩
    have := (nI_eq ht (by omega)).mp e
    subst this
    exact f x
def oi_ok (v : Int32) : Prop := 0 ≤ v.toInt ∧ v.toInt ≤ 999
theorem oi_ok_V {v : Int32} (h : oi_ok v) : oi_V v := ⟨by have := h.1; omega, h.2⟩
theorem oi_ok_n {v : Int32} (h : oi_ok v) : ¬ v = -1 := fun e => by
  have := h.1
  rw [e, oi_m1] at this
  omega
theorem oi_lt0 {v : Int32} : v < 0 ↔ v.toInt < 0 := by rw [Int32.lt_iff_toInt_lt]; exact Iff.rfl
theorem oi_le999 {v : Int32} : v ≤ 999 ↔ v.toInt ≤ 999 := by rw [Int32.le_iff_toInt_le]; exact Iff.rfl
theorem oi_999lt {v : Int32} : 999 < v ↔ 999 < v.toInt := by rw [Int32.lt_iff_toInt_lt]; exact Iff.rfl
section
variable {fr : Int32} {ft : Int32} {fl : Int32} {rm : Int64} {pr : Int64} {lk : Int64} {ph : Int32} {co : Int32} {uq : Int32} {cu : Int32} {sp : Int32} {su : Int32} {cf : Int32} {lg : Int64} {bl : Int32} {ec : Int32} {ka : Nat → Int32} {kb : Nat → Int32} {ma : Nat → Int32} {mb : Nat → Int32} {ow : Nat → Int32} {ac : Nat → Int32} {od : Nat → Int64} {dr : Nat → Int32} {sd : Nat → Int32} {en : Nat → Int32} {sr : Nat → Int32}
variable {dy : Nat → Int32} {sy : Nat → Int32}
theorem oi_xact {post : Int32 → Prop} {T : Nat} {v : Int32} (hT : T ≤ 8) (h1 : oi_A T ac v → post 1) (h0 : ¬ oi_A T ac v → post 0) : wpX_isActive post (fr, nI T, fl, rm, pr, lk, ph, co, uq, cu, sp, su, cf, lg, bl, ec, ka, kb, ma, mb, ow, ac, od, dr, sd, en, sr) v := oi_Asp hT h1 h0
theorem oi_yact {post : Int32 → Prop} {T : Nat} {v : Int32} (hT : T ≤ 8) (h1 : oi_A T ac v → post 1) (h0 : ¬ oi_A T ac v → post 0) : wpY_isActive post (fr, nI T, fl, ph, co, uq, cu, sp, su, cf, ka, kb, ma, mb, ow, ac, dy, sy) v := oi_Asp hT h1 h0
theorem oi_xval {post : Int32 → Prop} {v : Int32} (h1 : oi_ok v → post 1) (h0 : ¬ oi_ok v → post 0) (u : SX) : wpX_isValue post u v := by
  match u with
  | (fr, ft, fl, rm, pr, lk, ph, co, uq, cu, sp, su, cf, lg, bl, ec, ka, kb, ma, mb, ow, ac, od, dr, sd, en, sr) =>
  unfold wpX_isValue
  refine br_c (fun z => h0 (fun q => ?_)) (fun z => br_c (fun y => h0 (fun q => ?_)) (fun y => h1 ?_))
  · have := oi_lt0.mp z; have := q.1; omega
  · have := oi_999lt.mp y; have := q.2; omega
  · have a := mt oi_lt0.mpr z
    have b := mt oi_999lt.mpr y
    exact ⟨by omega, by omega⟩
theorem oi_yval {post : Int32 → Prop} {v : Int32} (h1 : oi_ok v → post 0) (h0 : ¬ oi_ok v → post 1) (u : SY) : wpY_badValue post u v := by
  match u with
  | (fr, ft, fl, ph, co, uq, cu, sp, su, cf, ka, kb, ma, mb, ow, ac, dy, sy) =>
  unfold wpY_badValue
  refine br_c (fun z => h0 (fun q => ?_)) (fun z => br_c (fun y => h1 ?_) (fun y => h0 (fun q => ?_)))
  · have := oi_lt0.mp z; have := q.1; omega
  · have a := mt oi_lt0.mpr z
    have b := oi_le999.mp y
    exact ⟨by omega, by omega⟩
  · have := mt oi_le999.mpr y; have := q.2; omega
def oi_S (R : Nat) (v : Int32) : Prop := ∃ s, s < R ∧ v = nI s
theorem oi_xslot {post : Int32 → Prop} {R : Nat} {v : Int32} (hR : R ≤ 64) (h1 : oi_S R v → post 1) (h0 : ¬ oi_S R v → post 0) : wpX_isSlot post (nI R, ft, fl, rm, pr, lk, ph, co, uq, cu, sp, su, cf, lg, bl, ec, ka, kb, ma, mb, ow, ac, od, dr, sd, en, sr) v := by
  unfold wpX_isSlot
  refine br_c (fun z => h0 ?_) (fun z => br_c (fun y => h0 ?_) (fun y => h1 ?_))
  · rintro ⟨s, hs, rfl⟩
    exact nI_pos (by omega) z
  · rintro ⟨s, hs, rfl⟩
    exact nI_ge hs (by omega) y
  · obtain ⟨s, hs, rfl⟩ := nI_of z
    exact ⟨s, Nat.lt_of_not_le fun q => y (nI_le q hs), rfl⟩
theorem oi_yslot {post : Int32 → Prop} {R : Nat} {v : Int32} (hR : R ≤ 64) (h1 : oi_S R v → post 0) (h0 : ¬ oi_S R v → post 1) : wpY_badSlot post (nI R, ft, fl, ph, co, uq, cu, sp, su, cf, ka, kb, ma, mb, ow, ac, dy, sy) v := by
  unfold wpY_badSlot
  refine br_c (fun z => h0 ?_) (fun z => br_c (fun y => h1 ?_) (fun y => h0 ?_))
  · rintro ⟨s, hs, rfl⟩
    exact nI_pos (by omega) z
  · obtain ⟨s, hs, rfl⟩ := nI_of z
    exact ⟨s, Nat.lt_of_not_le fun q => absurd y (nI_nlt q hs), rfl⟩
  · rintro ⟨s, hs, rfl⟩
    exact y (nI_lt hs (by omega))
theorem oi_xcol {post : Int32 → Prop} {v : Int32} (h1 : v = 0 ∨ v = 1 → post 1) (h0 : ¬ (v = 0 ∨ v = 1) → post 0) (u : SX) : wpX_isColumn post u v := by
  match u with
  | (fr, ft, fl, rm, pr, lk, ph, co, uq, cu, sp, su, cf, lg, bl, ec, ka, kb, ma, mb, ow, ac, od, dr, sd, en, sr) =>
  unfold wpX_isColumn
  exact br_c (fun z => h1 (Or.inl z)) (fun z => br_c (fun y => h1 (Or.inr y)) (fun y => h0 (fun q => q.elim z y)))
theorem oi_xread {post : Int32 → Prop} {p : Nat} (hp : p ≤ 4) (h1 : p = 3 ∨ p = 4 → post 1) (h0 : ¬ (p = 3 ∨ p = 4) → post 0) : wpX_isReadable post (fr, ft, fl, rm, pr, lk, nI p, co, uq, cu, sp, su, cf, lg, bl, ec, ka, kb, ma, mb, ow, ac, od, dr, sd, en, sr) := by
  unfold wpX_isReadable
  exact pk_eq p 3 (fun z => h1 (Or.inl z)) (fun z => pk_eq p 4 (fun y => h1 (Or.inr y)) (fun y => h0 (fun q => q.elim z y)))
theorem oi_xbld {post : Int32 → Prop} {p : Nat} (hp : p ≤ 4) (h1 : 1 ≤ p ∧ p ≤ 3 → post 1) (h0 : ¬ (1 ≤ p ∧ p ≤ 3) → post 0) : wpX_isBuilding post (fr, ft, fl, rm, pr, lk, nI p, co, uq, cu, sp, su, cf, lg, bl, ec, ka, kb, ma, mb, ow, ac, od, dr, sd, en, sr) := by
  unfold wpX_isBuilding
  exact pk_eq p 1 (fun z => h1 (by omega)) (fun z => pk_eq p 2 (fun y => h1 (by omega)) (fun y => pk_eq p 3 (fun x => h1 (by omega)) (fun x => h0 (by omega))))
theorem oi_begin_loop {T : Nat} (hT : T ≤ 8) : ∀ (f t : Nat), t ≤ T + 1 → T + 1 - t < f → ∃ (r : Int32) (ac' : Nat → Int32), (∀ post : Int32 → SX → Prop, post r (fr, nI T, fl, rm, pr, lk, ph, co, uq, cu, sp, su, cf, lg, bl, ec, ka, kb, ma, mb, ow, ac', od, dr, sd, en, sr) → wX_begin_2 post fr (nI T) fl rm pr lk ph co uq cu sp su cf lg bl ec ka kb ma mb ow ac od dr sd en sr f (nI t)) ∧ (∀ post : Int32 → SY → Prop, post r (fr, nI T, fl, ph, co, uq, cu, sp, su, cf, ka, kb, ma, mb, ow, ac', dy, sy) → wY_begin_2 post fr (nI T) fl ph co uq cu sp su cf ka kb ma mb ow ac dy sy f (nI t)) := by
  intro f
  induction f with
  | zero => intro t _ h; exact absurd h (Nat.not_lt_zero _)
  | succ f ih =>
    intro t h1 h2
    by_cases z : T < t
    · have q : nI T < nI t := nI_lt z (by omega)
      exact ⟨-7, ac, fun post hp => by rw [wX_begin_2]; exact br_t q hp, fun post hp => by rw [wY_begin_2]; exact br_t q hp⟩
    · have q : ¬ nI T < nI t := nI_nlt (by omega) (by omega)
      have hv : vp_in (nI t) 9 := vp_in_nI (by omega) (by omega)
      have hc : (nI t).toNatClampNeg = t := nI_clamp (by omega)
      by_cases y : ac (nI t).toNatClampNeg = 0
      · exact ⟨nI t, upd ac (nI t).toNatClampNeg (vp_nar .boolean 1), fun post hp => by rw [wX_begin_2]; exact br_f q ⟨hv, br_t y ⟨hv, nm_e hp⟩⟩, fun post hp => by rw [wY_begin_2]; exact br_f q ⟨hv, br_t y ⟨hv, nm_e hp⟩⟩⟩
      · obtain ⟨r, ac', hX, hY⟩ := ih (t + 1) (by omega) (by omega)
        exact ⟨r, ac', fun post hp => by rw [wX_begin_2]; exact br_f q ⟨hv, br_f y (nm_r (nI_1 t) (hX post hp))⟩, fun post hp => by rw [wY_begin_2]; exact br_f q ⟨hv, br_f y (nm_r (nI_1 t) (hY post hp))⟩⟩
end
theorem i_vc_begin {k : Nat} {u : SX} {v : SY} (I : i_Rel k u v) (hk : k + 5 ≤ 2563) : wpX_begin (fun r u' => wpY_begin (fun r' v' => r' = r ∧ i_Rel (k + 5) u' v') v) u := by
  refine oi_el (P := fun u v => wpX_begin (fun r u' => wpY_begin (fun r' v' => r' = r ∧ i_Rel (k + 5) u' v') v) u) I ?_
  intro R T p c q w n fl co uq cf bl rm pr lk lg ka kb ma mb ow ac od dr sd en sr dy sy H
  obtain ⟨r, ac', hX, hY⟩ := oi_begin_loop (fr := nI R) (fl := fl) (rm := rm) (pr := pr) (lk := lk) (ph := nI p) (co := co) (uq := uq) (cu := nI c) (sp := nI q) (su := nI w) (cf := cf) (lg := lg) (bl := bl) (ec := nI n) (ka := ka) (kb := kb) (ma := ma) (mb := mb) (ow := ow) (ac := ac) (od := od) (dr := dr) (sd := sd) (en := en) (sr := sr) (dy := dy) (sy := sy) (T := T) H.1.2.2.2.1 10 1 (by omega) (by have := H.1.2.2.2.1; omega)
  unfold wpX_begin
  refine ⟨10, hX _ ?_⟩
  unfold wpY_begin
  exact ⟨10, hY _ ⟨rfl, oi_mk _ H⟩⟩
theorem i_vc_isActive {k : Nat} {u : SX} {v : SY} (I : i_Rel k u v) (hk : k + 5 ≤ 2563) (v1 : Int32) : wpX_isActive (fun r => wpY_isActive (fun r' => r' = r ∧ i_Rel (k + 5) u v) v v1) u v1 := by
  refine oi_el (P := fun u v => wpX_isActive (fun r => wpY_isActive (fun r' => r' = r ∧ i_Rel (k + 5) u v) v v1) u v1) I ?_
  intro R T p c q w n fl co uq cf bl rm pr lk lg ka kb ma mb ow ac od dr sd en sr dy sy H
  have hT := H.1.2.2.2.1
  exact oi_xact hT (fun a => oi_yact hT (fun _ => ⟨rfl, oi_mk _ H⟩) (fun z => absurd a z)) (fun a => oi_yact hT (fun z => absurd z a) (fun _ => ⟨rfl, oi_mk _ H⟩))
theorem i_vc_owner {k : Nat} {u : SX} {v : SY} (I : i_Rel k u v) (hk : k + 5 ≤ 2563) (v1 : Int32) : wpX_owner (fun r => wpY_owner (fun r' => r' = r ∧ i_Rel (k + 5) u v) v v1) u v1 := by
  refine oi_el (P := fun u v => wpX_owner (fun r => wpY_owner (fun r' => r' = r ∧ i_Rel (k + 5) u v) v v1) u v1) I ?_
  intro R T p c q w n fl co uq cf bl rm pr lk lg ka kb ma mb ow ac od dr sd en sr dy sy H
  have hR := H.1.2.1
  unfold wpX_owner
  refine oi_xslot hR (fun a => br_f (by decide) ?_) (fun a => br_t rfl ?_)
  · obtain ⟨s, hs, rfl⟩ := a
    have hv : vp_in (nI s) 64 := vp_in_nI (by omega) (by omega)
    refine ⟨hv, ?_⟩
    unfold wpY_owner
    exact oi_yslot hR (fun _ => br_t rfl ⟨hv, rfl, oi_mk _ H⟩) (fun z => absurd ⟨s, hs, rfl⟩ z)
  · unfold wpY_owner
    exact oi_yslot hR (fun z => absurd z a) (fun _ => br_f (by decide) ⟨rfl, oi_mk _ H⟩)
section
variable {fr : Int32} {ft : Int32} {fl : Int32} {rm : Int64} {pr : Int64} {lk : Int64} {ph : Int32} {co : Int32} {uq : Int32} {cu : Int32} {sp : Int32} {su : Int32} {cf : Int32} {lg : Int64} {bl : Int32} {ec : Int32} {ka : Nat → Int32} {kb : Nat → Int32} {ma : Nat → Int32} {mb : Nat → Int32} {ow : Nat → Int32} {ac : Nat → Int32} {od : Nat → Int64} {dr : Nat → Int32} {sd : Nat → Int32} {en : Nat → Int32} {sr : Nat → Int32}
variable {dy : Nat → Int32} {sy : Nat → Int32}
variable {R T p c q w n : Nat}
theorem oi_val12 {k : Nat} {v1 v2 v3 : Int32} (H : oi_IV R T p c q w n co bl rm pr lk lg ka kb ma mb ow od dr sd en dy sy) (hv1 : v1 = 0 ∨ v1 = 1) : wX_value_12 (fun r => wpY_value (fun r' => r' = r ∧ i_Rel (k + 5) (nI R, nI T, fl, rm, pr, lk, nI p, co, uq, nI c, nI q, nI w, cf, lg, bl, nI n, ka, kb, ma, mb, ow, ac, od, dr, sd, en, sr) (nI R, nI T, fl, nI p, co, uq, nI c, nI q, nI w, cf, ka, kb, ma, mb, ow, ac, dy, sy)) (nI R, nI T, fl, nI p, co, uq, nI c, nI q, nI w, cf, ka, kb, ma, mb, ow, ac, dy, sy) v1 v2 v3) v1 v2 v3 (nI R) (nI T) fl rm pr lk (nI p) co uq (nI c) (nI q) (nI w) cf lg bl (nI n) ka kb ma mb ow ac od dr sd en sr := by
  have hR := H.1.2.1
  have y12 : ∀ post : Int32 → Prop, wY_value_12 post v1 v2 v3 (nI R) (nI T) fl (nI p) co uq (nI c) (nI q) (nI w) cf ka kb ma mb ow ac dy sy → wpY_value post (nI R, nI T, fl, nI p, co, uq, nI c, nI q, nI w, cf, ka, kb, ma, mb, ow, ac, dy, sy) v1 v2 v3 := fun post h => by
    unfold wpY_value
    exact br_c (fun _ => h) (fun z => br_t (hv1.resolve_left z) h)
  unfold wX_value_12
  refine oi_xslot hR (fun a => br_f (by decide) ?_) (fun a => br_t rfl (y12 _ ?_))
  · obtain ⟨s, hs, rfl⟩ := a
    have hv : vp_in (nI s) 64 := vp_in_nI (by omega) (by omega)
    refine oi_xcol (fun b => br_f (by decide) ?_) (fun b => br_t rfl (y12 _ ?_)) _
    · have y35 : ∀ post : Int32 → Prop, wY_value_35 post v1 (nI s) v3 (nI R) (nI T) fl (nI p) co uq (nI c) (nI q) (nI w) cf ka kb ma mb ow ac dy sy → wpY_value post (nI R, nI T, fl, nI p, co, uq, nI c, nI q, nI w, cf, ka, kb, ma, mb, ow, ac, dy, sy) v1 (nI s) v3 := fun post h => by
        refine y12 post ?_
        unfold wY_value_12
        exact oi_yslot hR (fun _ => br_t rfl (br_c (fun _ => h) (fun z => br_t (b.resolve_left z) h))) (fun z => absurd ⟨s, hs, rfl⟩ z)
      refine br_c (fun z => br_c (fun y => ⟨hv, y35 _ ?_⟩) (fun y => ⟨hv, y35 _ ?_⟩)) (fun z => br_c (fun y => ⟨hv, y35 _ ?_⟩) (fun y => ⟨hv, y35 _ ?_⟩))
      · unfold wY_value_35
        exact br_t z (br_t y ⟨hv, rfl, oi_mk _ H⟩)
      · unfold wY_value_35
        exact br_t z (br_f y ⟨hv, rfl, oi_mk _ H⟩)
      · unfold wY_value_35
        exact br_f z (br_t y ⟨hv, rfl, oi_mk _ H⟩)
      · unfold wY_value_35
        exact br_f z (br_f y ⟨hv, rfl, oi_mk _ H⟩)
    · unfold wY_value_12
      exact oi_yslot hR (fun _ => br_t rfl (br_f (fun z => b (Or.inl z)) (br_f (fun z => b (Or.inr z)) ⟨rfl, oi_mk _ H⟩))) (fun z => absurd ⟨s, hs, rfl⟩ z)
  · unfold wY_value_12
    exact oi_yslot hR (fun z => absurd z a) (fun _ => br_f (by decide) ⟨rfl, oi_mk _ H⟩)
theorem oi_dk12 {k : Nat} {v1 v2 : Int32} (H : oi_IV R T p c q w n co bl rm pr lk lg ka kb ma mb ow od dr sd en dy sy) (hv1 : v1 = 0 ∨ v1 = 1) : wX_draftKey_12 (fun r => wpY_draftKey (fun r' => r' = r ∧ i_Rel (k + 5) (nI R, nI T, fl, rm, pr, lk, nI p, co, uq, nI c, nI q, nI w, cf, lg, bl, nI n, ka, kb, ma, mb, ow, ac, od, dr, sd, en, sr) (nI R, nI T, fl, nI p, co, uq, nI c, nI q, nI w, cf, ka, kb, ma, mb, ow, ac, dy, sy)) (nI R, nI T, fl, nI p, co, uq, nI c, nI q, nI w, cf, ka, kb, ma, mb, ow, ac, dy, sy) v1 v2) v1 v2 (nI R) (nI T) fl rm pr lk (nI p) co uq (nI c) (nI q) (nI w) cf lg bl (nI n) ka kb ma mb ow ac od dr sd en sr := by
  have hR := H.1.2.1
  have hp := H.2.2.2.2.2.1.1
  have y12 : ∀ post : Int32 → Prop, wY_draftKey_12 post v1 v2 (nI R) (nI T) fl (nI p) co uq (nI c) (nI q) (nI w) cf ka kb ma mb ow ac dy sy → wpY_draftKey post (nI R, nI T, fl, nI p, co, uq, nI c, nI q, nI w, cf, ka, kb, ma, mb, ow, ac, dy, sy) v1 v2 := fun post h => by
    unfold wpY_draftKey
    exact br_c (fun _ => h) (fun z => br_t (hv1.resolve_left z) h)
  unfold wX_draftKey_12
  refine oi_xslot hR (fun a => br_f (by decide) ?_) (fun a => br_t rfl (y12 _ ?_))
  · obtain ⟨s, hs, rfl⟩ := a
    have hv : vp_in (nI s) 64 := vp_in_nI (by omega) (by omega)
    have hc : (nI s).toNatClampNeg = s := nI_clamp (by omega)
    refine br_c (fun z => ⟨hv, y12 _ ?_⟩) (fun z => ⟨hv, y12 _ ?_⟩)
    · unfold wY_draftKey_12
      refine oi_yslot hR (fun _ => br_t rfl (br_t z (oi_ylive (d := dr s) (by omega) hp (fun e => oi_iv4 H e s hs) (fun e => oi_ivd H e s hs) ⟨?_, oi_mk _ H⟩))) (fun z => absurd ⟨s, hs, rfl⟩ z)
      rw [hc]
    · unfold wY_draftKey_12
      refine oi_yslot hR (fun _ => br_t rfl (br_f z ⟨hv, ?_, oi_mk _ H⟩)) (fun z => absurd ⟨s, hs, rfl⟩ z)
      rw [hc]
      exact (H.2.2.2.2.2.2.2.1 s hs).2
  · unfold wY_draftKey_12
    exact oi_yslot hR (fun z => absurd z a) (fun _ => br_f (by decide) ⟨rfl, oi_mk _ H⟩)
end
theorem i_vc_value {k : Nat} {u : SX} {v : SY} (I : i_Rel k u v) (hk : k + 5 ≤ 2563) (v1 : Int32) (v2 : Int32) (v3 : Int32) : wpX_value (fun r => wpY_value (fun r' => r' = r ∧ i_Rel (k + 5) u v) v v1 v2 v3) u v1 v2 v3 := by
  refine oi_el (P := fun u v => wpX_value (fun r => wpY_value (fun r' => r' = r ∧ i_Rel (k + 5) u v) v v1 v2 v3) u v1 v2 v3) I ?_
  intro R T p c q w n fl co uq cf bl rm pr lk lg ka kb ma mb ow ac od dr sd en sr dy sy H
  unfold wpX_value
  refine br_c (fun z => oi_val12 H (Or.inl z)) (fun z => br_c (fun y => oi_val12 H (Or.inr y)) (fun y => ?_))
  unfold wpY_value
  exact br_f z (br_f y ⟨rfl, oi_mk _ H⟩)
theorem i_vc_draftKey {k : Nat} {u : SX} {v : SY} (I : i_Rel k u v) (hk : k + 5 ≤ 2563) (v1 : Int32) (v2 : Int32) : wpX_draftKey (fun r => wpY_draftKey (fun r' => r' = r ∧ i_Rel (k + 5) u v) v v1 v2) u v1 v2 := by
  refine oi_el (P := fun u v => wpX_draftKey (fun r => wpY_draftKey (fun r' => r' = r ∧ i_Rel (k + 5) u v) v v1 v2) u v1 v2) I ?_
  intro R T p c q w n fl co uq cf bl rm pr lk lg ka kb ma mb ow ac od dr sd en sr dy sy H
  unfold wpX_draftKey
  refine br_c (fun z => oi_dk12 H (Or.inl z)) (fun z => br_c (fun y => oi_dk12 H (Or.inr y)) (fun y => ?_))
  unfold wpY_draftKey
  exact br_f z (br_f y ⟨rfl, oi_mk _ H⟩)
theorem i_vc_status {k : Nat} {u : SX} {v : SY} (I : i_Rel k u v) (hk : k + 5 ≤ 2563) (v1 : Int32) : wpX_status (fun r => wpY_status (fun r' => r' = r ∧ i_Rel (k + 5) u v) v v1) u v1 := by
  refine oi_el (P := fun u v => wpX_status (fun r => wpY_status (fun r' => r' = r ∧ i_Rel (k + 5) u v) v v1) u v1) I ?_
  intro R T p c q w n fl co uq cf bl rm pr lk lg ka kb ma mb ow ac od dr sd en sr dy sy H
  have hbl := H.2.2.2.2.2.2.1.2.2.2.1
  by_cases e0 : v1 = 0
  · subst e0
    unfold wpX_status
    refine br_f (by decide) (br_f (by decide) (br_t rfl ?_))
    unfold wpY_status
    exact br_t rfl ⟨rfl, oi_mk _ H⟩
  by_cases e1 : v1 = 1
  · subst e1
    unfold wpX_status
    refine br_f (by decide) (br_f (by decide) (br_f (by decide) (br_t rfl ?_)))
    unfold wpY_status
    exact br_f (by decide) (br_t rfl ⟨rfl, oi_mk _ H⟩)
  by_cases e2 : v1 = 2
  · subst e2
    unfold wpX_status
    refine br_f (by decide) (br_f (by decide) (br_f (by decide) (br_f (by decide) (br_t rfl ?_))))
    unfold wpY_status
    refine br_f (by decide) (br_f (by decide) (br_t rfl (oi_ybl H.1.2.1 H.2.2.2.2.2.1.1 H.2.2.2.2.2.2.1.1.1 (oi_iv4 H) (oi_ivd H) (oi_ivc H) ⟨hbl.symm, oi_mk _ H⟩)))
  by_cases e3 : v1 = 3
  · subst e3
    unfold wpX_status
    refine br_f (by decide) (br_f (by decide) (br_f (by decide) (br_f (by decide) (br_f (by decide) (br_t rfl ?_)))))
    unfold wpY_status
    exact br_f (by decide) (br_f (by decide) (br_f (by decide) (br_t rfl ⟨rfl, oi_mk _ H⟩)))
  by_cases e4 : v1 = 4
  · subst e4
    unfold wpX_status
    refine br_f (by decide) (br_f (by decide) (br_f (by decide) (br_f (by decide) (br_f (by decide) (br_f (by decide) (br_t rfl (br_c (fun z => ?_) (fun z => ?_))))))))
    · unfold wpY_status
      exact br_f (by decide) (br_f (by decide) (br_f (by decide) (br_f (by decide) (br_t rfl (br_t z ⟨rfl, oi_mk _ H⟩)))))
    · unfold wpY_status
      exact br_f (by decide) (br_f (by decide) (br_f (by decide) (br_f (by decide) (br_t rfl (br_f z ⟨rfl, oi_mk _ H⟩)))))
  by_cases e5 : v1 = 5
  · subst e5
    unfold wpX_status
    refine br_f (by decide) (br_f (by decide) (br_f (by decide) (br_f (by decide) (br_f (by decide) (br_f (by decide) (br_f (by decide) (br_t rfl ?_)))))))
    unfold wpY_status
    exact br_f (by decide) (br_f (by decide) (br_f (by decide) (br_f (by decide) (br_f (by decide) (br_t rfl ⟨rfl, oi_mk _ H⟩)))))
  by_cases e6 : v1 = 6
  · subst e6
    unfold wpX_status
    refine br_f (by decide) (br_f (by decide) (br_f (by decide) (br_f (by decide) (br_f (by decide) (br_f (by decide) (br_f (by decide) (br_f (by decide) (br_t rfl ?_))))))))
    unfold wpY_status
    exact br_f (by decide) (br_f (by decide) (br_f (by decide) (br_f (by decide) (br_f (by decide) (br_f (by decide) (br_t rfl ⟨rfl, oi_mk _ H⟩))))))
  by_cases e7 : v1 = 7
  · subst e7
    unfold wpX_status
    refine br_f (by decide) (br_f (by decide) (br_f (by decide) (br_f (by decide) (br_f (by decide) (br_f (by decide) (br_f (by decide) (br_f (by decide) (br_f (by decide) (br_t rfl ?_)))))))))
    unfold wpY_status
    exact br_f (by decide) (br_f (by decide) (br_f (by decide) (br_f (by decide) (br_f (by decide) (br_f (by decide) (br_f (by decide) (br_t rfl ⟨rfl, oi_mk _ H⟩)))))))
  by_cases e8 : v1 = 8
  · subst e8
    unfold wpX_status
    refine br_f (by decide) (br_f (by decide) (br_f (by decide) (br_f (by decide) (br_f (by decide) (br_f (by decide) (br_f (by decide) (br_f (by decide) (br_f (by decide) (br_f (by decide) (br_t rfl ?_))))))))))
    unfold wpY_status
    exact br_f (by decide) (br_f (by decide) (br_f (by decide) (br_f (by decide) (br_f (by decide) (br_f (by decide) (br_f (by decide) (br_f (by decide) (br_t rfl ⟨rfl, oi_mk _ H⟩))))))))
  by_cases e9 : v1 = 9
  · subst e9
    unfold wpX_status
    refine br_f (by decide) (br_f (by decide) (br_f (by decide) (br_f (by decide) (br_f (by decide) (br_f (by decide) (br_f (by decide) (br_f (by decide) (br_f (by decide) (br_f (by decide) (br_f (by decide) (br_t rfl ?_)))))))))))
    unfold wpY_status
    exact br_f (by decide) (br_f (by decide) (br_f (by decide) (br_f (by decide) (br_f (by decide) (br_f (by decide) (br_f (by decide) (br_f (by decide) (br_f (by decide) (br_t rfl ⟨rfl, oi_mk _ H⟩)))))))))
  by_cases e10 : v1 = 10
  · subst e10
    unfold wpX_status
    refine br_f (by decide) (br_f (by decide) (br_f (by decide) (br_f (by decide) (br_f (by decide) (br_f (by decide) (br_f (by decide) (br_f (by decide) (br_f (by decide) (br_f (by decide) (br_f (by decide) (br_f (by decide) (br_t rfl ?_))))))))))))
    unfold wpY_status
    exact br_f (by decide) (br_f (by decide) (br_f (by decide) (br_f (by decide) (br_f (by decide) (br_f (by decide) (br_f (by decide) (br_f (by decide) (br_f (by decide) (br_f (by decide) (br_t rfl ⟨rfl, oi_mk _ H⟩))))))))))
  have y : wpY_status (fun r' => r' = -3 ∧ i_Rel (k + 5) (nI R, nI T, fl, rm, pr, lk, nI p, co, uq, nI c, nI q, nI w, cf, lg, bl, nI n, ka, kb, ma, mb, ow, ac, od, dr, sd, en, sr) (nI R, nI T, fl, nI p, co, uq, nI c, nI q, nI w, cf, ka, kb, ma, mb, ow, ac, dy, sy)) (nI R, nI T, fl, nI p, co, uq, nI c, nI q, nI w, cf, ka, kb, ma, mb, ow, ac, dy, sy) v1 := by
    unfold wpY_status
    exact br_f e0 (br_f e1 (br_f e2 (br_f e3 (br_f e4 (br_f e5 (br_f e6 (br_f e7 (br_f e8 (br_f e9 (br_f e10 (⟨rfl, oi_mk _ H⟩)))))))))))
  unfold wpX_status
  exact br_c (fun _ => y) (fun _ => br_c (fun _ => y) (fun _ => br_f e0 (br_f e1 (br_f e2 (br_f e3 (br_f e4 (br_f e5 (br_f e6 (br_f e7 (br_f e8 (br_f e9 (br_f e10 (True.intro)))))))))))))
end
section
/-! rows -/
def oi_fr (R : Nat) (ka ow : Nat → Int32) (t : Int32) (s : Nat) : Bool := decide (s < R) && (decide (ka s = -1) && (decide (ow s = 0) || decide (ow s = t)))
section
variable {fr : Int32} {ft : Int32} {fl : Int32} {rm : Int64} {pr : Int64} {lk : Int64} {ph : Int32} {co : Int32} {uq : Int32} {cu : Int32} {sp : Int32} {su : Int32} {cf : Int32} {lg : Int64} {bl : Int32} {ec : Int32} {ka : Nat → Int32} {kb : Nat → Int32} {ma : Nat → Int32} {mb : Nat → Int32} {ow : Nat → Int32} {ac : Nat → Int32} {od : Nat → Int64} {dr : Nat → Int32} {sd : Nat → Int32} {en : Nat → Int32} {sr : Nat → Int32}
variable {dy : Nat → Int32} {sy : Nat → Int32}
variable {R T p c q w n : Nat}
theorem oi_yins {post : Int32 → SY → Prop} {t a b : Int32} (hR : R ≤ 64) (H0 : (∀ s, oi_fr R ka ow t s = false) → post (-7) (nI R, ft, fl, ph, co, uq, cu, sp, su, cf, ka, kb, ma, mb, ow, ac, dy, sy)) (H1 : ∀ s, s < R → oi_fr R ka ow t s = true → (∀ j, j < s → oi_fr R ka ow t j = false) → post (nI s) (nI R, ft, fl, ph, co, uq, cu, sp, su, cf, upd ka s a, upd kb s b, ma, mb, upd ow s t, ac, dy, sy)) : ∀ (f i : Nat), i ≤ R → R - i < f → (∀ j, j < i → oi_fr R ka ow t j = false) → wY_insert_33 post t a b (nI R) ft fl ph co uq cu sp su cf ka kb ma mb ow ac dy sy f (nI i) := by
  intro f
  induction f with
  | zero => intro i _ h; exact absurd h (Nat.not_lt_zero _)
  | succ f ih =>
    intro i h1 h2 h3
    rw [wY_insert_33]
    refine pk_le R i (fun z => H0 (fun s => ?_)) (fun z => ?_)
    · rcases Nat.lt_or_ge s R with y | y
      · exact h3 s (by omega)
      · unfold oi_fr; simp [show ¬ s < R by omega]
    · have hv : vp_in (nI i) 64 := vp_in_nI (by omega) (by omega)
      have hc : (nI i).toNatClampNeg = i := nI_clamp (by omega)
      have next : oi_fr R ka ow t i = false → wY_insert_33 post t a b (nI R) ft fl ph co uq cu sp su cf ka kb ma mb ow ac dy sy f (nI (i + 1)) := fun e => ih (i + 1) (by omega) (by omega) (fun j hj => by
        rcases Nat.eq_or_lt_of_le (Nat.lt_succ_iff.mp hj) with y | y
        · rw [y]; exact e
        · exact h3 j y)
      have hit : oi_fr R ka ow t i = true → wY_insert_74 post t a b (nI i) (nI R) ft fl ph co uq cu sp su cf ka kb ma mb ow ac dy sy := fun e => by
        unfold wY_insert_74
        rw [hc]
        exact ⟨hv, nm_e ⟨hv, nm_e ⟨hv, nm_e (H1 i z e h3)⟩⟩⟩
      refine ⟨hv, ?_⟩
      rw [hc]
      refine br_c (fun y => ⟨hv, br_c (fun x => hit ?_) (fun x => ⟨hv, br_c (fun v => hit ?_) (fun v => nm_r (nI_1 i) (next ?_))⟩)⟩) (fun y => nm_r (nI_1 i) (next ?_))
      · unfold oi_fr; simp [z, y, x]
      · unfold oi_fr; simp [z, y, v]
      · unfold oi_fr; simp [x, v]
      · unfold oi_fr; simp [y]
theorem oi_xwr {post : Int32 → Prop} {s : Nat} {t : Int32} (hs : s < 64) (hpr : oi_b pr s = !decide (ka s = -1)) (h5 : ¬ ow s = 0 → ¬ ow s = t → post (-5)) (h6 : (ow s = 0 ∨ ow s = t) → ka s = -1 → post (-6)) (h0 : (ow s = 0 ∨ ow s = t) → ¬ ka s = -1 → post 0) : wpX_writeRefusal post (fr, ft, fl, rm, pr, lk, ph, co, uq, cu, sp, su, cf, lg, bl, ec, ka, kb, ma, mb, ow, ac, od, dr, sd, en, sr) t (nI s) := by
  have hv : vp_in (nI s) 64 := vp_in_nI hs (by omega)
  have hc : (nI s).toNatClampNeg = s := nI_clamp (by omega)
  have fin : (ow s = 0 ∨ ow s = t) → wX_writeRefusal_22 post (nI s) fr ft fl rm pr lk ph co uq cu sp su cf lg bl ec ka kb ma mb ow ac od dr sd en sr := fun e => by
    unfold wX_writeRefusal_22
    refine br_c (fun z => h6 e ?_) (fun z => h0 e ?_)
    · have := (oi_b_tst hs).mp z
      rw [hpr] at this
      simpa using this
    · intro q
      apply z
      apply (oi_b_tst hs).mpr
      rw [hpr]; simp [q]
  unfold wpX_writeRefusal
  refine ⟨hv, ?_⟩
  rw [hc]
  exact br_c (fun z => fin (Or.inl z)) (fun z => ⟨hv, br_c (fun y => fin (Or.inr y)) (fun y => h5 z y)⟩)
/-- claim, then setCurrent -/
theorem oi_write {post : SX → Prop} {s t : Nat} (H : oi_IV R T p c q w n co bl rm pr lk lg ka kb ma mb ow od dr sd en dy sy) (hs : s < R) (ht1 : 1 ≤ t) (ht : t ≤ T) (ho : ow s = 0 ∨ ow s = nI t) {Q : SX → Prop} (hQ : ∀ u, Q u → post u)
    (K : ∀ (lk' m : Int64), (∀ j, oi_b lk' j = (oi_b lk j || decide (j = s))) → (∀ j, oi_b m j = (oi_b (od t) j || decide (j = s))) → Q (nI R, nI T, fl, rm, pr, lk', nI p, co, uq, nI c, nI q, nI w, cf, lg, bl, nI n, ka, kb, ma, mb, upd ow s (nI t), ac, vp_updL od t m, dr, sd, en, sr)) : wpX_claim post (nI R, nI T, fl, rm, pr, lk, nI p, co, uq, nI c, nI q, nI w, cf, lg, bl, nI n, ka, kb, ma, mb, ow, ac, od, dr, sd, en, sr) (nI s) (nI t) := by
  have hT := H.1.2.2.2.1
  have hR := H.1.2.1
  exact oi_claim (by omega) (by omega) (fun lk' m h1 h2 => hQ _ (K lk' m h1 h2))
theorem oi_set {post : SX → Prop} {s t : Nat} {a b : Int32} {lk' m : Int64} (H : oi_IV R T p c q w n co bl rm pr lk lg ka kb ma mb ow od dr sd en dy sy) (hs : s < R) (ht1 : 1 ≤ t) (ht : t ≤ T) (ho : ow s = 0 ∨ ow s = nI t) (ha : oi_V a) (hb : oi_V b) (h2 : ∀ j, oi_b lk' j = (oi_b lk j || decide (j = s))) (h3 : ∀ j, oi_b m j = (oi_b (od t) j || decide (j = s)))
    (K : ∀ (pr' lg' : Int64) (bl' : Int32) (n' : Nat) (dr' en' : Nat → Int32), oi_IV R T p c q w n' co bl' rm pr' lk' lg' (upd ka s a) (upd kb s b) ma mb (upd ow s (nI t)) (vp_updL od t m) dr' sd en' dy sy → post (nI R, nI T, fl, rm, pr', lk', nI p, co, uq, nI c, nI q, nI w, cf, lg', bl', nI n', upd ka s a, upd kb s b, ma, mb, upd ow s (nI t), ac, vp_updL od t m, dr', sd, en', sr)) : wpX_setCurrent post (nI R, nI T, fl, rm, pr, lk', nI p, co, uq, nI c, nI q, nI w, cf, lg, bl, nI n, ka, kb, ma, mb, upd ow s (nI t), ac, vp_updL od t m, dr, sd, en, sr) (nI s) a b := by
  have hR := H.1.2.1
  have hp := H.2.2.2.2.2.1.1
  exact oi_setCur hR hs hp H.2.2.2.2.2.2.1 ha hb (fun pr' lg' bl' n' dr' en' k1 k2 k3 => K pr' lg' bl' n' dr' en' (oi_iv_cur H hs ht1 ht ho ha hb k1 h2 h3 k2 k3))
end
theorem i_vc_insert {k : Nat} {u : SX} {v : SY} (I : i_Rel k u v) (hk : k + 5 ≤ 2563) (v1 : Int32) (v2 : Int32) (v3 : Int32) : wpX_insert (fun r u' => wpY_insert (fun r' v' => r' = r ∧ i_Rel (k + 5) u' v') v v1 v2 v3) u v1 v2 v3 := by
  refine oi_el (P := fun u v => wpX_insert (fun r u' => wpY_insert (fun r' v' => r' = r ∧ i_Rel (k + 5) u' v') v v1 v2 v3) u v1 v2 v3) I ?_
  intro R T p c q w n fl co uq cf bl rm pr lk lg ka kb ma mb ow ac od dr sd en sr dy sy H
  have hT := H.1.2.2.2.1
  have hR := H.1.2.1
  unfold wpX_insert
  refine oi_xact hT (fun a => br_f (by decide) ?_) (fun a => br_t rfl ?_)
  rotate_left
  · unfold wpY_insert
    exact oi_yact hT (fun z => absurd z a) (fun _ => br_t rfl ⟨rfl, oi_mk _ H⟩)
  have a' := a
  obtain ⟨t, t1, t2, rfl, t4⟩ := a'
  refine oi_xval (fun b => br_f (by decide) ?_) (fun b => br_t rfl ?_) _
  rotate_left
  · unfold wpY_insert
    exact oi_yact hT (fun _ => br_f (by decide) (oi_yval (fun z => absurd z b) (fun _ => br_f (by decide) ⟨rfl, oi_mk _ H⟩) _)) (fun z => absurd a z)
  refine oi_xval (fun d => br_f (by decide) ?_) (fun d => br_t rfl ?_) _
  rotate_left
  · unfold wpY_insert
    exact oi_yact hT (fun _ => br_f (by decide) (oi_yval (fun _ => br_t rfl (oi_yval (fun z => absurd z d) (fun _ => br_f (by decide) ⟨rfl, oi_mk _ H⟩) _)) (fun z => absurd b z) _)) (fun z => absurd a z)
  have yy : ∀ post : Int32 → SY → Prop, ((∀ s, oi_fr R ka ow (nI t) s = false) → post (-7) (nI R, nI T, fl, nI p, co, uq, nI c, nI q, nI w, cf, ka, kb, ma, mb, ow, ac, dy, sy)) → (∀ s, s < R → oi_fr R ka ow (nI t) s = true → (∀ j, j < s → oi_fr R ka ow (nI t) j = false) → post (nI s) (nI R, nI T, fl, nI p, co, uq, nI c, nI q, nI w, cf, upd ka s v2, upd kb s v3, ma, mb, upd ow s (nI t), ac, dy, sy)) → wpY_insert post (nI R, nI T, fl, nI p, co, uq, nI c, nI q, nI w, cf, ka, kb, ma, mb, ow, ac, dy, sy) (nI t) v2 v3 := fun post h0 h1 => by
    unfold wpY_insert
    exact oi_yact hT (fun _ => br_f (by decide) (oi_yval (fun _ => br_t rfl (oi_yval (fun _ => br_t rfl ⟨65, oi_yins hR h0 h1 65 0 (by omega) (by omega) (fun j hj => absurd hj (Nat.not_lt_zero j))⟩) (fun z => absurd d z) _)) (fun z => absurd b z) _)) (fun z => absurd a z)
  have hc : (nI t).toNatClampNeg = t := nI_clamp (by omega)
  have hb : ∀ s, oi_b ((rm &&& (pr ^^^ (-1))) &&& ((lk ^^^ (-1)) ||| (od t))) s = oi_fr R ka ow (nI t) s := fun s => by
    rw [oi_b_and, oi_b_and, oi_b_or, oi_b_not, oi_b_not, H.1.2.2.2.2 s, H.2.2.1.2.1 s, H.2.2.1.2.2 t t1 t2 s]
    unfold oi_fr
    by_cases z : s < R
    · rw [H.2.2.2.1 s z]; simp [z, show s < 64 by omega]
    · simp [z]
  refine ⟨vp_in_nI (by omega) (by omega), nm_r (e' := (rm &&& (pr ^^^ (-1))) &&& ((lk ^^^ (-1)) ||| (od t))) (by rw [hc]) (br_c (fun z => ?_) (fun z => ?_))⟩
  · refine yy _ (fun _ => ⟨rfl, oi_mk _ H⟩) (fun s hs e _ => ?_)
    have := hb s
    rw [z, oi_b_0, e] at this
    exact absurd this (by decide)
  · obtain ⟨s, hl⟩ := oi_low_ex z
    have hl' := hl
    obtain ⟨l1, l2, l3⟩ := hl'
    rw [hb s] at l2
    have l3' : ∀ j, j < s → oi_fr R ka ow (nI t) j = false := fun j hj => by rw [← hb j]; exact l3 j hj
    have l4 : s < R ∧ ka s = -1 ∧ (ow s = 0 ∨ ow s = nI t) := by unfold oi_fr at l2; simpa using l2
    obtain ⟨s1, s2, s3⟩ := l4
    refine oi_lowest _ hl (oi_claim (by omega) (by omega) (fun lk' m h1 h2 => oi_set H s1 t1 t2 s3 (oi_ok_V b) (oi_ok_V d) h1 h2 (fun pr' lg' bl' n' dr' en' H' => ?_)))
    refine yy _ (fun e => ?_) (fun s' e1 e2 e3 => ?_)
    · rw [e s] at l2; exact absurd l2 (by decide)
    · have e4 : s' = s := by
        rcases Nat.lt_trichotomy s' s with y | y | y
        · rw [l3' s' y] at e2; exact absurd e2 (by decide)
        · exact y
        · rw [e3 s y] at l2; exact absurd l2 (by decide)
      subst e4
      exact ⟨rfl, oi_mk _ H'⟩
theorem i_vc_update {k : Nat} {u : SX} {v : SY} (I : i_Rel k u v) (hk : k + 5 ≤ 2563) (v1 : Int32) (v2 : Int32) (v3 : Int32) (v4 : Int32) : wpX_update (fun r u' => wpY_update (fun r' v' => r' = r ∧ i_Rel (k + 5) u' v') v v1 v2 v3 v4) u v1 v2 v3 v4 := by
  refine oi_el (P := fun u v => wpX_update (fun r u' => wpY_update (fun r' v' => r' = r ∧ i_Rel (k + 5) u' v') v v1 v2 v3 v4) u v1 v2 v3 v4) I ?_
  intro R T p c q w n fl co uq cf bl rm pr lk lg ka kb ma mb ow ac od dr sd en sr dy sy H
  have hT := H.1.2.2.2.1
  have hR := H.1.2.1
  unfold wpX_update
  refine oi_xact hT (fun a => br_f (by decide) ?_) (fun a => br_t rfl ?_)
  rotate_left
  · unfold wpY_update
    exact oi_yact hT (fun z => absurd z a) (fun _ => br_t rfl ⟨rfl, oi_mk _ H⟩)
  have a' := a
  obtain ⟨t, t1, t2, rfl, t4⟩ := a'
  refine oi_xslot hR (fun b => br_f (by decide) ?_) (fun b => br_t rfl ?_)
  rotate_left
  · unfold wpY_update
    exact oi_yact hT (fun _ => br_f (by decide) (oi_yslot hR (fun z => absurd z b) (fun _ => br_f (by decide) ⟨rfl, oi_mk _ H⟩))) (fun z => absurd a z)
  have b' := b
  obtain ⟨s, hs, rfl⟩ := b'
  refine oi_xcol (fun d => br_f (by decide) ?_) (fun d => br_t rfl ?_) _
  rotate_left
  · unfold wpY_update
    exact oi_yact hT (fun _ => br_f (by decide) (oi_yslot hR (fun _ => br_t rfl (br_f (fun z => d (Or.inl z)) (br_f (fun z => d (Or.inr z)) ⟨rfl, oi_mk _ H⟩))) (fun z => absurd b z))) (fun z => absurd a z)
  have y34 : ∀ post : Int32 → SY → Prop, wY_update_34 post (nI t) (nI s) v3 v4 (nI R) (nI T) fl (nI p) co uq (nI c) (nI q) (nI w) cf ka kb ma mb ow ac dy sy → wpY_update post (nI R, nI T, fl, nI p, co, uq, nI c, nI q, nI w, cf, ka, kb, ma, mb, ow, ac, dy, sy) (nI t) (nI s) v3 v4 := fun post h => by
    unfold wpY_update
    exact oi_yact hT (fun _ => br_f (by decide) (oi_yslot hR (fun _ => br_t rfl (br_c (fun _ => h) (fun z => br_t (d.resolve_left z) h))) (fun z => absurd b z))) (fun z => absurd a z)
  refine oi_xval (fun e => br_f (by decide) ?_) (fun e => br_t rfl (y34 _ ?_)) _
  rotate_left
  · unfold wY_update_34
    exact oi_yval (fun z => absurd z e) (fun _ => br_f (by decide) ⟨rfl, oi_mk _ H⟩) _
  have hv : vp_in (nI s) 64 := vp_in_nI (by omega) (by omega)
  have hc : (nI s).toNatClampNeg = s := nI_clamp (by omega)
  refine oi_xwr (by omega) (H.2.2.2.1 s hs) (fun g1 g2 => br_f (by decide) (y34 _ ?_)) (fun g1 g2 => br_f (by decide) (y34 _ ?_)) (fun g1 g2 => br_t rfl ?_)
  · unfold wY_update_34
    refine oi_yval (fun _ => br_t rfl ⟨hv, ?_⟩) (fun z => absurd e z) _
    rw [hc]
    exact br_f g1 ⟨hv, br_f g2 ⟨rfl, oi_mk _ H⟩⟩
  · have y68 : wY_update_68 (fun r' v' => r' = -6 ∧ i_Rel (k + 5) (nI R, nI T, fl, rm, pr, lk, nI p, co, uq, nI c, nI q, nI w, cf, lg, bl, nI n, ka, kb, ma, mb, ow, ac, od, dr, sd, en, sr) v') (nI t) (nI s) v3 v4 (nI R) (nI T) fl (nI p) co uq (nI c) (nI q) (nI w) cf ka kb ma mb ow ac dy sy := by
      unfold wY_update_68
      refine ⟨hv, ?_⟩
      rw [hc]
      exact br_t g2 ⟨rfl, oi_mk _ H⟩
    unfold wY_update_34
    refine oi_yval (fun _ => br_t rfl ⟨hv, ?_⟩) (fun z => absurd e z) _
    rw [hc]
    exact br_c (fun _ => y68) (fun z => ⟨hv, br_t (g1.resolve_left z) y68⟩)
  · have y68 : ∀ post : Int32 → SY → Prop, wY_update_68 post (nI t) (nI s) v3 v4 (nI R) (nI T) fl (nI p) co uq (nI c) (nI q) (nI w) cf ka kb ma mb ow ac dy sy → wpY_update post (nI R, nI T, fl, nI p, co, uq, nI c, nI q, nI w, cf, ka, kb, ma, mb, ow, ac, dy, sy) (nI t) (nI s) v3 v4 := fun post h => by
      refine y34 post ?_
      unfold wY_update_34
      refine oi_yval (fun _ => br_t rfl ⟨hv, ?_⟩) (fun z => absurd e z) _
      rw [hc]
      exact br_c (fun _ => h) (fun z => ⟨hv, br_t (g1.resolve_left z) h⟩)
    have hV := H.2.1 s hs
    refine oi_claim (by omega) (by omega) (fun lk' m h1 h2 => br_c (fun z => ⟨hv, ?_⟩) (fun z => ⟨hv, ?_⟩))
    · rw [hc]
      refine oi_set H hs t1 t2 g1 (oi_ok_V e) hV.2.1 h1 h2 (fun pr' lg' bl' n' dr' en' H' => y68 _ ?_)
      have e1 : upd kb s (kb s) = kb := by
        funext j
        by_cases x : j = s
        · subst x; rw [pk_us]
        · rw [pk_un x]
      rw [e1] at H' ⊢
      unfold wY_update_68
      refine ⟨hv, ?_⟩
      rw [hc]
      exact br_f g2 (br_t z ⟨hv, nm_e ⟨hv, nm_e ⟨rfl, oi_mk _ H'⟩⟩⟩)
    · rw [hc]
      refine oi_set H hs t1 t2 g1 hV.1 (oi_ok_V e) h1 h2 (fun pr' lg' bl' n' dr' en' H' => y68 _ ?_)
      have e1 : upd ka s (ka s) = ka := by
        funext j
        by_cases x : j = s
        · subst x; rw [pk_us]
        · rw [pk_un x]
      rw [e1] at H' ⊢
      unfold wY_update_68
      refine ⟨hv, ?_⟩
      rw [hc]
      exact br_f g2 (br_f z ⟨hv, nm_e ⟨hv, nm_e ⟨rfl, oi_mk _ H'⟩⟩⟩)
theorem i_vc_delete {k : Nat} {u : SX} {v : SY} (I : i_Rel k u v) (hk : k + 5 ≤ 2563) (v1 : Int32) (v2 : Int32) : wpX_delete (fun r u' => wpY_delete (fun r' v' => r' = r ∧ i_Rel (k + 5) u' v') v v1 v2) u v1 v2 := by
  refine oi_el (P := fun u v => wpX_delete (fun r u' => wpY_delete (fun r' v' => r' = r ∧ i_Rel (k + 5) u' v') v v1 v2) u v1 v2) I ?_
  intro R T p c q w n fl co uq cf bl rm pr lk lg ka kb ma mb ow ac od dr sd en sr dy sy H
  have hT := H.1.2.2.2.1
  have hR := H.1.2.1
  unfold wpX_delete
  refine oi_xact hT (fun a => br_f (by decide) ?_) (fun a => br_t rfl ?_)
  rotate_left
  · unfold wpY_delete
    exact oi_yact hT (fun z => absurd z a) (fun _ => br_t rfl ⟨rfl, oi_mk _ H⟩)
  have a' := a
  obtain ⟨t, t1, t2, rfl, t4⟩ := a'
  refine oi_xslot hR (fun b => br_f (by decide) ?_) (fun b => br_t rfl ?_)
  rotate_left
  · unfold wpY_delete
    exact oi_yact hT (fun _ => br_f (by decide) (oi_yslot hR (fun z => absurd z b) (fun _ => br_f (by decide) ⟨rfl, oi_mk _ H⟩))) (fun z => absurd a z)
  have b' := b
  obtain ⟨s, hs, rfl⟩ := b'
  have hv : vp_in (nI s) 64 := vp_in_nI (by omega) (by omega)
  have hc : (nI s).toNatClampNeg = s := nI_clamp (by omega)
  have y44 : (ow s = 0 ∨ ow s = nI t) → ∀ post : Int32 → SY → Prop, wY_delete_44 post (nI t) (nI s) (nI R) (nI T) fl (nI p) co uq (nI c) (nI q) (nI w) cf ka kb ma mb ow ac dy sy → wpY_delete post (nI R, nI T, fl, nI p, co, uq, nI c, nI q, nI w, cf, ka, kb, ma, mb, ow, ac, dy, sy) (nI t) (nI s) := fun g1 post h => by
    unfold wpY_delete
    refine oi_yact hT (fun _ => br_f (by decide) (oi_yslot hR (fun _ => br_t rfl ⟨hv, ?_⟩) (fun z => absurd b z))) (fun z => absurd a z)
    rw [hc]
    exact br_c (fun _ => h) (fun z => ⟨hv, br_t (g1.resolve_left z) h⟩)
  refine oi_xwr (by omega) (H.2.2.2.1 s hs) (fun g1 g2 => br_f (by decide) ?_) (fun g1 g2 => br_f (by decide) (y44 g1 _ ?_)) (fun g1 g2 => br_t rfl ?_)
  · unfold wpY_delete
    refine oi_yact hT (fun _ => br_f (by decide) (oi_yslot hR (fun _ => br_t rfl ⟨hv, ?_⟩) (fun z => absurd b z))) (fun z => absurd a z)
    rw [hc]
    exact br_f g1 ⟨hv, br_f g2 ⟨rfl, oi_mk _ H⟩⟩
  · unfold wY_delete_44
    refine ⟨hv, ?_⟩
    rw [hc]
    exact br_t g2 ⟨rfl, oi_mk _ H⟩
  · refine oi_claim (by omega) (by omega) (fun lk' m h1 h2 => oi_set H hs t1 t2 g1 oi_V_m1 oi_V_m1 h1 h2 (fun pr' lg' bl' n' dr' en' H' => y44 g1 _ ?_))
    unfold wY_delete_44
    refine ⟨hv, ?_⟩
    rw [hc]
    exact br_f g2 ⟨hv, nm_e ⟨hv, nm_e ⟨hv, nm_e ⟨rfl, oi_mk _ H'⟩⟩⟩⟩
end
section
/-! the end of a transaction -/
theorem oi_ow_end {R T t : Nat} {lk lk' : Int64} {ow : Nat → Int32} {od : Nat → Int64} (h : oi_OW R T lk ow od) (hT : T ≤ 8) (ht1 : 1 ≤ t) (ht : t ≤ T) (hl : ∀ j, oi_b lk' j = (oi_b lk j && !oi_b (od t) j)) : oi_OW R T lk' (fun s => if (decide (s < R) && decide (ow s = nI t)) = true then 0 else ow s) (vp_updL od t 0) := by
  obtain ⟨h1, h2, h3⟩ := h
  have hz : ∀ t', 1 ≤ t' → t' ≤ T → ¬ (0 : Int32) = nI t' := fun t' a b e => by
    have := oi_nn (a := 0) (b := t') (by omega) (by omega) e
    omega
  refine ⟨fun s hs => ?_, fun s => ?_, fun t' a b s => ?_⟩
  · by_cases z : (decide (s < R) && decide (ow s = nI t)) = true
    · exact ⟨0, by omega, if_pos z⟩
    · obtain ⟨t', a, b⟩ := h1 s hs
      exact ⟨t', a, (if_neg z).trans b⟩
  · rw [hl s, h2 s, h3 t ht1 ht s]
    by_cases x : s < R
    · by_cases z : ow s = nI t
      · simp [x, z]
      · simp [x, z]
    · simp [x]
  · by_cases e : t' = t
    · subst e
      rw [pk_uLs, oi_b_0]
      by_cases x : s < R
      · by_cases z : ow s = nI t'
        · simp [x, z, hz t' a b]
        · simp [x, z]
      · simp [x]
    · rw [pk_uLn e, h3 t' a b s]
      by_cases x : s < R
      · by_cases z : ow s = nI t
        · have k1 : ¬ nI t = nI t' := fun q => e (oi_nn (by omega) (by omega) q).symm
          simp [x, z, k1, hz t' a b]
        · simp [x, z]
      · simp [x]
section
variable {fr : Int32} {ft : Int32} {fl : Int32} {rm : Int64} {pr : Int64} {lk : Int64} {ph : Int32} {co : Int32} {uq : Int32} {cu : Int32} {sp : Int32} {su : Int32} {cf : Int32} {lg : Int64} {bl : Int32} {ec : Int32} {ka : Nat → Int32} {kb : Nat → Int32} {ma : Nat → Int32} {mb : Nat → Int32} {ow : Nat → Int32} {ac : Nat → Int32} {od : Nat → Int64} {dr : Nat → Int32} {sd : Nat → Int32} {en : Nat → Int32} {sr : Nat → Int32}
variable {dy : Nat → Int32} {sy : Nat → Int32}
variable {R T p c q w n : Nat}
theorem oi_undo_iv {post : SX → Prop} {t : Nat} (H : oi_IV R T p c q w n co bl rm pr lk lg ka kb ma mb ow od dr sd en dy sy) (ht1 : 1 ≤ t) (ht : t ≤ T)
    (K : ∀ (pr' lk' lg' : Int64) (bl' : Int32) (n' : Nat) (dr' en' : Nat → Int32), oi_IV R T p c q w n' co bl' rm pr' lk' lg' (fun s => if (decide (s < R) && decide (ow s = nI t)) = true then ma s else ka s) (fun s => if (decide (s < R) && decide (ow s = nI t)) = true then mb s else kb s) ma mb (fun s => if (decide (s < R) && decide (ow s = nI t)) = true then 0 else ow s) (vp_updL od t 0) dr' sd en' dy sy → (p ≠ 4 → dr' = dr) → post (nI R, nI T, fl, rm, pr', lk', nI p, co, uq, nI c, nI q, nI w, cf, lg', bl', nI n', fun s => if (decide (s < R) && decide (ow s = nI t)) = true then ma s else ka s, fun s => if (decide (s < R) && decide (ow s = nI t)) = true then mb s else kb s, ma, mb, fun s => if (decide (s < R) && decide (ow s = nI t)) = true then 0 else ow s, upd ac t 0, vp_updL od t 0, dr', sd, en', sr)) : wpX_undo post (nI R, nI T, fl, rm, pr, lk, nI p, co, uq, nI c, nI q, nI w, cf, lg, bl, nI n, ka, kb, ma, mb, ow, ac, od, dr, sd, en, sr) (nI t) := by
  obtain ⟨g1, g2, g3, g4, g5, g6, g7, g8, g9⟩ := H
  have hR := g1.2.1
  have hT := g1.2.2.2.1
  have hod := g3.2.2 t ht1 ht
  have eA : ∀ x y : Nat → Int32, (fun s => if oi_b (od t) s = true then x s else y s) = fun s => if (decide (s < R) && decide (ow s = nI t)) = true then x s else y s := fun x y => funext fun s => by rw [hod s]
  refine oi_undo hR g6.1 (by omega) (fun j hj => ?_) (fun s hs => ⟨(g2 s hs).2.2.1, (g2 s hs).2.2.2⟩) g7 (fun pr' lk' lg' bl' n' dr' en' k1 k2 k3 k4 => ?_)
  · rw [hod j] at hj
    simp at hj
    exact hj.1
  · rw [eA ma ka, eA mb kb] at k3 ⊢
    rw [eA (fun _ => 0) ow]
    refine K pr' lk' lg' bl' n' dr' en' ⟨g1, fun s hs => ?_, oi_ow_end g3 hT ht1 ht k2, fun s hs => ?_, fun s hs hs0 => ?_, g6, k3, g8, fun e s hs => ?_⟩ k4
    · obtain ⟨v1, v2, v3, v4⟩ := g2 s hs
      by_cases z : (decide (s < R) && decide (ow s = nI t)) = true
      · simp only [if_pos z]; exact ⟨v3, v4, v3, v4⟩
      · simp only [if_neg z]; exact ⟨v1, v2, v3, v4⟩
    · rw [k1 s, hod s]
      by_cases z : (decide (s < R) && decide (ow s = nI t)) = true
      · rw [if_pos z]; simp only [if_pos z]
      · rw [if_neg z]; simp only [if_neg z]; exact g4 s hs
    · by_cases z : (decide (s < R) && decide (ow s = nI t)) = true
      · simp only [if_pos z]; exact ⟨by trivial, by trivial⟩
      · simp only [if_neg z] at hs0 ⊢; exact g5 s hs hs0
    · rw [k4 e]; exact g9 e s hs
/-- commit, behind its check -/
theorem oi_cmt {post : Int32 → SX → Prop} {t : Nat} (H : oi_IV R T p c q w n co bl rm pr lk lg ka kb ma mb ow od dr sd en dy sy) (ht1 : 1 ≤ t) (ht : t ≤ T)
    (K : ∀ lk' : Int64, oi_IV R T p c q w n co bl rm pr lk' lg ka kb (fun s => if (decide (s < R) && decide (ow s = nI t)) = true then ka s else ma s) (fun s => if (decide (s < R) && decide (ow s = nI t)) = true then kb s else mb s) (fun s => if (decide (s < R) && decide (ow s = nI t)) = true then 0 else ow s) (vp_updL od t 0) dr sd en dy sy → post 0 (nI R, nI T, fl, rm, pr, lk', nI p, co, uq, nI c, nI q, nI w, cf, lg, bl, nI n, ka, kb, fun s => if (decide (s < R) && decide (ow s = nI t)) = true then ka s else ma s, fun s => if (decide (s < R) && decide (ow s = nI t)) = true then kb s else mb s, fun s => if (decide (s < R) && decide (ow s = nI t)) = true then 0 else ow s, upd ac t 0, vp_updL od t 0, dr, sd, en, sr)) : wX_commit_55 post (nI t) (nI R) (nI T) fl rm pr lk (nI p) co uq (nI c) (nI q) (nI w) cf lg bl (nI n) 65 (od t) (nI 0) ka kb ma mb ow ac od dr sd en sr := by
  obtain ⟨g1, g2, g3, g4, g5, g6, g7, g8, g9⟩ := H
  have hT := g1.2.2.2.1
  have hod := g3.2.2 t ht1 ht
  have eA : ∀ x y : Nat → Int32, (fun s => if oi_b (od t) s = true then x s else y s) = fun s => if (decide (s < R) && decide (ow s = nI t)) = true then x s else y s := fun x y => funext fun s => by rw [hod s]
  refine oi_cm_loop ?_
  unfold wX_commit_115
  refine oi_endT (by omega) (fun lk' k2 => ?_)
  rw [eA ka ma, eA kb mb, eA (fun _ => 0) ow]
  refine K lk' ⟨g1, fun s hs => ?_, oi_ow_end g3 hT ht1 ht k2, g4, fun s hs hs0 => ?_, g6, g7, g8, g9⟩
  · obtain ⟨v1, v2, v3, v4⟩ := g2 s hs
    by_cases z : (decide (s < R) && decide (ow s = nI t)) = true
    · simp only [if_pos z]; exact ⟨v1, v2, v1, v2⟩
    · simp only [if_neg z]; exact ⟨v1, v2, v3, v4⟩
  · by_cases z : (decide (s < R) && decide (ow s = nI t)) = true
    · simp only [if_pos z]; exact ⟨by trivial, by trivial⟩
    · simp only [if_neg z] at hs0 ⊢; exact g5 s hs hs0
theorem oi_ycm {post : Int32 → SY → Prop} {t : Nat} (hR : R ≤ 64) (ht : t < 9) (K : post 0 (nI R, ft, fl, ph, co, uq, cu, sp, su, cf, ka, kb, fun s => if (decide (s < R) && decide (ow s = nI t)) = true then ka s else ma s, fun s => if (decide (s < R) && decide (ow s = nI t)) = true then kb s else mb s, fun s => if (decide (s < R) && decide (ow s = nI t)) = true then 0 else ow s, upd ac t 0, dy, sy)) : ∀ (f i : Nat), i ≤ R → R - i < f → wY_commit_47 post (nI t) (nI R) ft fl ph co uq cu sp su cf f (nI i) ka kb (fun s => if (decide (s < i) && decide (ow s = nI t)) = true then ka s else ma s) (fun s => if (decide (s < i) && decide (ow s = nI t)) = true then kb s else mb s) (fun s => if (decide (s < i) && decide (ow s = nI t)) = true then 0 else ow s) ac dy sy := by
  have hv9 : vp_in (nI t) 9 := vp_in_nI (by omega) (by omega)
  have hc9 : (nI t).toNatClampNeg = t := nI_clamp (by omega)
  intro f
  induction f with
  | zero => intro i _ h; exact absurd h (Nat.not_lt_zero _)
  | succ f ih =>
    intro i h1 h2
    rw [wY_commit_47]
    refine pk_le R i (fun z => ?_) (fun z => ?_)
    · have e : i = R := by omega
      subst e
      exact ⟨hv9, nm_r (e' := upd ac t 0) (by rw [hc9]; rfl) K⟩
    · have hv : vp_in (nI i) 64 := vp_in_nI (by omega) (by omega)
      have hc : (nI i).toNatClampNeg = i := nI_clamp (by omega)
      have e0 : (fun s => if (decide (s < i) && decide (ow s = nI t)) = true then 0 else ow s) (nI i).toNatClampNeg = ow i := by rw [hc]; simp
      have eT : ow i = nI t → ∀ x y : Nat → Int32, upd (fun s => if (decide (s < i) && decide (ow s = nI t)) = true then x s else y s) (nI i).toNatClampNeg (x (nI i).toNatClampNeg) = fun s => if (decide (s < i + 1) && decide (ow s = nI t)) = true then x s else y s := fun e x y => by
        rw [hc]
        funext j
        by_cases u : j = i
        · subst u; rw [pk_us]; simp [e]
        · rw [pk_un u]
          by_cases v : j < i
          · simp [v, show j < i + 1 by omega]
          · simp [v, show ¬ j < i + 1 by omega]
      have eN : ¬ ow i = nI t → ∀ x y : Nat → Int32, (fun s => if (decide (s < i) && decide (ow s = nI t)) = true then x s else y s) = fun s => if (decide (s < i + 1) && decide (ow s = nI t)) = true then x s else y s := fun e x y => by
        funext j
        by_cases u : j = i
        · subst u; simp [e]
        · by_cases v : j < i
          · simp [v, show j < i + 1 by omega]
          · simp [v, show ¬ j < i + 1 by omega]
      have IH := ih (i + 1) (by omega) (by omega)
      refine ⟨hv, ?_⟩
      rw [e0]
      refine br_c (fun y => ?_) (fun y => nm_r (nI_1 i) ?_)
      · exact ⟨hv, hv, nm_r (eT y ka ma) ⟨hv, hv, nm_r (eT y kb mb) ⟨hv, nm_r (eT y (fun _ => 0) ow) (nm_r (nI_1 i) IH)⟩⟩⟩
      · rw [eN y ka ma, eN y kb mb, eN y (fun _ => 0) ow]
        exact IH
theorem oi_yrb {post : Int32 → SY → Prop} {t : Nat} (hR : R ≤ 64) (ht : t < 9) (K : post 0 (nI R, ft, fl, ph, co, uq, cu, sp, su, cf, fun s => if (decide (s < R) && decide (ow s = nI t)) = true then ma s else ka s, fun s => if (decide (s < R) && decide (ow s = nI t)) = true then mb s else kb s, ma, mb, fun s => if (decide (s < R) && decide (ow s = nI t)) = true then 0 else ow s, upd ac t 0, dy, sy)) : ∀ (f i : Nat), i ≤ R → R - i < f → wY_rollback_13 post (nI t) f (nI i) (nI R) ft fl ph co uq cu sp su cf (fun s => if (decide (s < i) && decide (ow s = nI t)) = true then ma s else ka s) (fun s => if (decide (s < i) && decide (ow s = nI t)) = true then mb s else kb s) ma mb (fun s => if (decide (s < i) && decide (ow s = nI t)) = true then 0 else ow s) ac dy sy := by
  have hv9 : vp_in (nI t) 9 := vp_in_nI (by omega) (by omega)
  have hc9 : (nI t).toNatClampNeg = t := nI_clamp (by omega)
  intro f
  induction f with
  | zero => intro i _ h; exact absurd h (Nat.not_lt_zero _)
  | succ f ih =>
    intro i h1 h2
    rw [wY_rollback_13]
    refine pk_le R i (fun z => ?_) (fun z => ?_)
    · have e : i = R := by omega
      subst e
      exact ⟨hv9, nm_r (e' := upd ac t 0) (by rw [hc9]; rfl) K⟩
    · have hv : vp_in (nI i) 64 := vp_in_nI (by omega) (by omega)
      have hc : (nI i).toNatClampNeg = i := nI_clamp (by omega)
      have e0 : (fun s => if (decide (s < i) && decide (ow s = nI t)) = true then 0 else ow s) (nI i).toNatClampNeg = ow i := by rw [hc]; simp
      have eT : ow i = nI t → ∀ x y : Nat → Int32, upd (fun s => if (decide (s < i) && decide (ow s = nI t)) = true then x s else y s) (nI i).toNatClampNeg (x (nI i).toNatClampNeg) = fun s => if (decide (s < i + 1) && decide (ow s = nI t)) = true then x s else y s := fun e x y => by
        rw [hc]
        funext j
        by_cases u : j = i
        · subst u; rw [pk_us]; simp [e]
        · rw [pk_un u]
          by_cases v : j < i
          · simp [v, show j < i + 1 by omega]
          · simp [v, show ¬ j < i + 1 by omega]
      have eN : ¬ ow i = nI t → ∀ x y : Nat → Int32, (fun s => if (decide (s < i) && decide (ow s = nI t)) = true then x s else y s) = fun s => if (decide (s < i + 1) && decide (ow s = nI t)) = true then x s else y s := fun e x y => by
        funext j
        by_cases u : j = i
        · subst u; simp [e]
        · by_cases v : j < i
          · simp [v, show j < i + 1 by omega]
          · simp [v, show ¬ j < i + 1 by omega]
      have IH := ih (i + 1) (by omega) (by omega)
      refine ⟨hv, ?_⟩
      rw [e0]
      refine br_c (fun y => ?_) (fun y => nm_r (nI_1 i) ?_)
      · unfold wpY_undo
        exact ⟨hv, hv, nm_r (eT y ma ka) ⟨hv, hv, nm_r (eT y mb kb) ⟨hv, nm_r (eT y (fun _ => 0) ow) (nm_r (nI_1 i) IH)⟩⟩⟩
      · rw [eN y ma ka, eN y mb kb, eN y (fun _ => 0) ow]
        exact IH
theorem oi_g0 {t : Nat} (x y : Nat → Int32) : (fun s => if (decide (s < 0) && decide (ow s = nI t)) = true then x s else y s) = y := by
  funext s; simp
/-- the view of t: what the check needs -/
theorem oi_lsk_iv {post : Int32 → SX → Prop} (H : oi_IV R T p c q w n co bl rm pr lk lg ka kb ma mb ow od dr sd en dy sy) (hp : 3 ≤ p) (t : Int32) (K : ∀ (r : Int32) (sr' : Nat → Int32), oi_LS R (oi_vk co t ow ka kb ma mb) r → post r (nI R, nI T, fl, rm, pr, lk, nI p, co, uq, nI c, nI q, nI w, cf, lg, bl, nI n, ka, kb, ma, mb, ow, ac, od, dr, sd, en, sr')) : wpX_lowestSharedKey post (nI R, nI T, fl, rm, pr, lk, nI p, co, uq, nI c, nI q, nI w, cf, lg, bl, nI n, ka, kb, ma, mb, ow, ac, od, dr, sd, en, sr) t := by
  have HV := oi_ivk H
  have HM := oi_ivm H
  obtain ⟨g1, g2, g3, g4, g5, g6, ⟨⟨b1, b2, b3⟩, b4, b5, b6, b7, b8, b9, b10⟩, g8, g9⟩ := H
  have hc : c = R := b3 (by omega)
  subst hc
  refine oi_lsk g1.2.1 rfl (fun s hs => ?_) b4 b7 (b9 hp) (fun j hj => ?_) (fun j hj hb => ?_) K
  · unfold oi_vk
    split
    · exact HV s hs
    · exact HM s hs
  · rw [oi_b_or, b5 j, g3.2.1 j] at hj
    simp at hj
    rcases hj with q | q
    · exact q.1
    · exact q.1
  · rw [oi_b_or, b5 j, g3.2.1 j] at hb
    simp [hj] at hb
    obtain ⟨q1, q2⟩ := hb
    have e1 : dr j = oi_ky co ka kb j := by
      unfold oi_lag at q1
      simpa using q1
    have e2 : oi_ky co ma mb j = oi_ky co ka kb j := by
      obtain ⟨u1, u2⟩ := g5 j hj q2
      unfold oi_ky
      rw [u1, u2]
    have e3 : oi_vk co t ow ka kb ma mb j = dr j := by
      unfold oi_vk
      rw [e2, e1]
      split <;> rfl
    unfold oi_im
    rw [e3]
    simp
end
theorem i_vc_rollback {k : Nat} {u : SX} {v : SY} (I : i_Rel k u v) (hk : k + 5 ≤ 2563) (v1 : Int32) : wpX_rollback (fun r u' => wpY_rollback (fun r' v' => r' = r ∧ i_Rel (k + 5) u' v') v v1) u v1 := by
  refine oi_el (P := fun u v => wpX_rollback (fun r u' => wpY_rollback (fun r' v' => r' = r ∧ i_Rel (k + 5) u' v') v v1) u v1) I ?_
  intro R T p c q w n fl co uq cf bl rm pr lk lg ka kb ma mb ow ac od dr sd en sr dy sy H
  have hT := H.1.2.2.2.1
  have hR := H.1.2.1
  unfold wpX_rollback
  refine oi_xact hT (fun a => br_f (by decide) ?_) (fun a => br_t rfl ?_)
  rotate_left
  · unfold wpY_rollback
    exact oi_yact hT (fun z => absurd z a) (fun _ => br_t rfl ⟨rfl, oi_mk _ H⟩)
  have a' := a
  obtain ⟨t, t1, t2, rfl, t4⟩ := a'
  refine oi_undo_iv H t1 t2 (fun pr' lk' lg' bl' n' dr' en' H' _ => ?_)
  unfold wpY_rollback
  refine oi_yact hT (fun _ => br_f (by decide) ⟨65, ?_⟩) (fun z => absurd a z)
  have L := oi_yrb (ft := nI T) (fl := fl) (ph := nI p) (co := co) (uq := uq) (cu := nI c) (sp := nI q) (su := nI w) (cf := cf) (ka := ka) (kb := kb) (ma := ma) (mb := mb) (ow := ow) (ac := ac) (dy := dy) (sy := sy) (R := R) (t := t) (post := fun r' v' => r' = 0 ∧ i_Rel (k + 5) (nI R, nI T, fl, rm, pr', lk', nI p, co, uq, nI c, nI q, nI w, cf, lg', bl', nI n', fun s => if (decide (s < R) && decide (ow s = nI t)) = true then ma s else ka s, fun s => if (decide (s < R) && decide (ow s = nI t)) = true then mb s else kb s, ma, mb, fun s => if (decide (s < R) && decide (ow s = nI t)) = true then 0 else ow s, upd ac t 0, vp_updL od t 0, dr', sd, en', sr) v') hR (by omega) ⟨rfl, oi_mk _ H'⟩ 65 0 (by omega) (by omega)
  rw [oi_g0 ma ka, oi_g0 mb kb, oi_g0 (fun _ => 0) ow, nI_0] at L
  exact L
section
variable {fr : Int32} {ft : Int32} {fl : Int32} {rm : Int64} {pr : Int64} {lk : Int64} {ph : Int32} {co : Int32} {uq : Int32} {cu : Int32} {sp : Int32} {su : Int32} {cf : Int32} {lg : Int64} {bl : Int32} {ec : Int32} {ka : Nat → Int32} {kb : Nat → Int32} {ma : Nat → Int32} {mb : Nat → Int32} {ow : Nat → Int32} {ac : Nat → Int32} {od : Nat → Int64} {dr : Nat → Int32} {sd : Nat → Int32} {en : Nat → Int32} {sr : Nat → Int32}
variable {dy : Nat → Int32} {sy : Nat → Int32}
variable {R T p c q w n : Nat}
theorem oi_cm_go {k t : Nat} (H : oi_IV R T p c q w n co bl rm pr lk lg ka kb ma mb ow od dr sd en dy sy) (ht1 : 1 ≤ t) (ht : t ≤ T) {Z : (Int32 → SY → Prop) → Prop} (hZ : ∀ post : Int32 → SY → Prop, (∃ n47 : Nat, wY_commit_47 post (nI t) (nI R) (nI T) fl (nI p) co uq (nI c) (nI q) (nI w) cf n47 0 ka kb ma mb ow ac dy sy) → Z post) : wX_commit_55 (fun r u' => Z (fun r' v' => r' = r ∧ i_Rel (k + 5) u' v')) (nI t) (nI R) (nI T) fl rm pr lk (nI p) co uq (nI c) (nI q) (nI w) cf lg bl (nI n) 65 (od t) (nI 0) ka kb ma mb ow ac od dr sd en sr := by
  have hT := H.1.2.2.2.1
  have hR := H.1.2.1
  refine oi_cmt H ht1 ht (fun lk' H' => hZ _ ⟨65, ?_⟩)
  have L := oi_ycm (ft := nI T) (fl := fl) (ph := nI p) (co := co) (uq := uq) (cu := nI c) (sp := nI q) (su := nI w) (cf := cf) (ka := ka) (kb := kb) (ma := ma) (mb := mb) (ow := ow) (ac := ac) (dy := dy) (sy := sy) (R := R) (t := t) (post := fun r' v' => r' = 0 ∧ i_Rel (k + 5) (nI R, nI T, fl, rm, pr, lk', nI p, co, uq, nI c, nI q, nI w, cf, lg, bl, nI n, ka, kb, fun s => if (decide (s < R) && decide (ow s = nI t)) = true then ka s else ma s, fun s => if (decide (s < R) && decide (ow s = nI t)) = true then kb s else mb s, fun s => if (decide (s < R) && decide (ow s = nI t)) = true then 0 else ow s, upd ac t 0, vp_updL od t 0, dr, sd, en, sr) v') hR (by omega) ⟨rfl, oi_mk _ H'⟩ 65 0 (by omega) (by omega)
  rw [oi_g0 ka ma, oi_g0 kb mb, oi_g0 (fun _ => 0) ow, nI_0] at L
  exact L
end
theorem i_vc_commit {k : Nat} {u : SX} {v : SY} (I : i_Rel k u v) (hk : k + 5 ≤ 2563) (v1 : Int32) : wpX_commit (fun r u' => wpY_commit (fun r' v' => r' = r ∧ i_Rel (k + 5) u' v') v v1) u v1 := by
  refine oi_el (P := fun u v => wpX_commit (fun r u' => wpY_commit (fun r' v' => r' = r ∧ i_Rel (k + 5) u' v') v v1) u v1) I ?_
  intro R T p c q w n fl co uq cf bl rm pr lk lg ka kb ma mb ow ac od dr sd en sr dy sy H
  have hT := H.1.2.2.2.1
  have hR := H.1.2.1
  have hp4 := H.2.2.2.2.2.1.1
  unfold wpX_commit
  refine oi_xact hT (fun a => br_f (by decide) ?_) (fun a => br_t rfl ?_)
  rotate_left
  · unfold wpY_commit
    exact oi_yact hT (fun z => absurd z a) (fun _ => br_t rfl ⟨rfl, oi_mk _ H⟩)
  have a' := a
  obtain ⟨t, t1, t2, rfl, t4⟩ := a'
  have hv : vp_in (nI t) 9 := vp_in_nI (by omega) (by omega)
  have hc : (nI t).toNatClampNeg = t := nI_clamp (by omega)
  refine pk_eq p 4 (fun z => br_c (fun y => ⟨hv, ?_⟩) (fun y => ?_)) (fun z => ⟨hv, ?_⟩)
  · rw [hc]
    refine nm_e ⟨65, oi_cm_go (k := k) H t1 t2 (Z := fun post => wpY_commit post (nI R, nI T, fl, nI p, co, uq, nI c, nI q, nI w, cf, ka, kb, ma, mb, ow, ac, dy, sy) (nI t)) (fun post h => ?_)⟩
    unfold wpY_commit
    exact oi_yact hT (fun _ => br_f (by decide) (pk_eq p 4 (fun _ => br_t y h) (fun x => absurd z x))) (fun x => absurd a x)
  · subst z
    have hco := H.2.2.2.2.2.1.2.1 (by omega)
    have hV : ∀ s, s < R → oi_V (oi_vk co (nI t) ow ka kb ma mb s) := fun s hs => by
      unfold oi_vk
      split
      · exact oi_ivk H s hs
      · exact oi_ivm H s hs
    have yls : ∀ (r : Int32) (post : Int32 → SY → Prop), oi_LS R (oi_vk co (nI t) ow ka kb ma mb) r → (r = -1 → ∃ n47 : Nat, wY_commit_47 post (nI t) (nI R) (nI T) fl (nI 4) co uq (nI c) (nI q) (nI w) cf n47 0 ka kb ma mb ow ac dy sy) → (¬ r = -1 → post (-10) (nI R, nI T, fl, nI 4, co, uq, nI c, nI q, nI w, r, ka, kb, ma, mb, ow, ac, dy, sy)) → wpY_commit post (nI R, nI T, fl, nI 4, co, uq, nI c, nI q, nI w, cf, ka, kb, ma, mb, ow, ac, dy, sy) (nI t) := fun r post hr h1 h2 => by
      unfold wpY_commit
      refine oi_yact hT (fun _ => br_f (by decide) (br_t rfl (br_f y (oi_yls hR hco rfl hV (fun r' hr' => ?_))))) (fun x => absurd a x)
      have e := oi_ls_u hr' hr
      subst e
      exact br_c h1 h2
    refine oi_lsk_iv H (by omega) (nI t) (fun r sr' hr => br_c (fun x => ⟨hv, ?_⟩) (fun x => ?_))
    · rw [hc]
      refine nm_e ⟨65, oi_cm_go (k := k) H t1 t2 (Z := fun post => wpY_commit post (nI R, nI T, fl, nI 4, co, uq, nI c, nI q, nI w, cf, ka, kb, ma, mb, ow, ac, dy, sy) (nI t)) (fun post h => yls r post hr (fun _ => h) (fun q => absurd x q))⟩
    · exact yls r _ hr (fun q => absurd q x) (fun _ => ⟨rfl, oi_mk _ H⟩)
  · rw [hc]
    refine nm_e ⟨65, oi_cm_go (k := k) H t1 t2 (Z := fun post => wpY_commit post (nI R, nI T, fl, nI p, co, uq, nI c, nI q, nI w, cf, ka, kb, ma, mb, ow, ac, dy, sy) (nI t)) (fun post h => ?_)⟩
    unfold wpY_commit
    exact oi_yact hT (fun _ => br_f (by decide) (pk_eq p 4 (fun x => absurd x z) (fun _ => h))) (fun x => absurd a x)
end
section
/-! clearBuild, startBuild, drop, checkpoint -/
theorem oi_cp {x y : Nat → Int32} {i : Nat} : upd (fun j => if j < i then x j else y j) i (x i) = fun j => if j < i + 1 then x j else y j := by
  funext j
  by_cases v : j = i
  · subst v; rw [pk_us, if_pos (by omega)]
  · rw [pk_un v]
    by_cases u : j < i
    · rw [if_pos u, if_pos (by omega)]
    · rw [if_neg u, if_neg (by omega)]
theorem oi_cpc {x y : Nat → Int32} {i : Nat} (hi : i < 2 ^ 31) : upd (fun j => if j < i then x j else y j) (nI i).toNatClampNeg (x (nI i).toNatClampNeg) = fun j => if j < i + 1 then x j else y j := by
  rw [nI_clamp hi]; exact oi_cp
theorem oi_cp0 (x y : Nat → Int32) : (fun j => if j < 0 then x j else y j) = y := by
  funext j; rw [if_neg (Nat.not_lt_zero j)]
section
variable {fr : Int32} {ft : Int32} {fl : Int32} {rm : Int64} {pr : Int64} {lk : Int64} {ph : Int32} {co : Int32} {uq : Int32} {cu : Int32} {sp : Int32} {su : Int32} {cf : Int32} {lg : Int64} {bl : Int32} {ec : Int32} {ka : Nat → Int32} {kb : Nat → Int32} {ma : Nat → Int32} {mb : Nat → Int32} {ow : Nat → Int32} {ac : Nat → Int32} {od : Nat → Int64} {dr : Nat → Int32} {sd : Nat → Int32} {en : Nat → Int32} {sr : Nat → Int32}
variable {dy : Nat → Int32} {sy : Nat → Int32}
variable {R T p c q w n : Nat}
theorem oi_xclear {post : SX → Prop} (K : post (fr, ft, fl, rm, pr, lk, 0, -1, 0, 0, 0, 0, cf, 0, 0, 0, ka, kb, ma, mb, ow, ac, od, fun j => if j < 64 then -1 else dr j, fun j => if j < 64 then -1 else sd j, en, sr)) : wpX_clearBuild post (fr, ft, fl, rm, pr, lk, ph, co, uq, cu, sp, su, cf, lg, bl, ec, ka, kb, ma, mb, ow, ac, od, dr, sd, en, sr) := by
  have L : ∀ (f i : Nat), i ≤ 64 → 64 - i < f → wX_clearBuild_32 post fr ft fl rm pr lk 0 (-1) 0 0 0 0 cf lg bl ec f (nI i) ka kb ma mb ow ac od (fun j => if j < i then -1 else dr j) (fun j => if j < i then -1 else sd j) en sr := by
    intro f
    induction f with
    | zero => intro i _ h; exact absurd h (Nat.not_lt_zero _)
    | succ f ih =>
      intro i h1 h2
      rw [wX_clearBuild_32]
      refine pk_le 64 i (fun z => ?_) (fun z => ?_)
      · have e : i = 64 := by omega
        subst e
        exact K
      · have hv : vp_in (nI i) 64 := vp_in_nI (by omega) (by omega)
        exact ⟨hv, nm_r (oi_cpc (x := fun _ => -1) (y := dr) (by omega)) ⟨hv, nm_r (oi_cpc (x := fun _ => -1) (y := sd) (by omega)) (nm_r (nI_1 i) (ih (i + 1) (by omega) (by omega)))⟩⟩
  have L0 := L 65 0 (by omega) (by omega)
  rw [oi_cp0 (fun _ => -1) dr, oi_cp0 (fun _ => -1) sd, nI_0] at L0
  unfold wpX_clearBuild
  exact ⟨65, L0⟩
theorem oi_yclear {post : SY → Prop} (K : post (fr, ft, fl, 0, -1, 0, 0, 0, 0, cf, ka, kb, ma, mb, ow, ac, fun j => if j < 64 then -1 else dy j, fun j => if j < 64 then -1 else sy j)) : wpY_clearBuild post (fr, ft, fl, ph, co, uq, cu, sp, su, cf, ka, kb, ma, mb, ow, ac, dy, sy) := by
  have L : ∀ (f i : Nat), i ≤ 64 → 64 - i < f → wY_clearBuild_32 post fr ft fl 0 (-1) 0 0 0 0 cf f (nI i) ka kb ma mb ow ac (fun j => if j < i then -1 else dy j) (fun j => if j < i then -1 else sy j) := by
    intro f
    induction f with
    | zero => intro i _ h; exact absurd h (Nat.not_lt_zero _)
    | succ f ih =>
      intro i h1 h2
      rw [wY_clearBuild_32]
      refine pk_le 64 i (fun z => ?_) (fun z => ?_)
      · have e : i = 64 := by omega
        subst e
        exact K
      · have hv : vp_in (nI i) 64 := vp_in_nI (by omega) (by omega)
        exact ⟨hv, nm_r (oi_cpc (x := fun _ => -1) (y := dy) (by omega)) ⟨hv, nm_r (oi_cpc (x := fun _ => -1) (y := sy) (by omega)) (nm_r (nI_1 i) (ih (i + 1) (by omega) (by omega)))⟩⟩
  have L0 := L 65 0 (by omega) (by omega)
  rw [oi_cp0 (fun _ => -1) dy, oi_cp0 (fun _ => -1) sy, nI_0] at L0
  unfold wpY_clearBuild
  exact ⟨65, L0⟩
/-- a build state without a scanned slot -/
theorem oi_bu0 {ky d : Nat → Int32} (hp : p ≤ 1) (hd : ∀ s, s < R → d s = -1) : oi_BU R p 0 0 ky d 0 (nI 0) en := by
  refine ⟨⟨by omega, fun _ => rfl, fun h => absurd h (by omega)⟩, fun s hs => by rw [hd s hs]; exact oi_V_m1, fun s => ?_, ?_, oi_mg_0 _ _ _, fun _ i j _ h => absurd h (Nat.not_lt_zero j), fun _ i j _ h => absurd h (Nat.not_lt_zero j), fun h => absurd h (by omega)⟩
  · rw [oi_b_0]; simp
  · rw [oi_cn_0]
theorem oi_iv0 {p' q' : Nat} {co' : Int32} (H : oi_IV R T p c q w n co bl rm pr lk lg ka kb ma mb ow od dr sd en dy sy) (h : p' = 0 ∧ q' = 0 ∨ p' = 1 ∧ q' = 1 ∧ (co' = 0 ∨ co' = 1)) : oi_IV R T p' 0 q' 0 0 co' (nI 0) rm pr lk 0 ka kb ma mb ow od (fun j => if j < 64 then -1 else dr j) (fun j => if j < 64 then -1 else sd j) en (fun j => if j < 64 then -1 else dy j) (fun j => if j < 64 then -1 else sy j) := by
  obtain ⟨g1, g2, g3, g4, g5, g6, g7, g8, g9⟩ := H
  have hR := g1.2.1
  refine ⟨g1, g2, g3, g4, g5, ⟨by omega, fun z => ?_, by omega, by omega, fun a b => ⟨by omega, by omega, fun e => absurd e (by omega)⟩⟩, oi_bu0 (by omega) (fun s hs => if_pos (by omega)), fun s hs => ?_, fun _ s hs => ?_⟩
  · rcases h with h | h
    · exact absurd h.1 z
    · exact h.2.2
  · simp only [if_pos (show s < 64 by omega)]; exact ⟨oi_V_m1, by trivial⟩
  · simp only [if_pos (show s < 64 by omega)]
end
theorem i_vc_drop {k : Nat} {u : SX} {v : SY} (I : i_Rel k u v) (hk : k + 5 ≤ 2563) : wpX_drop (fun r u' => wpY_drop (fun r' v' => r' = r ∧ i_Rel (k + 5) u' v') v) u := by
  refine oi_el (P := fun u v => wpX_drop (fun r u' => wpY_drop (fun r' v' => r' = r ∧ i_Rel (k + 5) u' v') v) u) I ?_
  intro R T p c q w n fl co uq cf bl rm pr lk lg ka kb ma mb ow ac od dr sd en sr dy sy H
  have hp := H.2.2.2.2.2.1.1
  unfold wpX_drop
  refine pk_eq p 0 (fun z => ?_) (fun z => ?_)
  · unfold wpY_drop
    exact pk_eq p 0 (fun _ => ⟨rfl, oi_mk _ H⟩) (fun y => absurd z y)
  · refine oi_xclear ?_
    unfold wpY_drop
    refine pk_eq p 0 (fun y => absurd y z) (fun _ => oi_yclear ⟨rfl, ?_⟩)
    exact oi_mk (p := 0) (c := 0) (q := 0) (w := 0) (n := 0) _ (oi_iv0 H (Or.inl ⟨rfl, rfl⟩))
theorem i_vc_startBuild {k : Nat} {u : SX} {v : SY} (I : i_Rel k u v) (hk : k + 5 ≤ 2563) (v1 : Int32) (v2 : Int32) : wpX_startBuild (fun r u' => wpY_startBuild (fun r' v' => r' = r ∧ i_Rel (k + 5) u' v') v v1 (lw_bz v2)) u v1 (lw_bz v2) := by
  refine oi_el (P := fun u v => wpX_startBuild (fun r u' => wpY_startBuild (fun r' v' => r' = r ∧ i_Rel (k + 5) u' v') v v1 (lw_bz v2)) u v1 (lw_bz v2)) I ?_
  intro R T p c q w n fl co uq cf bl rm pr lk lg ka kb ma mb ow ac od dr sd en sr dy sy H
  have hp := H.2.2.2.2.2.1.1
  have hb1 : narrow .boolean (.int (lw_bz v2)) = .int (lw_bz v2) := lw_bz_n v2
  have hb2 : fits .boolean (.int (lw_bz v2)) = true := by
    rcases lw_bz_01 v2 with e | e
    · rw [e]; rfl
    · rw [e]; rfl
  unfold wpX_startBuild
  refine pk_eq p 0 (fun z => oi_xcol (fun a => br_f (by decide) ?_) (fun a => br_t rfl ?_) _) (fun z => ?_)
  · refine oi_xclear ⟨hb1, hb2, ?_⟩
    have y22 : ∀ post : Int32 → SY → Prop, wY_startBuild_22 post v1 (lw_bz v2) (nI R) (nI T) fl (nI p) co uq (nI c) (nI q) (nI w) cf ka kb ma mb ow ac dy sy → wpY_startBuild post (nI R, nI T, fl, nI p, co, uq, nI c, nI q, nI w, cf, ka, kb, ma, mb, ow, ac, dy, sy) v1 (lw_bz v2) := fun post h => by
      unfold wpY_startBuild
      exact pk_eq p 0 (fun _ => br_c (fun _ => h) (fun y => br_t (a.resolve_left y) h)) (fun y => absurd z y)
    refine y22 _ ?_
    unfold wY_startBuild_22
    refine oi_yclear ⟨hb1, hb2, rfl, ?_⟩
    exact oi_mk (p := 1) (c := 0) (q := 1) (w := 0) (n := 0) _ (oi_iv0 H (Or.inr ⟨rfl, rfl, a⟩))
  · unfold wpY_startBuild
    exact pk_eq p 0 (fun _ => br_f (fun y => a (Or.inl y)) (br_f (fun y => a (Or.inr y)) ⟨rfl, oi_mk _ H⟩)) (fun y => absurd z y)
  · unfold wpY_startBuild
    exact pk_eq p 0 (fun y => absurd y z) (fun _ => ⟨rfl, oi_mk _ H⟩)
section
variable {fr : Int32} {ft : Int32} {fl : Int32} {rm : Int64} {pr : Int64} {lk : Int64} {ph : Int32} {co : Int32} {uq : Int32} {cu : Int32} {sp : Int32} {su : Int32} {cf : Int32} {lg : Int64} {bl : Int32} {ec : Int32} {ka : Nat → Int32} {kb : Nat → Int32} {ma : Nat → Int32} {mb : Nat → Int32} {ow : Nat → Int32} {ac : Nat → Int32} {od : Nat → Int64} {dr : Nat → Int32} {sd : Nat → Int32} {en : Nat → Int32} {sr : Nat → Int32}
variable {dy : Nat → Int32} {sy : Nat → Int32}
variable {R T p c q w n : Nat}
theorem oi_xcp {post : Int32 → SX → Prop} (K : post 0 (fr, ft, fl, rm, pr, lk, ph, co, uq, cu, sp, su, cf, lg, bl, ec, ka, kb, ma, mb, ow, ac, od, dr, fun j => if j < 64 then dr j else sd j, en, sr)) : ∀ (f i : Nat), i ≤ 64 → 64 - i < f → wX_checkpoint_28 post fr ft fl rm pr lk ph co uq cu sp su cf lg bl ec f (nI i) ka kb ma mb ow ac od dr (fun j => if j < i then dr j else sd j) en sr := by
  intro f
  induction f with
  | zero => intro i _ h; exact absurd h (Nat.not_lt_zero _)
  | succ f ih =>
    intro i h1 h2
    rw [wX_checkpoint_28]
    refine pk_le 64 i (fun z => ?_) (fun z => ?_)
    · have e : i = 64 := by omega
      subst e
      exact K
    · have hv : vp_in (nI i) 64 := vp_in_nI (by omega) (by omega)
      exact ⟨hv, hv, nm_r (oi_cpc (x := dr) (y := sd) (by omega)) (nm_r (nI_1 i) (ih (i + 1) (by omega) (by omega)))⟩
theorem oi_ycp {post : Int32 → SY → Prop} (hR : R ≤ 64) (K : post 0 (nI R, ft, fl, ph, co, uq, cu, sp, su, cf, ka, kb, ma, mb, ow, ac, dy, fun j => if j < R then dy j else sy j)) : ∀ (f i : Nat), i ≤ R → R - i < f → wY_checkpoint_36 post (nI R) ft fl ph co uq cu sp su cf f (nI i) ka kb ma mb ow ac dy (fun j => if j < i then dy j else sy j) := by
  intro f
  induction f with
  | zero => intro i _ h; exact absurd h (Nat.not_lt_zero _)
  | succ f ih =>
    intro i h1 h2
    rw [wY_checkpoint_36]
    refine pk_le R i (fun z => ?_) (fun z => ?_)
    · have e : i = R := by omega
      subst e
      exact K
    · have hv : vp_in (nI i) 64 := vp_in_nI (by omega) (by omega)
      exact ⟨hv, hv, nm_r (oi_cpc (x := dy) (y := sy) (by omega)) (nm_r (nI_1 i) (ih (i + 1) (by omega) (by omega)))⟩
theorem oi_iv_cp (H : oi_IV R T p c q w n co bl rm pr lk lg ka kb ma mb ow od dr sd en dy sy) (h1 : 1 ≤ p) (h3 : p ≤ 3) : oi_IV R T p c p c n co bl rm pr lk lg ka kb ma mb ow od dr (fun j => if j < 64 then dr j else sd j) en dy (fun j => if j < R then dy j else sy j) := by
  obtain ⟨g1, g2, g3, g4, g5, g6, g7, g8, g9⟩ := H
  have hR := g1.2.1
  refine ⟨g1, g2, g3, g4, g5, ⟨g6.1, g6.2.1, by omega, g7.1.1, fun _ _ => ⟨h1, h3, g7.1.2.2⟩⟩, g7, fun s hs => ?_, g9⟩
  simp only [if_pos (show s < 64 by omega), if_pos hs]
  exact ⟨g7.2.1 s hs, g9 (by omega) s hs⟩
end
theorem i_vc_checkpoint {k : Nat} {u : SX} {v : SY} (I : i_Rel k u v) (hk : k + 5 ≤ 2563) : wpX_checkpoint (fun r u' => wpY_checkpoint (fun r' v' => r' = r ∧ i_Rel (k + 5) u' v') v) u := by
  refine oi_el (P := fun u v => wpX_checkpoint (fun r u' => wpY_checkpoint (fun r' v' => r' = r ∧ i_Rel (k + 5) u' v') v) u) I ?_
  intro R T p c q w n fl co uq cf bl rm pr lk lg ka kb ma mb ow ac od dr sd en sr dy sy H
  have hp := H.2.2.2.2.2.1.1
  have hR := H.1.2.1
  unfold wpX_checkpoint
  refine oi_xbld hp (fun a => br_f (by decide) ⟨65, ?_⟩) (fun a => br_t rfl ?_)
  · have L := oi_xcp (fr := nI R) (ft := nI T) (fl := fl) (rm := rm) (pr := pr) (lk := lk) (ph := nI p) (co := co) (uq := uq) (cu := nI c) (sp := nI p) (su := nI c) (cf := cf) (lg := lg) (bl := bl) (ec := nI n) (ka := ka) (kb := kb) (ma := ma) (mb := mb) (ow := ow) (ac := ac) (od := od) (dr := dr) (sd := sd) (en := en) (sr := sr) (post := fun r u' => wpY_checkpoint (fun r' v' => r' = r ∧ i_Rel (k + 5) u' v') (nI R, nI T, fl, nI p, co, uq, nI c, nI q, nI w, cf, ka, kb, ma, mb, ow, ac, dy, sy)) ?_ 65 0 (by omega) (by omega)
    · rw [oi_cp0 dr sd, nI_0] at L
      exact L
    · unfold wpY_checkpoint
      refine pk_eq p 0 (fun y => absurd y (by omega)) (fun _ => pk_eq p 4 (fun y => absurd y (by omega)) (fun _ => ⟨65, ?_⟩))
      have M := oi_ycp (ft := nI T) (fl := fl) (ph := nI p) (co := co) (uq := uq) (cu := nI c) (sp := nI p) (su := nI c) (cf := cf) (ka := ka) (kb := kb) (ma := ma) (mb := mb) (ow := ow) (ac := ac) (dy := dy) (sy := sy) (R := R) (post := fun r' v' => r' = 0 ∧ i_Rel (k + 5) (nI R, nI T, fl, rm, pr, lk, nI p, co, uq, nI c, nI p, nI c, cf, lg, bl, nI n, ka, kb, ma, mb, ow, ac, od, dr, fun j => if j < 64 then dr j else sd j, en, sr) v') hR ⟨rfl, oi_mk _ (oi_iv_cp H a.1 a.2)⟩ 65 0 (by omega) (by omega)
      rw [oi_cp0 dy sy, nI_0] at M
      exact M
  · unfold wpY_checkpoint
    exact pk_eq p 0 (fun _ => ⟨rfl, oi_mk _ H⟩) (fun y => pk_eq p 4 (fun _ => ⟨rfl, oi_mk _ H⟩) (fun x => absurd (show 1 ≤ p ∧ p ≤ 3 by omega) a))
end
section
/-! scan -/
theorem oi_scs {c s : Nat} {x y : Nat → Int32} (h : c ≤ s) : upd (fun j => if (decide (c ≤ j) && decide (j < s)) = true then x j else y j) s (x s) = fun j => if (decide (c ≤ j) && decide (j < s + 1)) = true then x j else y j := by
  funext j
  by_cases v : j = s
  · subst v; rw [pk_us]; simp [h]
  · rw [pk_un v]
    by_cases u : j < s
    · simp [u, show j < s + 1 by omega]
    · simp [u, show ¬ j < s + 1 by omega]
theorem oi_sc0 (c : Nat) (x y : Nat → Int32) : (fun j => if (decide (c ≤ j) && decide (j < c)) = true then x j else y j) = y := by
  funext j
  by_cases v : j < c
  · simp [v, show ¬ c ≤ j by omega]
  · simp [v]
section
variable {fr : Int32} {ft : Int32} {fl : Int32} {rm : Int64} {pr : Int64} {lk : Int64} {ph : Int32} {co : Int32} {uq : Int32} {cu : Int32} {sp : Int32} {su : Int32} {cf : Int32} {lg : Int64} {bl : Int32} {ec : Int32} {ka : Nat → Int32} {kb : Nat → Int32} {ma : Nat → Int32} {mb : Nat → Int32} {ow : Nat → Int32} {ac : Nat → Int32} {od : Nat → Int64} {dr : Nat → Int32} {sd : Nat → Int32} {en : Nat → Int32} {sr : Nat → Int32}
variable {dy : Nat → Int32} {sy : Nat → Int32}
variable {R T p c q w n : Nat}
theorem oi_xscan {post : Int32 → SX → Prop} {m e : Nat} (hR : R ≤ 64) (he : e ≤ R) (hV : ∀ s, s < R → oi_V (oi_ky co ka kb s))
    (K : ∀ (n' : Nat) (en' : Nat → Int32), oi_MG (oi_F (fun j => if (decide (c ≤ j) && decide (j < e)) = true then oi_ky co ka kb j else dr j)) (fun j => if (decide (c ≤ j) && decide (j < e)) = true then oi_ky co ka kb j else dr j) e en' n' → oi_rn 8 en' n' → (e = R → post (nI m) (nI R, ft, fl, rm, pr, lk, nI 2, co, uq, nI e, sp, su, cf, lg, bl, nI n', ka, kb, ma, mb, ow, ac, od, fun j => if (decide (c ≤ j) && decide (j < e)) = true then oi_ky co ka kb j else dr j, sd, en', sr)) ∧ (¬ e = R → post (nI m) (nI R, ft, fl, rm, pr, lk, ph, co, uq, nI e, sp, su, cf, lg, bl, nI n', ka, kb, ma, mb, ow, ac, od, fun j => if (decide (c ≤ j) && decide (j < e)) = true then oi_ky co ka kb j else dr j, sd, en', sr))) :
    ∀ (f s n : Nat) (en : Nat → Int32), c ≤ s → s ≤ e → e - s < f → oi_MG (oi_F (fun j => if (decide (c ≤ j) && decide (j < s)) = true then oi_ky co ka kb j else dr j)) (fun j => if (decide (c ≤ j) && decide (j < s)) = true then oi_ky co ka kb j else dr j) s en n → oi_rn 8 en n → wX_scan_49 post (nI m) (nI e) f (nI s) (nI R) ft fl rm pr lk ph co uq cu sp su cf lg bl (nI n) ka kb ma mb ow ac od (fun j => if (decide (c ≤ j) && decide (j < s)) = true then oi_ky co ka kb j else dr j) sd en sr := by
  intro f
  induction f with
  | zero => intro s n en _ _ h; exact absurd h (Nat.not_lt_zero _)
  | succ f ih =>
    intro s n en h1 h2 h3 h4 h5
    rw [wX_scan_49]
    refine pk_le e s (fun z => ?_) (fun z => ?_)
    · have e1 : s = e := by omega
      subst e1
      exact pk_eq s R (K n en h4 h5).1 (K n en h4 h5).2
    · have hv : vp_in (nI s) 64 := vp_in_nI (by omega) (by omega)
      have hc : (nI s).toNatClampNeg = s := nI_clamp (by omega)
      refine oi_tk (by omega) ⟨hv, nm_r (e' := fun j => if (decide (c ≤ j) && decide (j < s + 1)) = true then oi_ky co ka kb j else dr j) (by rw [hc]; exact oi_scs h1) ?_⟩
      refine oi_addToRun (by omega) (hV s (by omega)) (by simp [h1]) (oi_mg_congr h4 (fun j hj => ?_) (fun j hj _ => ?_)) h5 (fun n' en' k1 k2 => nm_r (nI_1 s) (ih (s + 1) n' en' (by omega) (by omega) (by omega) k1 k2))
      · unfold oi_F; simp [hj, show j < s + 1 by omega]
      · simp [hj, show j < s + 1 by omega]
theorem oi_yscan {post : Int32 → SY → Prop} {m e : Nat} (hR : R ≤ 64) (he : e ≤ R) (hco : co = 0 ∨ co = 1)
    (K : (e = R → post (nI m) (nI R, ft, fl, nI 2, co, uq, nI e, sp, su, cf, ka, kb, ma, mb, ow, ac, fun j => if (decide (c ≤ j) && decide (j < e)) = true then oi_ky co ka kb j else dy j, sy)) ∧ (¬ e = R → post (nI m) (nI R, ft, fl, ph, co, uq, nI e, sp, su, cf, ka, kb, ma, mb, ow, ac, fun j => if (decide (c ≤ j) && decide (j < e)) = true then oi_ky co ka kb j else dy j, sy))) :
    ∀ (f s : Nat), c ≤ s → s ≤ e → e - s < f → wY_scan_49 post (nI m) (nI e) (nI R) ft fl ph co uq cu sp su cf f (nI s) ka kb ma mb ow ac (fun j => if (decide (c ≤ j) && decide (j < s)) = true then oi_ky co ka kb j else dy j) sy := by
  intro f
  induction f with
  | zero => intro s _ _ h; exact absurd h (Nat.not_lt_zero _)
  | succ f ih =>
    intro s h1 h2 h3
    rw [wY_scan_49]
    refine pk_le e s (fun z => ?_) (fun z => ?_)
    · have e1 : s = e := by omega
      subst e1
      exact pk_eq s R K.1 K.2
    · have hv : vp_in (nI s) 64 := vp_in_nI (by omega) (by omega)
      have hc : (nI s).toNatClampNeg = s := nI_clamp (by omega)
      refine oi_ytk (by omega) hco ⟨hv, nm_r (by rw [hc]; exact oi_scs h1) (nm_r (nI_1 s) (ih (s + 1) (by omega) (by omega) (by omega)))⟩
theorem oi_iv_scan {e n' p' : Nat} {en' : Nat → Int32} (H : oi_IV R T p c q w n co bl rm pr lk lg ka kb ma mb ow od dr sd en dy sy) (hp : p = 1) (hce : c ≤ e) (he : e ≤ R) (hp' : p' = 1 ∨ p' = 2 ∧ e = R) (h1 : oi_MG (oi_F (fun j => if (decide (c ≤ j) && decide (j < e)) = true then oi_ky co ka kb j else dr j)) (fun j => if (decide (c ≤ j) && decide (j < e)) = true then oi_ky co ka kb j else dr j) e en' n') (h2 : oi_rn 8 en' n') : oi_IV R T p' e q w n' co bl rm pr lk lg ka kb ma mb ow od (fun j => if (decide (c ≤ j) && decide (j < e)) = true then oi_ky co ka kb j else dr j) sd en' (fun j => if (decide (c ≤ j) && decide (j < e)) = true then oi_ky co ka kb j else dy j) sy := by
  have HV := oi_ivk H
  obtain ⟨g1, g2, g3, g4, g5, g6, ⟨⟨b1, b2, b3⟩, b4, b5, b6, b7, b8, b9, b10⟩, g8, g9⟩ := H
  have hlo : ∀ j, j < c → oi_lag (fun j => if (decide (c ≤ j) && decide (j < e)) = true then oi_ky co ka kb j else dr j) (oi_ky co ka kb) j = oi_lag dr (oi_ky co ka kb) j := fun j hj => by
    unfold oi_lag; simp [show ¬ c ≤ j by omega]
  have hhi : ∀ j, c ≤ j → j < e → oi_lag (fun j => if (decide (c ≤ j) && decide (j < e)) = true then oi_ky co ka kb j else dr j) (oi_ky co ka kb) j = false := fun j hj hj2 => by
    unfold oi_lag; simp [hj, hj2]
  refine ⟨g1, g2, g3, g4, g5, ⟨by omega, fun _ => g6.2.1 (by omega), g6.2.2.1, g6.2.2.2.1, fun _ _ => g6.2.2.2.2 (by omega) (by omega)⟩, ⟨⟨he, fun z => absurd z (by omega), fun z => by omega⟩, fun s hs => ?_, fun s => ?_, ?_, h1, fun _ => h2, fun z => absurd z (by omega), fun z => absurd z (by omega)⟩, g8, fun _ s hs => ?_⟩
  · by_cases z : (decide (c ≤ s) && decide (s < e)) = true
    · simp only [if_pos z]; exact HV s hs
    · simp only [if_neg z]; exact b4 s hs
  · rw [b5 s]
    by_cases z : s < c
    · rw [hlo s z]; simp [z, show s < e by omega]
    · by_cases y : s < e
      · rw [hhi s (by omega) y]; simp [z]
      · simp [z, y]
  · rw [b6]
    refine congrArg nI ?_
    have k1 : ∀ r, c ≤ r → r ≤ e → oi_cn (oi_lag (fun j => if (decide (c ≤ j) && decide (j < e)) = true then oi_ky co ka kb j else dr j) (oi_ky co ka kb)) r = oi_cn (oi_lag dr (oi_ky co ka kb)) c := fun r => by
      induction r with
      | zero => intro a _; rw [Nat.le_zero.mp a, oi_cn_0, oi_cn_0]
      | succ r ih =>
        intro a b
        by_cases y : c = r + 1
        · rw [← y]; exact oi_cn_congr (fun j hj => hlo j hj)
        · rw [oi_cn_s, ih (by omega) (by omega), hhi r (by omega) (by omega)]; rfl
    exact (k1 e hce (Nat.le_refl e)).symm
  · by_cases z : (decide (c ≤ s) && decide (s < e)) = true
    · simp only [if_pos z]
    · simp only [if_neg z]; exact g9 (by omega) s hs
end
theorem i_vc_scan {k : Nat} {u : SX} {v : SY} (I : i_Rel k u v) (hk : k + 5 ≤ 2563) (v1 : Int32) : wpX_scan (fun r u' => wpY_scan (fun r' v' => r' = r ∧ i_Rel (k + 5) u' v') v v1) u v1 := by
  refine oi_el (P := fun u v => wpX_scan (fun r u' => wpY_scan (fun r' v' => r' = r ∧ i_Rel (k + 5) u' v') v v1) u v1) I ?_
  intro R T p c q w n fl co uq cf bl rm pr lk lg ka kb ma mb ow ac od dr sd en sr dy sy H
  have hR := H.1.2.1
  have hp := H.2.2.2.2.2.1.1
  have hcR := H.2.2.2.2.2.2.1.1.1
  unfold wpX_scan
  refine pk_eq p 1 (fun z => ?_) (fun z => ?_)
  rotate_left
  · unfold wpY_scan
    exact pk_eq p 1 (fun y => absurd y z) (fun _ => ⟨rfl, oi_mk _ H⟩)
  refine br_c (fun y => ?_) (fun y => ?_)
  rotate_left
  · unfold wpY_scan
    exact pk_eq p 1 (fun _ => br_f y ⟨rfl, oi_mk _ H⟩) (fun x => absurd z x)
  have e1 : nI R - nI c = nI (R - c) := pk_sub hcR
  have hco := H.2.2.2.2.2.1.2.1 (by omega)
  -- both sides scan m slots
  have go : ∀ m, m ≤ R - c → (∀ post : Int32 → SY → Prop, wY_scan_36 post (nI m) (nI R) (nI T) fl (nI p) co uq (nI c) (nI q) (nI w) cf ka kb ma mb ow ac dy sy → wpY_scan post (nI R, nI T, fl, nI p, co, uq, nI c, nI q, nI w, cf, ka, kb, ma, mb, ow, ac, dy, sy) v1) → wX_scan_36 (fun r u' => wpY_scan (fun r' v' => r' = r ∧ i_Rel (k + 5) u' v') (nI R, nI T, fl, nI p, co, uq, nI c, nI q, nI w, cf, ka, kb, ma, mb, ow, ac, dy, sy) v1) (nI m) (nI R) (nI T) fl rm pr lk (nI p) co uq (nI c) (nI q) (nI w) cf lg bl (nI n) ka kb ma mb ow ac od dr sd en sr := fun m hm hY => by
    have B := H.2.2.2.2.2.2.1
    unfold wX_scan_36
    refine nm_r (nI_add c m) ⟨65, ?_⟩
    have L := oi_xscan (ft := nI T) (fl := fl) (rm := rm) (pr := pr) (lk := lk) (ph := nI p) (co := co) (uq := uq) (cu := nI c) (sp := nI q) (su := nI w) (cf := cf) (lg := lg) (bl := bl) (ka := ka) (kb := kb) (ma := ma) (mb := mb) (ow := ow) (ac := ac) (od := od) (dr := dr) (sd := sd) (sr := sr) (R := R) (c := c) (m := m) (e := c + m) (post := fun r u' => wpY_scan (fun r' v' => r' = r ∧ i_Rel (k + 5) u' v') (nI R, nI T, fl, nI p, co, uq, nI c, nI q, nI w, cf, ka, kb, ma, mb, ow, ac, dy, sy) v1) hR (by omega) (oi_ivk H) (fun n' en' k1 k2 => ⟨fun x => hY _ ?_, fun x => hY _ ?_⟩) 65 c n en (by omega) (by omega) (by omega) (by rw [oi_sc0]; exact B.2.2.2.2.1) (B.2.2.2.2.2.1 (by omega))
    · rw [oi_sc0] at L
      exact L
    · unfold wY_scan_36
      refine nm_r (nI_add c m) ⟨65, ?_⟩
      have M := oi_yscan (ft := nI T) (fl := fl) (ph := nI p) (co := co) (uq := uq) (cu := nI c) (sp := nI q) (su := nI w) (cf := cf) (ka := ka) (kb := kb) (ma := ma) (mb := mb) (ow := ow) (ac := ac) (dy := dy) (sy := sy) (R := R) (c := c) (m := m) (e := c + m) (post := fun r' v' => r' = nI m ∧ i_Rel (k + 5) (nI R, nI T, fl, rm, pr, lk, nI 2, co, uq, nI (c + m), nI q, nI w, cf, lg, bl, nI n', ka, kb, ma, mb, ow, ac, od, fun j => if (decide (c ≤ j) && decide (j < c + m)) = true then oi_ky co ka kb j else dr j, sd, en', sr) v') hR (by omega) hco ⟨fun _ => ⟨rfl, oi_mk _ (oi_iv_scan H z (by omega) (by omega) (Or.inr ⟨rfl, x⟩) k1 k2)⟩, fun q => absurd x q⟩ 65 c (by omega) (by omega) (by omega)
      rw [oi_sc0] at M
      exact M
    · unfold wY_scan_36
      refine nm_r (nI_add c m) ⟨65, ?_⟩
      have M := oi_yscan (ft := nI T) (fl := fl) (ph := nI p) (co := co) (uq := uq) (cu := nI c) (sp := nI q) (su := nI w) (cf := cf) (ka := ka) (kb := kb) (ma := ma) (mb := mb) (ow := ow) (ac := ac) (dy := dy) (sy := sy) (R := R) (c := c) (m := m) (e := c + m) (post := fun r' v' => r' = nI m ∧ i_Rel (k + 5) (nI R, nI T, fl, rm, pr, lk, nI p, co, uq, nI (c + m), nI q, nI w, cf, lg, bl, nI n', ka, kb, ma, mb, ow, ac, od, fun j => if (decide (c ≤ j) && decide (j < c + m)) = true then oi_ky co ka kb j else dr j, sd, en', sr) v') hR (by omega) hco ⟨fun q => absurd q x, fun _ => ⟨rfl, oi_mk _ (oi_iv_scan H z (by omega) (by omega) (Or.inl z) k1 k2)⟩⟩ 65 c (by omega) (by omega) (by omega)
      rw [oi_sc0] at M
      exact M
  refine nm_r e1 (br_c (fun x => go (R - c) (Nat.le_refl _) (fun post h => ?_)) (fun x => ?_))
  · unfold wpY_scan
    exact pk_eq p 1 (fun _ => br_t y (nm_r e1 (br_t x h))) (fun q => absurd z q)
  · have h0 : ¬ v1 < 0 := fun q => by
      have a := oi_lt0.mp q
      have b := Int32.le_iff_toInt_le.mp y
      rw [show (1 : Int32).toInt = 1 by decide] at b
      omega
    obtain ⟨m, hm, rfl⟩ := nI_of h0
    have hm2 : m < R - c := Nat.lt_of_not_le fun q => x (nI_le q hm)
    refine go m (by omega) (fun post h => ?_)
    unfold wpY_scan
    exact pk_eq p 1 (fun _ => br_t y (nm_r e1 (br_f x h))) (fun q => absurd z q)
/-! load -/
theorem i_vc_load {k : Nat} {u : SX} {v : SY} (I : i_Rel k u v) (hk : k + 5 ≤ 2563) : wpX_load (fun r u' => wpY_load (fun r' v' => r' = r ∧ i_Rel (k + 5) u' v') v) u := by
  refine oi_el (P := fun u v => wpX_load (fun r u' => wpY_load (fun r' v' => r' = r ∧ i_Rel (k + 5) u' v') v) u) I ?_
  intro R T p c q w n fl co uq cf bl rm pr lk lg ka kb ma mb ow ac od dr sd en sr dy sy H
  have hR := H.1.2.1
  have hp := H.2.2.2.2.2.1.1
  unfold wpX_load
  refine pk_eq p 2 (fun z => ?_) (fun z => ?_)
  rotate_left
  · unfold wpY_load
    exact pk_eq p 2 (fun y => absurd y z) (fun _ => ⟨rfl, oi_mk _ H⟩)
  subst z
  obtain ⟨g1, g2, g3, g4, g5, g6, ⟨⟨b1, b2, b3⟩, b4, b5, b6, b7, b8, b9, b10⟩, g8, g9⟩ := H
  have hc : c = R := b3 (by omega)
  subst hc
  refine oi_mergeRuns hR b7 (b8 (by omega)) (fun en' sr' k1 k2 => ?_)
  have H' : oi_IV c T 3 c q w n co bl rm pr lk lg ka kb ma mb ow od dr sd en' dy sy :=
    ⟨g1, g2, g3, g4, g5, ⟨by omega, fun _ => g6.2.1 (by omega), g6.2.2.1, g6.2.2.2.1, fun _ _ => g6.2.2.2.2 (by omega) (by omega)⟩, ⟨⟨b1, fun e => absurd e (by omega), fun _ => rfl⟩, b4, b5, b6, k1, fun e => absurd e (by omega), fun _ => k2, fun e => absurd e (by omega)⟩, g8, fun _ => g9 (by omega)⟩
  unfold wpY_load
  refine pk_eq 2 2 (fun _ => ?_) (fun q => absurd rfl q)
  refine oi_yic (p := 3) (dr := dr) hR (Or.inl rfl) (oi_iv4 H') (oi_ivd H') ⟨?_, oi_mk (p := 3) _ H'⟩
  rw [oi_mg_cn k1]
  refine congrArg nI (oi_cn_congr (fun s hs => ?_))
  by_cases y : dr s = -1
  · rw [oi_F_f y]; rfl
  · obtain ⟨j, hj, e⟩ := oi_Vn (b4 s hs) y
    rw [oi_F_t y, e, nI_toInt (by omega), show (0 : Int32).toInt = 0 by decide, show (999 : Int32).toInt = 999 by decide]
    simp; omega
/-! drain -/
section
variable {fr : Int32} {ft : Int32} {fl : Int32} {rm : Int64} {pr : Int64} {lk : Int64} {ph : Int32} {co : Int32} {uq : Int32} {cu : Int32} {sp : Int32} {su : Int32} {cf : Int32} {lg : Int64} {bl : Int32} {ec : Int32} {ka : Nat → Int32} {kb : Nat → Int32} {ma : Nat → Int32} {mb : Nat → Int32} {ow : Nat → Int32} {ac : Nat → Int32} {od : Nat → Int64} {dr : Nat → Int32} {sd : Nat → Int32} {en : Nat → Int32} {sr : Nat → Int32}
variable {dy : Nat → Int32} {sy : Nat → Int32}
variable {R T p c q w n : Nat}
theorem oi_ydr {post : Int32 → SY → Prop} {V : Nat} (hR : R ≤ 64) (hVb : V < 2 ^ 31) (hco : co = 0 ∨ co = 1) (hd : ∀ s, s < R → dy s = dr s) (K : post (nI (min V (oi_cn (oi_lag dr (oi_ky co ka kb)) R))) (nI R, ft, fl, nI 3, co, uq, nI R, sp, su, cf, ka, kb, ma, mb, ow, ac, fun s => if (decide (s < R) && (oi_lag dr (oi_ky co ka kb) s && decide (oi_cn (oi_lag dr (oi_ky co ka kb)) s < V))) = true then oi_ky co ka kb s else dy s, sy)) :
    ∀ (f i : Nat), i ≤ R → R - i < f → wY_drain_23 post (nI V) (nI R) ft fl (nI 3) co uq (nI R) sp su cf f (nI (min V (oi_cn (oi_lag dr (oi_ky co ka kb)) i))) (nI i) ka kb ma mb ow ac (fun s => if (decide (s < i) && (oi_lag dr (oi_ky co ka kb) s && decide (oi_cn (oi_lag dr (oi_ky co ka kb)) s < V))) = true then oi_ky co ka kb s else dy s) sy := by
  intro f
  induction f with
  | zero => intro i _ h; exact absurd h (Nat.not_lt_zero _)
  | succ f ih =>
    intro i h1 h2
    have hcl := oi_cn_le (oi_lag dr (oi_ky co ka kb)) i
    have t1 : (true).toNat = 1 := rfl
    have t0 : (false).toNat = 0 := rfl
    rw [wY_drain_23]
    refine pk_le R i (fun z => ?_) (fun z => ?_)
    · have e : i = R := by omega
      subst e
      exact K
    · have hv : vp_in (nI i) 64 := vp_in_nI (by omega) (by omega)
      have hc : (nI i).toNatClampNeg = i := nI_clamp (by omega)
      have IH := ih (i + 1) (by omega) (by omega)
      rw [oi_cn_s] at IH
      have eN : (oi_lag dr (oi_ky co ka kb) i && decide (oi_cn (oi_lag dr (oi_ky co ka kb)) i < V)) = false → (fun s => if (decide (s < i) && (oi_lag dr (oi_ky co ka kb) s && decide (oi_cn (oi_lag dr (oi_ky co ka kb)) s < V))) = true then oi_ky co ka kb s else dy s) = fun s => if (decide (s < i + 1) && (oi_lag dr (oi_ky co ka kb) s && decide (oi_cn (oi_lag dr (oi_ky co ka kb)) s < V))) = true then oi_ky co ka kb s else dy s := fun e => by
        funext j
        by_cases u : j = i
        · subst u; rw [e]; simp
        · by_cases v : j < i
          · simp [v, show j < i + 1 by omega]
          · simp [v, show ¬ j < i + 1 by omega]
      refine pk_le V (min V (oi_cn (oi_lag dr (oi_ky co ka kb)) i)) (fun y => nm_r (nI_1 i) ?_) (fun y => ?_)
      · have hb := Bool.toNat_le (oi_lag dr (oi_ky co ka kb) i)
        rw [eN (by simp; omega), show min V (oi_cn (oi_lag dr (oi_ky co ka kb)) i) = min V (oi_cn (oi_lag dr (oi_ky co ka kb)) i + (oi_lag dr (oi_ky co ka kb) i).toNat) by omega]
        exact IH
      · have e1 : (fun s => if (decide (s < i) && (oi_lag dr (oi_ky co ka kb) s && decide (oi_cn (oi_lag dr (oi_ky co ka kb)) s < V))) = true then oi_ky co ka kb s else dy s) i = dr i := by simp [hd i z]
        refine oi_ylags (dr := dr) (by omega) (by omega) (by omega) (fun q => absurd q (by omega)) (fun _ => e1) (fun _ => hco) (fun x => ?_) (fun x => ?_)
        · have x' : oi_lag dr (oi_ky co ka kb) i = false := by simpa [z] using x
          rw [x'] at IH
          refine br_t rfl (nm_r (nI_1 i) ?_)
          rw [eN (by rw [x']; rfl)]
          exact IH
        · have x' : oi_lag dr (oi_ky co ka kb) i = true := by simpa [z] using x
          rw [x'] at IH
          refine br_f (by decide) (oi_ytk (by omega) hco ⟨hv, nm_r (e' := fun s => if (decide (s < i + 1) && (oi_lag dr (oi_ky co ka kb) s && decide (oi_cn (oi_lag dr (oi_ky co ka kb)) s < V))) = true then oi_ky co ka kb s else dy s) ?_ (nm_r (e' := nI (min V (oi_cn (oi_lag dr (oi_ky co ka kb)) i + (true).toNat))) ?_ (nm_r (nI_1 i) IH))⟩)
          · rw [hc]
            funext j
            by_cases u : j = i
            · subst u; rw [pk_us, x']; simp; omega
            · rw [pk_un u]
              by_cases v : j < i
              · simp [v, show j < i + 1 by omega]
              · simp [v, show ¬ j < i + 1 by omega]
          · rw [nI_1]; exact congrArg nI (by omega)
theorem oi_iv_cu {p' q' w' m V : Nat} {lg' : Int64} {n' : Nat} {dr' en' sd' dy' sy' : Nat → Int32} (H : oi_IV R T p c q w n co bl rm pr lk lg ka kb ma mb ow od dr sd en dy sy) (hp : p = 3) (hp' : p' = 3 ∨ p' = 4 ∧ m = oi_cn (oi_lag dr (oi_ky co ka kb)) R) (hq : q' ≤ 4) (hw : w' ≤ R) (hq3 : p' = 3 → 1 ≤ q' ∧ q' ≤ 3 ∧ (2 ≤ q' → w' = R))
    (k1 : ∀ s, s < R → dr' s = if (oi_lag dr (oi_ky co ka kb) s && decide (oi_cn (oi_lag dr (oi_ky co ka kb)) s < m)) = true then oi_ky co ka kb s else dr s) (k2 : ∀ s, s < R → oi_V (dr' s)) (k3 : oi_MG (oi_F dr') dr' R en' n') (k4 : oi_so en' n') (k5 : ∀ s, oi_b lg' s = (decide (s < R) && oi_lag dr' (oi_ky co ka kb) s)) (k6 : oi_cn (oi_lag dr' (oi_ky co ka kb)) R = oi_cn (oi_lag dr (oi_ky co ka kb)) R - m) (hsv : oi_SV R sd' sy') (hdy : oi_DY R p' dr' dy') : oi_IV R T p' R q' w' n' co (nI (oi_cn (oi_lag dr (oi_ky co ka kb)) R - m)) rm pr lk lg' ka kb ma mb ow od dr' sd' en' dy' sy' := by
  obtain ⟨g1, g2, g3, g4, g5, g6, ⟨⟨b1, b2, b3⟩, b4, b5, b6, b7, b8, b9, b10⟩, g8, g9⟩ := H
  refine ⟨g1, g2, g3, g4, g5, ⟨by omega, fun _ => g6.2.1 (by omega), hq, hw, fun a b => hq3 (by omega)⟩, ⟨⟨Nat.le_refl R, fun e => absurd e (by omega), fun _ => rfl⟩, k2, k5, by rw [k6], k3, fun e => absurd e (by omega), fun _ => k4, fun e s hs => ?_⟩, hsv, hdy⟩
  rcases hp' with x | ⟨x, y⟩
  · omega
  · rw [k1 s hs]
    by_cases z : oi_lag dr (oi_ky co ka kb) s = true
    · rw [if_pos]
      rw [z, y]
      simpa using oi_cn_lt hs z
    · rw [if_neg (by rw [Bool.eq_false_iff.mpr z]; simp)]
      unfold oi_lag at z
      simpa using z
end
theorem i_vc_drain {k : Nat} {u : SX} {v : SY} (I : i_Rel k u v) (hk : k + 5 ≤ 2563) (v1 : Int32) : wpX_drain (fun r u' => wpY_drain (fun r' v' => r' = r ∧ i_Rel (k + 5) u' v') v v1) u v1 := by
  refine oi_el (P := fun u v => wpX_drain (fun r u' => wpY_drain (fun r' v' => r' = r ∧ i_Rel (k + 5) u' v') v v1) u v1) I ?_
  intro R T p c q w n fl co uq cf bl rm pr lk lg ka kb ma mb ow ac od dr sd en sr dy sy H
  have hR := H.1.2.1
  have hp := H.2.2.2.2.2.1.1
  have HV := oi_ivk H
  unfold wpX_drain
  refine pk_eq p 3 (fun z => ?_) (fun z => ?_)
  rotate_left
  · unfold wpY_drain
    exact pk_eq p 3 (fun y => absurd y z) (fun _ => ⟨rfl, oi_mk _ H⟩)
  refine br_c (fun y => ?_) (fun y => ?_)
  rotate_left
  · unfold wpY_drain
    exact pk_eq p 3 (fun _ => br_f y ⟨rfl, oi_mk _ H⟩) (fun x => absurd z x)
  subst z
  have H0 := H
  obtain ⟨g1, g2, g3, g4, g5, g6, ⟨⟨b1, b2, b3⟩, b4, b5, b6, b7, b8, b9, b10⟩, g8, g9⟩ := H0
  have hc : c = R := b3 (by omega)
  subst hc
  subst b6
  have hBR := oi_cn_le (oi_lag dr (oi_ky co ka kb)) c
  have h0 : ¬ v1 < 0 := fun q => by
    have a := oi_lt0.mp q
    have b := Int32.le_iff_toInt_le.mp y
    rw [show (1 : Int32).toInt = 1 by decide] at b
    omega
  obtain ⟨V, hVb, rfl⟩ := nI_of h0
  have go : ∀ m, m = min V (oi_cn (oi_lag dr (oi_ky co ka kb)) c) → wX_drain_31 (fun r u' => wpY_drain (fun r' v' => r' = r ∧ i_Rel (k + 5) u' v') (nI c, nI T, fl, nI 3, co, uq, nI c, nI q, nI w, cf, ka, kb, ma, mb, ow, ac, dy, sy) (nI V)) (nI m) (nI c) (nI T) fl rm pr lk (nI 3) co uq (nI c) (nI q) (nI w) cf lg (nI (oi_cn (oi_lag dr (oi_ky co ka kb)) c)) (nI n) ka kb ma mb ow ac od dr sd en sr := fun m hm => by
    unfold wX_drain_31
    refine oi_catchUp hR HV b4 rfl (by omega) b7 (b9 (by omega)) b5 (fun dr' en' n' lg' k1 k2 k3 k4 k5 k6 => ?_)
    unfold wpY_drain
    refine pk_eq 3 3 (fun _ => br_t y ⟨65, ?_⟩) (fun q => absurd rfl q)
    have M := oi_ydr (ft := nI T) (fl := fl) (co := co) (uq := uq) (sp := nI q) (su := nI w) (cf := cf) (ka := ka) (kb := kb) (ma := ma) (mb := mb) (ow := ow) (ac := ac) (dy := dy) (sy := sy) (R := c) (V := V) (dr := dr) (post := fun r' v' => r' = nI m ∧ i_Rel (k + 5) (nI c, nI T, fl, rm, pr, lk, nI 3, co, uq, nI c, nI q, nI w, cf, lg', nI (oi_cn (oi_lag dr (oi_ky co ka kb)) c - m), nI n', ka, kb, ma, mb, ow, ac, od, dr', sd, en', sr) v') hR hVb (g6.2.1 (by omega)) (g9 (by omega)) ⟨by rw [hm], oi_mk _ (oi_iv_cu (V := V) H rfl (Or.inl rfl) g6.2.2.1 g6.2.2.2.1 (fun _ => g6.2.2.2.2 (by omega) (by omega)) k1 k2 k3 k4 k5 k6 g8 (fun _ s hs => ?_))⟩ 65 0 (by omega) (by omega)
    · rw [oi_cn_0, Nat.min_zero, show (fun s => if (decide (s < 0) && (oi_lag dr (oi_ky co ka kb) s && decide (oi_cn (oi_lag dr (oi_ky co ka kb)) s < V))) = true then oi_ky co ka kb s else dy s) = dy by funext s; simp, nI_0] at M
      exact M
    · rw [k1 s hs]
      by_cases x : oi_lag dr (oi_ky co ka kb) s = true
      · have x2 := oi_cn_lt hs x
        by_cases x3 : oi_cn (oi_lag dr (oi_ky co ka kb)) s < V
        · rw [if_pos (by simp [x, x3, hs]), if_pos (by simp [x]; omega)]
        · rw [if_neg (by simp [x]; omega), if_neg (by simp [x]; omega)]
          exact g9 (by omega) s hs
      · rw [if_neg (by simp [x]), if_neg (by simp [x])]
        exact g9 (by omega) s hs
  refine pk_le (oi_cn (oi_lag dr (oi_ky co ka kb)) c) V (fun x => go _ (by omega)) (fun x => go _ (by omega))
end
section
/-! publish -/
section
variable {fr : Int32} {ft : Int32} {fl : Int32} {rm : Int64} {pr : Int64} {lk : Int64} {ph : Int32} {co : Int32} {uq : Int32} {cu : Int32} {sp : Int32} {su : Int32} {cf : Int32} {lg : Int64} {bl : Int32} {ec : Int32} {ka : Nat → Int32} {kb : Nat → Int32} {ma : Nat → Int32} {mb : Nat → Int32} {ow : Nat → Int32} {ac : Nat → Int32} {od : Nat → Int64} {dr : Nat → Int32} {sd : Nat → Int32} {en : Nat → Int32} {sr : Nat → Int32}
variable {dy : Nat → Int32} {sy : Nat → Int32}
variable {R T p c q w n : Nat}
theorem oi_xpb {post : Int32 → SX → Prop} (K : post 0 (fr, ft, fl, rm, pr, lk, ph, co, uq, cu, sp, su, -1, lg, bl, ec, ka, kb, ma, mb, ow, ac, od, dr, fun j => if j < 64 then -1 else sd j, en, sr)) : ∀ (f i : Nat), i ≤ 64 → 64 - i < f → wX_publish_79 post fr ft fl rm pr lk ph co uq cu sp su cf lg bl ec f (nI i) ka kb ma mb ow ac od dr (fun j => if j < i then -1 else sd j) en sr := by
  intro f
  induction f with
  | zero => intro i _ h; exact absurd h (Nat.not_lt_zero _)
  | succ f ih =>
    intro i h1 h2
    rw [wX_publish_79]
    refine pk_le 64 i (fun z => ?_) (fun z => ?_)
    · have e : i = 64 := by omega
      subst e
      exact K
    · have hv : vp_in (nI i) 64 := vp_in_nI (by omega) (by omega)
      exact ⟨hv, nm_r (oi_cpc (x := fun _ => -1) (y := sd) (by omega)) (nm_r (nI_1 i) (ih (i + 1) (by omega) (by omega)))⟩
theorem oi_ypb {post : Int32 → SY → Prop} (hR : R ≤ 64) (K : post 0 (nI R, ft, fl, ph, co, uq, cu, sp, su, -1, ka, kb, ma, mb, ow, ac, dy, fun j => if j < R then -1 else sy j)) : ∀ (f i : Nat), i ≤ R → R - i < f → wY_publish_71 post (nI R) ft fl ph co uq cu sp su cf f (nI i) ka kb ma mb ow ac dy (fun j => if j < i then -1 else sy j) := by
  intro f
  induction f with
  | zero => intro i _ h; exact absurd h (Nat.not_lt_zero _)
  | succ f ih =>
    intro i h1 h2
    rw [wY_publish_71]
    refine pk_le R i (fun z => ?_) (fun z => ?_)
    · have e : i = R := by omega
      subst e
      exact K
    · have hv : vp_in (nI i) 64 := vp_in_nI (by omega) (by omega)
      exact ⟨hv, nm_r (oi_cpc (x := fun _ => -1) (y := sy) (by omega)) (nm_r (nI_1 i) (ih (i + 1) (by omega) (by omega)))⟩
theorem oi_vk0 (H : oi_IV R T p c q w n co bl rm pr lk lg ka kb ma mb ow od dr sd en dy sy) : ∀ s, s < R → oi_vk co (-1) ow ka kb ma mb s = oi_vk co 0 ow ka kb ma mb s := fun s hs => by
  obtain ⟨g1, g2, g3, g4, g5, -⟩ := H
  have hT := g1.2.2.2.1
  obtain ⟨t, ht, e⟩ := g3.1 s hs
  have h1 : ¬ ow s = -1 := fun q => by
    rw [e] at q
    have := congrArg Int32.toInt q
    rw [nI_toInt (by omega), oi_m1] at this
    omega
  unfold oi_vk
  rw [if_neg h1]
  by_cases h0 : ow s = 0
  · obtain ⟨u1, u2⟩ := g5 s hs h0
    rw [if_pos h0]
    unfold oi_ky
    rw [u1, u2]
  · rw [if_neg h0]
end
theorem i_vc_publish {k : Nat} {u : SX} {v : SY} (I : i_Rel k u v) (hk : k + 5 ≤ 2563) : wpX_publish (fun r u' => wpY_publish (fun r' v' => r' = r ∧ i_Rel (k + 5) u' v') v) u := by
  refine oi_el (P := fun u v => wpX_publish (fun r u' => wpY_publish (fun r' v' => r' = r ∧ i_Rel (k + 5) u' v') v) u) I ?_
  intro R T p c q w n fl co uq cf bl rm pr lk lg ka kb ma mb ow ac od dr sd en sr dy sy H
  have hR := H.1.2.1
  have hp := H.2.2.2.2.2.1.1
  have HV := oi_ivk H
  have HM := oi_ivm H
  unfold wpX_publish
  refine pk_eq p 3 (fun z => ?_) (fun z => ?_)
  rotate_left
  · unfold wpY_publish
    exact pk_eq p 3 (fun y => absurd y z) (fun _ => ⟨rfl, oi_mk _ H⟩)
  subst z
  have H0 := H
  obtain ⟨g1, g2, g3, g4, g5, g6, ⟨⟨b1, b2, b3⟩, b4, b5, b6, b7, b8, b9, b10⟩, g8, g9⟩ := H0
  have hc : c = R := b3 (by omega)
  subst hc
  subst b6
  have hco := g6.2.1 (by omega)
  have ybl : ∀ post : Int32 → SY → Prop, ((nI (oi_cn (oi_lag dr (oi_ky co ka kb)) c) ≤ fl → ((uq = 0 → wY_publish_51 post (nI c) (nI T) fl (nI 3) co uq (nI c) (nI q) (nI w) cf ka kb ma mb ow ac dy sy) ∧ (¬ uq = 0 → wpY_lowestShared (fun r_27 => (r_27 = -1 → wY_publish_51 post (nI c) (nI T) fl (nI 3) co uq (nI c) (nI q) (nI w) cf ka kb ma mb ow ac dy sy) ∧ (¬ r_27 = -1 → post (-10) (nI c, nI T, fl, nI 3, co, uq, nI c, nI q, nI w, r_27, ka, kb, ma, mb, ow, ac, dy, sy))) (nI c, nI T, fl, nI 3, co, uq, nI c, nI q, nI w, cf, ka, kb, ma, mb, ow, ac, dy, sy) (-1)))) ∧ (¬ nI (oi_cn (oi_lag dr (oi_ky co ka kb)) c) ≤ fl → post (-9) (nI c, nI T, fl, nI 3, co, uq, nI c, nI q, nI w, cf, ka, kb, ma, mb, ow, ac, dy, sy))) → wpY_publish post (nI c, nI T, fl, nI 3, co, uq, nI c, nI q, nI w, cf, ka, kb, ma, mb, ow, ac, dy, sy) := fun post h => by
    unfold wpY_publish
    exact pk_eq 3 3 (fun _ => oi_ybl (dr := dr) hR (by omega) (Nat.le_refl c) (oi_iv4 H) (oi_ivd H) (oi_ivc H) h) (fun q => absurd rfl q)
  have go : ∀ sr : Nat → Int32, (∀ post : Int32 → SY → Prop, wY_publish_51 post (nI c) (nI T) fl (nI 3) co uq (nI c) (nI q) (nI w) cf ka kb ma mb ow ac dy sy → wpY_publish post (nI c, nI T, fl, nI 3, co, uq, nI c, nI q, nI w, cf, ka, kb, ma, mb, ow, ac, dy, sy)) → wX_publish_51 (fun r u' => wpY_publish (fun r' v' => r' = r ∧ i_Rel (k + 5) u' v') (nI c, nI T, fl, nI 3, co, uq, nI c, nI q, nI w, cf, ka, kb, ma, mb, ow, ac, dy, sy)) (nI c) (nI T) fl rm pr lk (nI 3) co uq (nI c) (nI q) (nI w) cf lg (nI (oi_cn (oi_lag dr (oi_ky co ka kb)) c)) (nI n) ka kb ma mb ow ac od dr sd en sr := fun sr hY => by
    unfold wX_publish_51
    refine oi_catchUp (m := oi_cn (oi_lag dr (oi_ky co ka kb)) c) hR HV b4 rfl (Nat.le_refl _) b7 (b9 (by omega)) b5 (fun dr' en' n' lg' k1 k2 k3 k4 k5 k6 => ⟨65, ?_⟩)
    have L := oi_xpb (fr := nI c) (ft := nI T) (fl := fl) (rm := rm) (pr := pr) (lk := lk) (ph := nI 4) (co := co) (uq := uq) (cu := nI c) (sp := nI 4) (su := nI c) (cf := cf) (lg := lg') (bl := nI (oi_cn (oi_lag dr (oi_ky co ka kb)) c - oi_cn (oi_lag dr (oi_ky co ka kb)) c)) (ec := nI n') (ka := ka) (kb := kb) (ma := ma) (mb := mb) (ow := ow) (ac := ac) (od := od) (dr := dr') (sd := sd) (en := en') (sr := sr) (post := fun r u' => wpY_publish (fun r' v' => r' = r ∧ i_Rel (k + 5) u' v') (nI c, nI T, fl, nI 3, co, uq, nI c, nI q, nI w, cf, ka, kb, ma, mb, ow, ac, dy, sy)) ?_ 65 0 (by omega) (by omega)
    · rw [oi_cp0 (fun _ => -1) sd, nI_0] at L
      exact L
    · refine hY _ ?_
      unfold wY_publish_51
      refine ⟨65, ?_⟩
      have M := oi_ypb (ft := nI T) (fl := fl) (ph := nI 4) (co := co) (uq := uq) (cu := nI c) (sp := nI 4) (su := nI c) (cf := cf) (ka := ka) (kb := kb) (ma := ma) (mb := mb) (ow := ow) (ac := ac) (dy := dy) (sy := sy) (R := c) (post := fun r' v' => r' = 0 ∧ i_Rel (k + 5) (nI c, nI T, fl, rm, pr, lk, nI 4, co, uq, nI c, nI 4, nI c, -1, lg', nI (oi_cn (oi_lag dr (oi_ky co ka kb)) c - oi_cn (oi_lag dr (oi_ky co ka kb)) c), nI n', ka, kb, ma, mb, ow, ac, od, dr', fun j => if j < 64 then -1 else sd j, en', sr) v') hR ⟨rfl, oi_mk _ (oi_iv_cu (V := 0) H rfl (Or.inr ⟨rfl, rfl⟩) (by omega) (Nat.le_refl c) (fun q => absurd q (by omega)) k1 k2 k3 k4 k5 k6 (fun s hs => ?_) (fun q => absurd rfl q))⟩ 65 0 (by omega) (by omega)
      · rw [oi_cp0 (fun _ => -1) sy, nI_0] at M
        exact M
      · simp only [if_pos (show s < 64 by omega), if_pos hs]
        exact ⟨oi_V_m1, by trivial⟩
  refine br_c (fun y => br_c (fun x => go sr (fun post h => ybl post (br_t y (br_t x h)))) (fun x => ?_)) (fun y => ybl _ (br_f y ⟨rfl, oi_mk _ H⟩))
  have yls : ∀ (r : Int32) (post : Int32 → SY → Prop), oi_LS c (oi_vk co 0 ow ka kb ma mb) r → (r = -1 → wY_publish_51 post (nI c) (nI T) fl (nI 3) co uq (nI c) (nI q) (nI w) cf ka kb ma mb ow ac dy sy) → (¬ r = -1 → post (-10) (nI c, nI T, fl, nI 3, co, uq, nI c, nI q, nI w, r, ka, kb, ma, mb, ow, ac, dy, sy)) → wpY_publish post (nI c, nI T, fl, nI 3, co, uq, nI c, nI q, nI w, cf, ka, kb, ma, mb, ow, ac, dy, sy) := fun r post hr h1 h2 => by
    refine ybl post (br_t y (br_f x (oi_yls hR hco rfl (fun s hs => ?_) (fun r' hr' => ?_))))
    · unfold oi_vk
      split
      · exact HV s hs
      · exact HM s hs
    · have e := oi_ls_u hr' (oi_ls_congr hr (oi_vk0 H))
      subst e
      exact br_c h1 h2
  refine oi_lsk_iv H (by omega) 0 (fun r sr' hr => br_c (fun v => go sr' (fun post h => yls r post hr (fun _ => h) (fun q => absurd v q))) (fun v => yls r _ hr (fun q => absurd q v) (fun _ => ⟨rfl, oi_mk _ H⟩)))
/-! reading the index -/
/-- the place of a slot's entry is the number of pairs before it -/
theorem oi_rank {R n s : Nat} {dr en : Nat → Int32} (hR : R ≤ 64) (hM : oi_MG (oi_F dr) dr R en n) (hS : oi_so en n) {k : Nat} (hk : k < n) (e : (en k).toInt = (dr s).toInt * 64 + s) : oi_cn (fun j => oi_F dr j && decide ((dr j).toInt * 64 + j < (dr s).toInt * 64 + s)) R = k := by
  rw [← hM (fun x => decide (x < (dr s).toInt * 64 + s))]
  refine oi_cn_cut (Nat.le_of_lt hk) (fun i hi => ?_) (fun i a b => ?_)
  · have := oi_mg_lt hM hS hR hi hk
    simp; omega
  · have : (en k).toInt ≤ (en i).toInt := by
      rcases Nat.eq_or_lt_of_le a with z | z
      · rw [z]; exact Int.le_refl _
      · exact hS k i z b
    simp; omega
theorem oi_lbc {R n : Nat} {dr en : Nat → Int32} (hM : oi_MG (oi_F dr) dr R en n) {x : Int} {r : Nat} (r1 : r ≤ n) (r2 : ∀ i, i < r → (en i).toInt < x) (r3 : ∀ i, r ≤ i → i < n → x ≤ (en i).toInt) : r = oi_cn (fun s => oi_F dr s && decide ((dr s).toInt * 64 + s < x)) R := by
  rw [← hM (fun y => decide (y < x))]
  refine (oi_cn_cut r1 (fun i hi => ?_) (fun i a b => ?_)).symm
  · have := r2 i hi
    simp; omega
  · have := r3 i a b
    simp; omega
section
variable {fr : Int32} {ft : Int32} {fl : Int32} {rm : Int64} {pr : Int64} {lk : Int64} {ph : Int32} {co : Int32} {uq : Int32} {cu : Int32} {sp : Int32} {su : Int32} {cf : Int32} {lg : Int64} {bl : Int32} {ec : Int32} {ka : Nat → Int32} {kb : Nat → Int32} {ma : Nat → Int32} {mb : Nat → Int32} {ow : Nat → Int32} {ac : Nat → Int32} {od : Nat → Int64} {dr : Nat → Int32} {sd : Nat → Int32} {en : Nat → Int32} {sr : Nat → Int32}
variable {dy : Nat → Int32} {sy : Nat → Int32}
variable {R T p c q w n : Nat}
/-- both bounds given: the entries between them -/
theorem oi_ic34 {post : Int32 → Prop} {x z : Int32} (hR : R ≤ 64) (hD : ∀ s, s < R → oi_V (dr s)) (hM : oi_MG (oi_F dr) dr R en n) (hS : oi_so en n) (hx : 0 ≤ x.toInt) (hz : z.toInt ≤ 999) (K : post (nI (oi_cn (fun s => oi_F dr s && (decide (x.toInt ≤ (dr s).toInt) && decide ((dr s).toInt ≤ z.toInt))) R))) : wX_indexCount_34 post x z fr ft fl rm pr lk ph co uq cu sp su cf lg bl (nI n) ka kb ma mb ow ac od dr sd en sr := by
  have hn : n ≤ 64 := Nat.le_trans (oi_mg_le hM) hR
  unfold wX_indexCount_34
  refine br_c (fun h => ?_) (fun h => ?_)
  · have h' := Int32.le_iff_toInt_le.mp h
    obtain ⟨a, ha, rfl⟩ := nI_of (x := x) (fun q => by have := oi_lt0.mp q; omega)
    obtain ⟨b, hb, rfl⟩ := nI_of (x := z) (fun q => by have := oi_lt0.mp q; omega)
    rw [nI_toInt ha] at h' K
    rw [nI_toInt hb] at h' hz K
    have ea : nI a * 64 = nI (a * 64) := pk_mul a 64
    have eb : (nI b + 1) * 64 = nI ((b + 1) * 64) := by rw [nI_1]; exact pk_mul (b + 1) 64
    obtain ⟨r, r1, r2, r3, r4⟩ := oi_lb (fr := fr) (ft := ft) (fl := fl) (rm := rm) (pr := pr) (lk := lk) (ph := ph) (co := co) (uq := uq) (cu := cu) (sp := sp) (su := su) (cf := cf) (lg := lg) (bl := bl) (ka := ka) (kb := kb) (ma := ma) (mb := mb) (ow := ow) (ac := ac) (od := od) (dr := dr) (sd := sd) (sr := sr) (nI (a * 64)) hn hS
    obtain ⟨r', s1, s2, s3, s4⟩ := oi_lb (fr := fr) (ft := ft) (fl := fl) (rm := rm) (pr := pr) (lk := lk) (ph := ph) (co := co) (uq := uq) (cu := cu) (sp := sp) (su := su) (cf := cf) (lg := lg) (bl := bl) (ka := ka) (kb := kb) (ma := ma) (mb := mb) (ow := ow) (ac := ac) (od := od) (dr := dr) (sd := sd) (sr := sr) (nI ((b + 1) * 64)) hn hS
    rw [nI_toInt (by omega)] at r2 r3 s2 s3
    have c1 := oi_lbc hM r1 r2 r3
    have c2 := oi_lbc hM s1 s2 s3
    have c3 := oi_cn_add (P := fun s => oi_F dr s && decide ((dr s).toInt * 64 + s < (((b + 1) * 64 : Nat) : Int))) (A := fun s => oi_F dr s && decide ((dr s).toInt * 64 + s < ((a * 64 : Nat) : Int))) (B := fun s => oi_F dr s && (decide ((a : Int) ≤ (dr s).toInt) && decide ((dr s).toInt ≤ (b : Int)))) (n := R) (fun i hi => by
      try dsimp only
      by_cases y : dr i = -1
      · rw [oi_F_f y]; rfl
      · rw [oi_F_t y]
        simp only [Bool.true_and]
        by_cases u : (dr i).toInt < a
        · rw [decide_eq_true (show (dr i).toInt * 64 + (i : Int) < (((b + 1) * 64 : Nat) : Int) by omega), decide_eq_true (show (dr i).toInt * 64 + (i : Int) < ((a * 64 : Nat) : Int) by omega), decide_eq_false (show ¬ (a : Int) ≤ (dr i).toInt by omega)]
          rfl
        · by_cases v : (dr i).toInt ≤ b
          · rw [decide_eq_true (show (dr i).toInt * 64 + (i : Int) < (((b + 1) * 64 : Nat) : Int) by omega), decide_eq_false (show ¬ (dr i).toInt * 64 + (i : Int) < ((a * 64 : Nat) : Int) by omega), decide_eq_true (show (a : Int) ≤ (dr i).toInt by omega), decide_eq_true v]
            rfl
          · rw [decide_eq_false (show ¬ (dr i).toInt * 64 + (i : Int) < (((b + 1) * 64 : Nat) : Int) by omega), decide_eq_false (show ¬ (dr i).toInt * 64 + (i : Int) < ((a * 64 : Nat) : Int) by omega), decide_eq_false v, Bool.and_false]
            rfl)
    rw [ea, eb]
    apply r4
    apply s4
    rw [pk_sub (by omega), show r' - r = oi_cn (fun s => oi_F dr s && (decide ((a : Int) ≤ (dr s).toInt) && decide ((dr s).toInt ≤ (b : Int)))) R by omega]
    exact K
  · have h' := mt Int32.le_iff_toInt_le.mpr h
    rw [oi_cn_false (fun s hs => by
      by_cases u : x.toInt ≤ (dr s).toInt
      · simp [show ¬ (dr s).toInt ≤ z.toInt by omega]
      · simp [u])] at K
    exact K
theorem oi_ic19 {post : Int32 → Prop} {x y : Int32} (hR : R ≤ 64) (hD : ∀ s, s < R → oi_V (dr s)) (hM : oi_MG (oi_F dr) dr R en n) (hS : oi_so en n) (hx : 0 ≤ x.toInt) (K : post (nI (oi_cn (fun s => oi_F dr s && (decide (x.toInt ≤ (dr s).toInt) && decide ((dr s).toInt ≤ y.toInt))) R))) : wX_indexCount_19 post y x fr ft fl rm pr lk ph co uq cu sp su cf lg bl (nI n) ka kb ma mb ow ac od dr sd en sr := by
  unfold wX_indexCount_19
  refine br_c (fun h => oi_ic34 hR hD hM hS hx (oi_le999.mp h) K) (fun h => oi_ic34 hR hD hM hS hx (by decide) ?_)
  have h' := mt oi_le999.mpr h
  rw [oi_cn_congr (Q := fun s => oi_F dr s && (decide (x.toInt ≤ (dr s).toInt) && decide ((dr s).toInt ≤ (999 : Int32).toInt))) (fun s hs => by
    have := (hD s hs).2
    rw [show (999 : Int32).toInt = 999 by decide]
    simp [this, show (dr s).toInt ≤ y.toInt by omega])] at K
  exact K
end
theorem i_vc_indexCount {k : Nat} {u : SX} {v : SY} (I : i_Rel k u v) (hk : k + 5 ≤ 2563) (v1 : Int32) (v2 : Int32) : wpX_indexCount (fun r => wpY_indexCount (fun r' => r' = r ∧ i_Rel (k + 5) u v) v v1 v2) u v1 v2 := by
  refine oi_el (P := fun u v => wpX_indexCount (fun r => wpY_indexCount (fun r' => r' = r ∧ i_Rel (k + 5) u v) v v1 v2) u v1 v2) I ?_
  intro R T p c q w n fl co uq cf bl rm pr lk lg ka kb ma mb ow ac od dr sd en sr dy sy H
  have hR := H.1.2.1
  have hp := H.2.2.2.2.2.1.1
  unfold wpX_indexCount
  refine oi_xread hp (fun a => br_f (by decide) ?_) (fun a => br_t rfl ?_)
  rotate_left
  · unfold wpY_indexCount
    exact pk_eq p 3 (fun y => absurd (Or.inl y) a) (fun _ => pk_eq p 4 (fun y => absurd (Or.inr y) a) (fun _ => ⟨rfl, oi_mk _ H⟩))
  have H0 := H
  obtain ⟨g1, g2, g3, g4, g5, g6, ⟨⟨b1, b2, b3⟩, b4, b5, b6, b7, b8, b9, b10⟩, g8, g9⟩ := H0
  have hc : c = R := b3 (by omega)
  subst hc
  have hS := b9 (by omega)
  refine br_c (fun z => ?_) (fun z => ?_)
  · refine oi_ic19 hR b4 b7 hS ?_ (oi_yic (dr := dr) hR a (oi_iv4 H) (oi_ivd H) ⟨rfl, oi_mk _ H⟩)
    have := Int32.le_iff_toInt_le.mp z
    rw [show (0 : Int32).toInt = 0 by decide] at this
    exact this
  · refine oi_ic19 hR b4 b7 hS (by decide) (oi_yic (dr := dr) hR a (oi_iv4 H) (oi_ivd H) ⟨?_, oi_mk _ H⟩)
    refine congrArg nI (oi_cn_congr (fun s hs => ?_))
    have z' := mt Int32.le_iff_toInt_le.mpr z
    rw [show (0 : Int32).toInt = 0 by decide] at z' ⊢
    by_cases y : dr s = -1
    · rw [oi_F_f y]; rfl
    · obtain ⟨j, hj, e⟩ := oi_Vn (b4 s hs) y
      rw [oi_F_t y, e, nI_toInt (by omega)]
      simp [show v1.toInt ≤ (j : Int) by omega]
theorem i_vc_indexKeyAt {k : Nat} {u : SX} {v : SY} (I : i_Rel k u v) (hk : k + 5 ≤ 2563) (v1 : Int32) : wpX_indexKeyAt (fun r => wpY_indexKeyAt (fun r' => r' = r ∧ i_Rel (k + 5) u v) v v1) u v1 := by
  refine oi_el (P := fun u v => wpX_indexKeyAt (fun r => wpY_indexKeyAt (fun r' => r' = r ∧ i_Rel (k + 5) u v) v v1) u v1) I ?_
  intro R T p c q w n fl co uq cf bl rm pr lk lg ka kb ma mb ow ac od dr sd en sr dy sy H
  have hR := H.1.2.1
  have hp := H.2.2.2.2.2.1.1
  unfold wpX_indexKeyAt
  refine oi_xread hp (fun a => br_f (by decide) ?_) (fun a => br_t rfl ?_)
  rotate_left
  · unfold wpY_indexKeyAt
    exact pk_eq p 3 (fun y => absurd (Or.inl y) a) (fun _ => pk_eq p 4 (fun y => absurd (Or.inr y) a) (fun _ => ⟨rfl, oi_mk _ H⟩))
  have H0 := H
  obtain ⟨g1, g2, g3, g4, g5, g6, ⟨⟨b1, b2, b3⟩, b4, b5, b6, b7, b8, b9, b10⟩, g8, g9⟩ := H0
  have hc : c = R := b3 (by omega)
  subst hc
  have hS := b9 (by omega)
  have hn : n ≤ 64 := Nat.le_trans (oi_mg_le b7) hR
  have y19 : ∀ post : Int32 → Prop, wY_indexKeyAt_19 post v1 (nI c) (nI T) fl (nI p) co uq (nI c) (nI q) (nI w) cf ka kb ma mb ow ac dy sy → wpY_indexKeyAt post (nI c, nI T, fl, nI p, co, uq, nI c, nI q, nI w, cf, ka, kb, ma, mb, ow, ac, dy, sy) v1 := fun post h => by
    unfold wpY_indexKeyAt
    exact pk_eq p 3 (fun _ => h) (fun y => pk_eq p 4 (fun _ => h) (fun x => absurd a (fun q => q.elim y x)))
  have pos : ∀ i, i < c → oi_F dr i = true → nI (oi_cn (fun s => oi_F dr s && decide ((dr s).toInt * 64 + s < (dr i).toInt * 64 + i)) c) = v1 → ∃ j, j < n ∧ v1 = nI j ∧ en j >>> ((6 : Int32) &&& 31) = dr i ∧ en j &&& 63 = nI i := fun i hi hF e => by
    obtain ⟨j, hj, ej⟩ := oi_mg_has b7 hi hF
    rw [oi_rank hR b7 hS hj ej] at e
    have hds : ¬ dr i = -1 := fun q => by rw [oi_F_f q] at hF; exact absurd hF (by decide)
    obtain ⟨u1, u2⟩ := oi_unp (b4 i hi) hds (by omega) ej
    exact ⟨j, hj, e.symm, u1, u2⟩
  have none : (∀ j, j < n → ¬ v1 = nI j) → wpY_indexKeyAt (fun r' => r' = -1 ∧ i_Rel (k + 5) (nI c, nI T, fl, rm, pr, lk, nI p, co, uq, nI c, nI q, nI w, cf, lg, bl, nI n, ka, kb, ma, mb, ow, ac, od, dr, sd, en, sr) (nI c, nI T, fl, nI p, co, uq, nI c, nI q, nI w, cf, ka, kb, ma, mb, ow, ac, dy, sy)) (nI c, nI T, fl, nI p, co, uq, nI c, nI q, nI w, cf, ka, kb, ma, mb, ow, ac, dy, sy) v1 := fun hno => by
    refine y19 _ ?_
    unfold wY_indexKeyAt_19
    refine oi_yps (dr := dr) hR hp (oi_iv4 H) (oi_ivd H) (fun i hi hF e => ?_) (fun _ => br_t rfl ⟨rfl, oi_mk _ H⟩)
    obtain ⟨j, hj, ej, -⟩ := pos i hi hF e
    exact absurd ej (hno j hj)
  refine br_c (fun z => none (fun j hj e => ?_)) (fun z => br_c (fun y => ?_) (fun y => none (fun j hj e => ?_)))
  · rw [e] at z; exact nI_pos (by omega) z
  · obtain ⟨j, hj, rfl⟩ := nI_of z
    have hjn : j < n := Nat.lt_of_not_le fun q => absurd y (nI_nlt q hj)
    refine ⟨vp_in_nI (by omega) (by omega), y19 _ ?_⟩
    rw [nI_clamp hj]
    unfold wY_indexKeyAt_19
    refine oi_yps (dr := dr) hR hp (oi_iv4 H) (oi_ivd H) (fun i hi hF e => ?_) (fun hno => ?_)
    · obtain ⟨j', hj', ej, u1, u2⟩ := pos i hi hF e
      have := (nI_eq hj (by omega)).mp ej
      subst this
      have hne : ¬ nI i = -1 := fun q => by
        have := congrArg Int32.toInt q
        rw [nI_toInt (by omega), oi_m1] at this
        omega
      refine br_f hne (oi_ylive (d := dr i) (by omega) hp (fun q => oi_iv4 H q i hi) (fun q => oi_ivd H q i hi) ⟨?_, oi_mk _ H⟩)
      exact u1.symm
    · obtain ⟨s, hs, hF, e⟩ := oi_mg_mem b7 hjn
      exact absurd (by rw [oi_rank hR b7 hS hjn e]) (hno s hs hF)
  · rw [e] at y; exact y (nI_lt hj (by omega))
theorem i_vc_indexSlotAt {k : Nat} {u : SX} {v : SY} (I : i_Rel k u v) (hk : k + 5 ≤ 2563) (v1 : Int32) : wpX_indexSlotAt (fun r => wpY_indexSlotAt (fun r' => r' = r ∧ i_Rel (k + 5) u v) v v1) u v1 := by
  refine oi_el (P := fun u v => wpX_indexSlotAt (fun r => wpY_indexSlotAt (fun r' => r' = r ∧ i_Rel (k + 5) u v) v v1) u v1) I ?_
  intro R T p c q w n fl co uq cf bl rm pr lk lg ka kb ma mb ow ac od dr sd en sr dy sy H
  have hR := H.1.2.1
  have hp := H.2.2.2.2.2.1.1
  unfold wpX_indexSlotAt
  refine oi_xread hp (fun a => br_f (by decide) ?_) (fun a => br_t rfl ?_)
  rotate_left
  · unfold wpY_indexSlotAt
    exact pk_eq p 3 (fun y => absurd (Or.inl y) a) (fun _ => pk_eq p 4 (fun y => absurd (Or.inr y) a) (fun _ => ⟨rfl, oi_mk _ H⟩))
  have H0 := H
  obtain ⟨g1, g2, g3, g4, g5, g6, ⟨⟨b1, b2, b3⟩, b4, b5, b6, b7, b8, b9, b10⟩, g8, g9⟩ := H0
  have hc : c = R := b3 (by omega)
  subst hc
  have hS := b9 (by omega)
  have hn : n ≤ 64 := Nat.le_trans (oi_mg_le b7) hR
  have y19 : ∀ post : Int32 → Prop, wY_indexSlotAt_19 post v1 (nI c) (nI T) fl (nI p) co uq (nI c) (nI q) (nI w) cf ka kb ma mb ow ac dy sy → wpY_indexSlotAt post (nI c, nI T, fl, nI p, co, uq, nI c, nI q, nI w, cf, ka, kb, ma, mb, ow, ac, dy, sy) v1 := fun post h => by
    unfold wpY_indexSlotAt
    exact pk_eq p 3 (fun _ => h) (fun y => pk_eq p 4 (fun _ => h) (fun x => absurd a (fun q => q.elim y x)))
  have pos : ∀ i, i < c → oi_F dr i = true → nI (oi_cn (fun s => oi_F dr s && decide ((dr s).toInt * 64 + s < (dr i).toInt * 64 + i)) c) = v1 → ∃ j, j < n ∧ v1 = nI j ∧ en j >>> ((6 : Int32) &&& 31) = dr i ∧ en j &&& 63 = nI i := fun i hi hF e => by
    obtain ⟨j, hj, ej⟩ := oi_mg_has b7 hi hF
    rw [oi_rank hR b7 hS hj ej] at e
    have hds : ¬ dr i = -1 := fun q => by rw [oi_F_f q] at hF; exact absurd hF (by decide)
    obtain ⟨u1, u2⟩ := oi_unp (b4 i hi) hds (by omega) ej
    exact ⟨j, hj, e.symm, u1, u2⟩
  have none : (∀ j, j < n → ¬ v1 = nI j) → wpY_indexSlotAt (fun r' => r' = -1 ∧ i_Rel (k + 5) (nI c, nI T, fl, rm, pr, lk, nI p, co, uq, nI c, nI q, nI w, cf, lg, bl, nI n, ka, kb, ma, mb, ow, ac, od, dr, sd, en, sr) (nI c, nI T, fl, nI p, co, uq, nI c, nI q, nI w, cf, ka, kb, ma, mb, ow, ac, dy, sy)) (nI c, nI T, fl, nI p, co, uq, nI c, nI q, nI w, cf, ka, kb, ma, mb, ow, ac, dy, sy) v1 := fun hno => by
    refine y19 _ ?_
    unfold wY_indexSlotAt_19
    refine oi_yps (dr := dr) hR hp (oi_iv4 H) (oi_ivd H) (fun i hi hF e => ?_) (fun _ => ⟨rfl, oi_mk _ H⟩)
    obtain ⟨j, hj, ej, -⟩ := pos i hi hF e
    exact absurd ej (hno j hj)
  refine br_c (fun z => none (fun j hj e => ?_)) (fun z => br_c (fun y => ?_) (fun y => none (fun j hj e => ?_)))
  · rw [e] at z; exact nI_pos (by omega) z
  · obtain ⟨j, hj, rfl⟩ := nI_of z
    have hjn : j < n := Nat.lt_of_not_le fun q => absurd y (nI_nlt q hj)
    refine ⟨vp_in_nI (by omega) (by omega), y19 _ ?_⟩
    rw [nI_clamp hj]
    unfold wY_indexSlotAt_19
    refine oi_yps (dr := dr) hR hp (oi_iv4 H) (oi_ivd H) (fun i hi hF e => ?_) (fun hno => ?_)
    · obtain ⟨j', hj', ej, u1, u2⟩ := pos i hi hF e
      have := (nI_eq hj (by omega)).mp ej
      subst this
      exact ⟨u2.symm, oi_mk _ H⟩
    · obtain ⟨s, hs, hF, e⟩ := oi_mg_mem b7 hjn
      exact absurd (by rw [oi_rank hR b7 hS hjn e]) (hno s hs hF)
  · rw [e] at y; exact y (nI_lt hj (by omega))
end
section
/-! crash: the saved build taken again -/
section
variable {fr : Int32} {ft : Int32} {fl : Int32} {rm : Int64} {pr : Int64} {lk : Int64} {ph : Int32} {co : Int32} {uq : Int32} {cu : Int32} {sp : Int32} {su : Int32} {cf : Int32} {lg : Int64} {bl : Int32} {ec : Int32} {ka : Nat → Int32} {kb : Nat → Int32} {ma : Nat → Int32} {mb : Nat → Int32} {ow : Nat → Int32} {ac : Nat → Int32} {od : Nat → Int64} {dr : Nat → Int32} {sd : Nat → Int32} {en : Nat → Int32} {sr : Nat → Int32}
variable {dy : Nat → Int32} {sy : Nat → Int32}
variable {R T p c q w n : Nat}
theorem oi_rs_loop {post : SX → Prop} (hR : R ≤ 64) (hw : w ≤ R) (hq : q ≤ 3) (hVs : ∀ s, s < R → oi_V (sd s))
    (K : ∀ (n' : Nat) (lg' : Int64) (bl' : Int32) (en' sr' : Nat → Int32), oi_MG (oi_F (fun j => if j < R then sd j else dr j)) (fun j => if j < R then sd j else dr j) w en' n' → (q ≤ 2 → oi_rn 8 en' n') → (3 ≤ q → oi_so en' n') → (∀ j, oi_b lg' j = (decide (j < w) && oi_lag (fun j => if j < R then sd j else dr j) (oi_ky co ka kb) j)) → bl' = nI (oi_cn (oi_lag (fun j => if j < R then sd j else dr j) (oi_ky co ka kb)) w) → post (nI R, ft, fl, rm, pr, lk, nI q, co, uq, nI w, sp, su, cf, lg', bl', nI n', ka, kb, ma, mb, ow, ac, od, fun j => if j < R then sd j else dr j, sd, en', sr')) :
    ∀ (f s n : Nat) (lg : Int64) (bl : Int32) (en : Nat → Int32), s ≤ R → R - s < f → oi_MG (oi_F (fun j => if j < s then sd j else dr j)) (fun j => if j < s then sd j else dr j) (min s w) en n → oi_rn 8 en n → (∀ j, oi_b lg j = (decide (j < min s w) && oi_lag (fun j => if j < s then sd j else dr j) (oi_ky co ka kb) j)) → bl = nI (oi_cn (oi_lag (fun j => if j < s then sd j else dr j) (oi_ky co ka kb)) (min s w)) → wX_restoreBuild_33 post f (nI s) (nI R) ft fl rm pr lk (nI q) co uq (nI w) sp su cf lg bl (nI n) ka kb ma mb ow ac od (fun j => if j < s then sd j else dr j) sd en sr := by
  intro f
  induction f with
  | zero => intro s n lg bl en _ h; exact absurd h (Nat.not_lt_zero _)
  | succ f ih =>
    intro s n lg bl en h1 h2 h3 h4 h5 h6
    rw [wX_restoreBuild_33]
    refine pk_le R s (fun z => ?_) (fun z => ?_)
    · have e : s = R := by omega
      subst e
      rw [Nat.min_eq_right hw] at h3 h5 h6
      refine pk_eq q 3 (fun y => ?_) (fun y => ?_)
      · exact oi_mergeRuns (by omega) h3 h4 (fun en' sr' k1 k2 => K n lg bl en' sr' k1 (fun x => absurd x (by omega)) (fun _ => k2) h5 h6)
      · exact K n lg bl en sr h3 (fun _ => h4) (fun x => absurd x (by omega)) h5 h6
    · have hv : vp_in (nI s) 64 := vp_in_nI (by omega) (by omega)
      have hc : (nI s).toNatClampNeg = s := nI_clamp (by omega)
      have hd : ∀ j, j < s → (fun j => if j < s + 1 then sd j else dr j) j = (fun j => if j < s then sd j else dr j) j := fun j hj => by
        simp only [if_pos hj, if_pos (show j < s + 1 by omega)]
      have hF : ∀ j, j < s → oi_F (fun j => if j < s + 1 then sd j else dr j) j = oi_F (fun j => if j < s then sd j else dr j) j := fun j hj => by
        unfold oi_F; rw [hd j hj]
      have hL : ∀ j, j < s → oi_lag (fun j => if j < s + 1 then sd j else dr j) (oi_ky co ka kb) j = oi_lag (fun j => if j < s then sd j else dr j) (oi_ky co ka kb) j := fun j hj => by
        unfold oi_lag; rw [hd j hj]
      refine ⟨hv, hv, nm_r (oi_cpc (x := sd) (y := dr) (by omega)) (pk_le w s (fun y => ?_) (fun y => ?_))⟩
      · rw [Nat.min_eq_right y] at h3 h5 h6
        refine nm_r (nI_1 s) (ih (s + 1) n lg bl en (by omega) (by omega) ?_ h4 ?_ ?_)
        · rw [Nat.min_eq_right (by omega)]
          exact oi_mg_congr h3 (fun j hj => hF j (by omega)) (fun j hj _ => hd j (by omega))
        · rw [Nat.min_eq_right (by omega)]
          intro j
          rw [h5 j]
          by_cases x : j < w
          · rw [hL j (by omega)]
          · simp [x]
        · rw [Nat.min_eq_right (by omega), h6]
          exact congrArg nI (oi_cn_congr (fun j hj => (hL j (by omega)).symm))
      · rw [Nat.min_eq_left (Nat.le_of_lt y)] at h3 h5 h6
        have e1 : (fun j => if j < s + 1 then sd j else dr j) (nI s).toNatClampNeg = sd s := by
          rw [hc]; simp only [if_pos (show s < s + 1 by omega)]
        refine ⟨hv, ?_⟩
        rw [e1]
        refine oi_addToRun (by omega) (hVs s z) (by simp only [if_pos (show s < s + 1 by omega)]) (oi_mg_congr h3 hF (fun j hj _ => hd j hj)) h4 (fun n' en' k1 k2 => ?_)
        refine oi_noteLag (c := s + 1) (L0 := fun j => decide (j < s) && oi_lag (fun j => if j < s then sd j else dr j) (oi_ky co ka kb) j) (by omega) (by omega) (fun j => ?_) ?_ (fun j hj hj2 => ?_) (fun lg' bl' k3 k4 => nm_r (nI_1 s) (ih (s + 1) n' lg' bl' en' (by omega) (by omega) ?_ k2 ?_ ?_))
        · rw [h5 j]
          by_cases x : j < s
          · simp [x, show j < s + 1 by omega]
          · simp [x]
        · rw [h6, oi_cn_s]
          refine congrArg nI ?_
          rw [oi_cn_congr (P := fun j => decide (j < s) && oi_lag (fun j => if j < s then sd j else dr j) (oi_ky co ka kb) j) (Q := oi_lag (fun j => if j < s then sd j else dr j) (oi_ky co ka kb)) (fun j hj => by simp [hj])]
          simp
        · have x : j < s := by omega
          rw [hL j x]; simp [x]
        · rw [Nat.min_eq_left (by omega)]; exact k1
        · rw [Nat.min_eq_left (by omega)]; exact k3
        · rw [Nat.min_eq_left (by omega)]; exact k4
theorem oi_restore {post : SX → Prop} (hR : R ≤ 64) (hw : w ≤ R) (hq : q ≤ 3) (hVs : ∀ s, s < R → oi_V (sd s))
    (K : ∀ (n' : Nat) (lg' : Int64) (bl' : Int32) (en' sr' : Nat → Int32), oi_MG (oi_F (fun j => if j < R then sd j else dr j)) (fun j => if j < R then sd j else dr j) w en' n' → (q ≤ 2 → oi_rn 8 en' n') → (3 ≤ q → oi_so en' n') → (∀ j, oi_b lg' j = (decide (j < w) && oi_lag (fun j => if j < R then sd j else dr j) (oi_ky co ka kb) j)) → bl' = nI (oi_cn (oi_lag (fun j => if j < R then sd j else dr j) (oi_ky co ka kb)) w) → post (nI R, ft, fl, rm, pr, lk, nI q, co, uq, nI w, nI q, nI w, cf, lg', bl', nI n', ka, kb, ma, mb, ow, ac, od, fun j => if j < R then sd j else dr j, sd, en', sr')) : wpX_restoreBuild post (nI R, ft, fl, rm, pr, lk, ph, co, uq, cu, nI q, nI w, cf, lg, bl, ec, ka, kb, ma, mb, ow, ac, od, dr, sd, en, sr) := by
  have L := oi_rs_loop (ft := ft) (fl := fl) (rm := rm) (pr := pr) (lk := lk) (co := co) (uq := uq) (sp := nI q) (su := nI w) (cf := cf) (ka := ka) (kb := kb) (ma := ma) (mb := mb) (ow := ow) (ac := ac) (od := od) (dr := dr) (sd := sd) (sr := sr) (R := R) (q := q) (w := w) (post := post) hR hw hq hVs K 65 0 0 0 (nI 0) en (by omega) (by omega) (by rw [Nat.zero_min]; exact oi_mg_0 _ _ _) (fun i j _ h => absurd h (Nat.not_lt_zero j)) (fun j => by rw [oi_b_0]; simp) (by rw [Nat.zero_min, oi_cn_0])
  rw [oi_cp0 sd dr, nI_0] at L
  unfold wpX_restoreBuild
  exact ⟨65, L⟩
theorem oi_iv_rs {n' : Nat} {lg' : Int64} {bl' : Int32} {en' : Nat → Int32} (H : oi_IV R T p c q w n co bl rm pr lk lg ka kb ma mb ow od dr sd en dy sy) (h1 : 1 ≤ p) (h2 : p ≤ 3) (k1 : oi_MG (oi_F (fun j => if j < R then sd j else dr j)) (fun j => if j < R then sd j else dr j) w en' n') (k2 : q ≤ 2 → oi_rn 8 en' n') (k3 : 3 ≤ q → oi_so en' n') (k4 : ∀ j, oi_b lg' j = (decide (j < w) && oi_lag (fun j => if j < R then sd j else dr j) (oi_ky co ka kb) j)) (k5 : bl' = nI (oi_cn (oi_lag (fun j => if j < R then sd j else dr j) (oi_ky co ka kb)) w)) : oi_IV R T q w q w n' co bl' rm pr lk lg' ka kb ma mb ow od (fun j => if j < R then sd j else dr j) sd en' (fun j => if j < R then sy j else dy j) sy := by
  obtain ⟨g1, g2, g3, g4, g5, g6, g7, g8, g9⟩ := H
  obtain ⟨q1, q2, q3⟩ := g6.2.2.2.2 h1 h2
  refine ⟨g1, g2, g3, g4, g5, ⟨by omega, fun _ => g6.2.1 (by omega), by omega, g6.2.2.2.1, fun _ _ => ⟨q1, q2, q3⟩⟩, ⟨⟨g6.2.2.2.1, fun e => absurd e (by omega), q3⟩, fun s hs => ?_, k4, k5, k1, k2, k3, fun e => absurd e (by omega)⟩, g8, fun _ s hs => ?_⟩
  · simp only [if_pos hs]; exact (g8 s hs).1
  · simp only [if_pos hs]; exact (g8 s hs).2
/-! all transactions undone -/
theorem oi_own {T x : Nat} {o : Int32} (hT : T ≤ 8) (hx : x ≤ T) (e : o = nI x) : o.toInt = x := by rw [e, nI_toInt (by omega)]
theorem oi_gs {t : Nat} (H : ∀ s, s < R → ∃ x, x ≤ T ∧ ow s = nI x) (hT : T ≤ 8) (ht1 : 1 ≤ t) (ht : t ≤ T) (x y : Nat → Int32) : (fun s => if (decide (s < R) && decide ((fun s => if (decide (s < R) && (decide (1 ≤ (ow s).toInt) && decide ((ow s).toInt < (t : Nat)))) = true then 0 else ow s) s = nI t)) = true then x s else (fun s => if (decide (s < R) && (decide (1 ≤ (ow s).toInt) && decide ((ow s).toInt < (t : Nat)))) = true then x s else y s) s) = fun s => if (decide (s < R) && (decide (1 ≤ (ow s).toInt) && decide ((ow s).toInt < (t + 1 : Nat)))) = true then x s else y s := by
  funext s
  by_cases hs : s < R
  · obtain ⟨v, hv, e⟩ := H s hs
    have e1 := oi_own hT hv e
    have hz : ¬ (0 : Int32) = nI t := fun q => by
      have := oi_nn (a := 0) (b := t) (by omega) (by omega) q
      omega
    by_cases g : 1 ≤ v ∧ v < t
    · have a1 : (decide (s < R) && (decide (1 ≤ (ow s).toInt) && decide ((ow s).toInt < (t : Nat)))) = true := by rw [e1]; simp [hs]; omega
      have a2 : (decide (s < R) && (decide (1 ≤ (ow s).toInt) && decide ((ow s).toInt < (t + 1 : Nat)))) = true := by rw [e1]; simp [hs]; omega
      simp only [if_pos a1, if_pos a2]
      simp
    · have a1 : ¬ (decide (s < R) && (decide (1 ≤ (ow s).toInt) && decide ((ow s).toInt < (t : Nat)))) = true := by rw [e1]; simp [hs]; omega
      simp only [if_neg a1]
      by_cases g2 : v = t
      · have a2 : (decide (s < R) && (decide (1 ≤ (ow s).toInt) && decide ((ow s).toInt < (t + 1 : Nat)))) = true := by rw [e1]; simp [hs]; omega
        rw [if_pos a2, if_pos]
        rw [e, g2]; simp [hs]
      · have a2 : ¬ (decide (s < R) && (decide (1 ≤ (ow s).toInt) && decide ((ow s).toInt < (t + 1 : Nat)))) = true := by rw [e1]; simp [hs]; omega
        have a3 : ¬ nI v = nI t := fun q => g2 (oi_nn (by omega) (by omega) q)
        rw [if_neg a2, if_neg]
        rw [e]; simp [a3]
  · simp [hs]
theorem oi_g1 (x y : Nat → Int32) : (fun s => if (decide (s < R) && (decide (1 ≤ (ow s).toInt) && decide ((ow s).toInt < (1 : Nat)))) = true then x s else y s) = y := by
  funext s
  have : ¬ (decide (s < R) && (decide (1 ≤ (ow s).toInt) && decide ((ow s).toInt < (1 : Nat)))) = true := by simp
  rw [if_neg this]
theorem oi_gT (H : ∀ s, s < R → ∃ x, x ≤ T ∧ ow s = nI x) (hT : T ≤ 8) (x y : Nat → Int32) : (fun s => if (decide (s < R) && (decide (1 ≤ (ow s).toInt) && decide ((ow s).toInt < (T + 1 : Nat)))) = true then x s else y s) = fun s => if (decide (s < R) && !decide (ow s = 0)) = true then x s else y s := by
  funext s
  by_cases hs : s < R
  · obtain ⟨v, hv, e⟩ := H s hs
    have e1 := oi_own hT hv e
    by_cases z : ow s = 0
    · have e2 : v = 0 := oi_nn (by omega) (by omega) (e.symm.trans z)
      rw [if_neg (by rw [e1]; simp; omega), if_neg (by simp [z])]
    · have e2 : v ≠ 0 := fun q => z (by rw [e, q]; rfl)
      rw [if_pos (by rw [e1]; simp [hs]; omega), if_pos (by simp [hs, z])]
  · simp [hs]
theorem oi_xcr {post : SX → Prop} (hO : ∀ s, s < R → ∃ x, x ≤ T ∧ ow s = nI x) (hT : T ≤ 8) (hp : p ≤ 4)
    (K : ∀ (pr' lk' lg' : Int64) (bl' : Int32) (n' : Nat) (od' : Nat → Int64) (dr' en' : Nat → Int32), oi_IV R T p c q w n' co bl' rm pr' lk' lg' (fun s => if (decide (s < R) && !decide (ow s = 0)) = true then ma s else ka s) (fun s => if (decide (s < R) && !decide (ow s = 0)) = true then mb s else kb s) ma mb (fun s => if (decide (s < R) && !decide (ow s = 0)) = true then 0 else ow s) od' dr' sd en' dy sy → (¬ (1 ≤ p ∧ p ≤ 3) → post (nI R, nI T, fl, rm, pr', lk', nI p, co, uq, nI c, nI q, nI w, -1, lg', bl', nI n', fun s => if (decide (s < R) && !decide (ow s = 0)) = true then ma s else ka s, fun s => if (decide (s < R) && !decide (ow s = 0)) = true then mb s else kb s, ma, mb, fun s => if (decide (s < R) && !decide (ow s = 0)) = true then 0 else ow s, fun j => if (decide (1 ≤ j) && decide (j < T + 1)) = true then 0 else ac j, od', dr', sd, en', sr)) ∧ (1 ≤ p ∧ p ≤ 3 → ∀ Q : SX → Prop, (∀ u, post u → Q u) → wpX_restoreBuild Q (nI R, nI T, fl, rm, pr', lk', nI p, co, uq, nI c, nI q, nI w, -1, lg', bl', nI n', fun s => if (decide (s < R) && !decide (ow s = 0)) = true then ma s else ka s, fun s => if (decide (s < R) && !decide (ow s = 0)) = true then mb s else kb s, ma, mb, fun s => if (decide (s < R) && !decide (ow s = 0)) = true then 0 else ow s, fun j => if (decide (1 ≤ j) && decide (j < T + 1)) = true then 0 else ac j, od', dr', sd, en', sr))) :
    ∀ (f t n : Nat) (pr lk lg : Int64) (bl : Int32) (od : Nat → Int64) (dr en : Nat → Int32), 1 ≤ t → t ≤ T + 1 → T + 1 - t < f → oi_IV R T p c q w n co bl rm pr lk lg (fun s => if (decide (s < R) && (decide (1 ≤ (ow s).toInt) && decide ((ow s).toInt < (t : Nat)))) = true then ma s else ka s) (fun s => if (decide (s < R) && (decide (1 ≤ (ow s).toInt) && decide ((ow s).toInt < (t : Nat)))) = true then mb s else kb s) ma mb (fun s => if (decide (s < R) && (decide (1 ≤ (ow s).toInt) && decide ((ow s).toInt < (t : Nat)))) = true then 0 else ow s) od dr sd en dy sy → wX_crash_2 post f (nI t) (nI R) (nI T) fl rm pr lk (nI p) co uq (nI c) (nI q) (nI w) cf lg bl (nI n) (fun s => if (decide (s < R) && (decide (1 ≤ (ow s).toInt) && decide ((ow s).toInt < (t : Nat)))) = true then ma s else ka s) (fun s => if (decide (s < R) && (decide (1 ≤ (ow s).toInt) && decide ((ow s).toInt < (t : Nat)))) = true then mb s else kb s) ma mb (fun s => if (decide (s < R) && (decide (1 ≤ (ow s).toInt) && decide ((ow s).toInt < (t : Nat)))) = true then 0 else ow s) (fun j => if (decide (1 ≤ j) && decide (j < t)) = true then 0 else ac j) od dr sd en sr := by
  intro f
  induction f with
  | zero => intro t n pr lk lg bl od dr en _ _ h; exact absurd h (Nat.not_lt_zero _)
  | succ f ih =>
    intro t n pr lk lg bl od dr en h1 h2 h3 H
    rw [wX_crash_2]
    refine pk_lt T t (fun z => ?_) (fun z => ?_)
    · have e : t = T + 1 := by omega
      subst e
      rw [oi_gT hO hT ma ka, oi_gT hO hT mb kb, oi_gT hO hT (fun _ => 0) ow] at H ⊢
      obtain ⟨K0, K1⟩ := K pr lk lg bl n od dr en H
      refine oi_xbld hp (fun a => br_f (by decide) (K1 a _ (fun u hu => ?_))) (fun a => br_t rfl (K0 a))
      match u, hu with
      | (fr, ft, fl, rm, pr, lk, ph, co, uq, cu, sp, su, cf, lg, bl, ec, ka, kb, ma, mb, ow, ac, od, dr, sd, en, sr), hu => exact hu
    · refine oi_undo_iv H h1 z (fun pr' lk' lg' bl' n' dr' en' H' _ => nm_r (nI_1 t) ?_)
      rw [oi_gs hO hT h1 z ma ka, oi_gs hO hT h1 z mb kb, oi_gs hO hT h1 z (fun _ => 0) ow] at H' ⊢
      rw [oi_scs (c := 1) (s := t) (x := fun _ => 0) (y := ac) h1]
      exact ih (t + 1) n' pr' lk' lg' bl' _ dr' en' (by omega) (by omega) (by omega) H'
/-! the reference's crash -/
theorem oi_ycr100 {post : SY → Prop} (hR : R ≤ 64) (K : post (nI R, ft, fl, ph, co, uq, cu, sp, su, cf, ka, kb, ma, mb, ow, ac, fun j => if j < R then sy j else dy j, sy)) : ∀ (f i : Nat), i ≤ R → R - i < f → wY_crash_100 post (nI R) ft fl ph co uq cu sp su cf f (nI i) ka kb ma mb ow ac (fun j => if j < i then sy j else dy j) sy := by
  intro f
  induction f with
  | zero => intro i _ h; exact absurd h (Nat.not_lt_zero _)
  | succ f ih =>
    intro i h1 h2
    rw [wY_crash_100]
    refine pk_le R i (fun z => ?_) (fun z => ?_)
    · have e : i = R := by omega
      subst e
      exact K
    · have hv : vp_in (nI i) 64 := vp_in_nI (by omega) (by omega)
      exact ⟨hv, hv, nm_r (oi_cpc (x := sy) (y := dy) (by omega)) (nm_r (nI_1 i) (ih (i + 1) (by omega) (by omega)))⟩
theorem oi_ycr32 {post : SY → Prop} (hR : R ≤ 64) (hT : T ≤ 8) (hp : p ≤ 4) (K0 : ¬ (1 ≤ p ∧ p ≤ 3) → post (nI R, nI T, fl, nI p, co, uq, nI c, nI q, nI w, -1, ka, kb, ma, mb, ow, fun j => if (decide (1 ≤ j) && decide (j < T + 1)) = true then 0 else ac j, dy, sy)) (K1 : 1 ≤ p ∧ p ≤ 3 → post (nI R, nI T, fl, nI q, co, uq, nI w, nI q, nI w, -1, ka, kb, ma, mb, ow, fun j => if (decide (1 ≤ j) && decide (j < T + 1)) = true then 0 else ac j, fun j => if j < R then sy j else dy j, sy)) : ∀ (f t : Nat), 1 ≤ t → t ≤ T + 1 → T + 1 - t < f → wY_crash_32 post (nI R) (nI T) fl (nI p) co uq (nI c) (nI q) (nI w) cf f (nI t) ka kb ma mb ow (fun j => if (decide (1 ≤ j) && decide (j < t)) = true then 0 else ac j) dy sy := by
  intro f
  induction f with
  | zero => intro t _ _ h; exact absurd h (Nat.not_lt_zero _)
  | succ f ih =>
    intro t h1 h2 h3
    rw [wY_crash_32]
    refine pk_lt T t (fun z => ?_) (fun z => ?_)
    · have e : t = T + 1 := by omega
      subst e
      have y82 : 1 ≤ p ∧ p ≤ 3 → wY_crash_82 post (nI R) (nI T) fl (nI p) co uq (nI c) (nI q) (nI w) (-1) ka kb ma mb ow (fun j => if (decide (1 ≤ j) && decide (j < T + 1)) = true then 0 else ac j) dy sy := fun a => by
        unfold wY_crash_82
        have M := oi_ycr100 (ft := nI T) (fl := fl) (ph := nI q) (co := co) (uq := uq) (cu := nI w) (sp := nI q) (su := nI w) (cf := -1) (ka := ka) (kb := kb) (ma := ma) (mb := mb) (ow := ow) (ac := fun j => if (decide (1 ≤ j) && decide (j < T + 1)) = true then 0 else ac j) (dy := dy) (sy := sy) (R := R) (post := post) hR (K1 a) 65 0 (by omega) (by omega)
        rw [oi_cp0 sy dy, nI_0] at M
        exact ⟨65, M⟩
      exact pk_eq p 1 (fun y => y82 (by omega)) (fun y => pk_eq p 2 (fun x => y82 (by omega)) (fun x => pk_eq p 3 (fun v => y82 (by omega)) (fun v => K0 (by omega))))
    · have hv : vp_in (nI t) 9 := vp_in_nI (by omega) (by omega)
      have hc : (nI t).toNatClampNeg = t := nI_clamp (by omega)
      refine ⟨hv, nm_r (e' := fun j => if (decide (1 ≤ j) && decide (j < t + 1)) = true then 0 else ac j) ?_ (nm_r (nI_1 t) (ih (t + 1) (by omega) (by omega) (by omega)))⟩
      rw [hc]
      exact oi_scs (c := 1) (s := t) (x := fun _ => 0) (y := ac) h1
theorem oi_ycr2 {post : SY → Prop} (hR : R ≤ 64) (hT : T ≤ 8) (hp : p ≤ 4) (K0 : ¬ (1 ≤ p ∧ p ≤ 3) → post (nI R, nI T, fl, nI p, co, uq, nI c, nI q, nI w, -1, fun s => if (decide (s < R) && !decide (ow s = 0)) = true then ma s else ka s, fun s => if (decide (s < R) && !decide (ow s = 0)) = true then mb s else kb s, ma, mb, fun s => if (decide (s < R) && !decide (ow s = 0)) = true then 0 else ow s, fun j => if (decide (1 ≤ j) && decide (j < T + 1)) = true then 0 else ac j, dy, sy)) (K1 : 1 ≤ p ∧ p ≤ 3 → post (nI R, nI T, fl, nI q, co, uq, nI w, nI q, nI w, -1, fun s => if (decide (s < R) && !decide (ow s = 0)) = true then ma s else ka s, fun s => if (decide (s < R) && !decide (ow s = 0)) = true then mb s else kb s, ma, mb, fun s => if (decide (s < R) && !decide (ow s = 0)) = true then 0 else ow s, fun j => if (decide (1 ≤ j) && decide (j < T + 1)) = true then 0 else ac j, fun j => if j < R then sy j else dy j, sy)) : ∀ (f i : Nat), i ≤ R → R - i < f → wY_crash_2 post f (nI i) (nI R) (nI T) fl (nI p) co uq (nI c) (nI q) (nI w) cf (fun s => if (decide (s < i) && !decide (ow s = 0)) = true then ma s else ka s) (fun s => if (decide (s < i) && !decide (ow s = 0)) = true then mb s else kb s) ma mb (fun s => if (decide (s < i) && !decide (ow s = 0)) = true then 0 else ow s) ac dy sy := by
  intro f
  induction f with
  | zero => intro i _ h; exact absurd h (Nat.not_lt_zero _)
  | succ f ih =>
    intro i h1 h2
    rw [wY_crash_2]
    refine pk_le R i (fun z => ?_) (fun z => ?_)
    · have e : i = R := by omega
      subst e
      have M := oi_ycr32 (R := i) (T := T) (p := p) (c := c) (q := q) (w := w) (fl := fl) (co := co) (uq := uq) (cf := cf) (ma := ma) (mb := mb) (ac := ac) (dy := dy) (sy := sy) (post := post) hR hT hp K0 K1 10 1 (by omega) (by omega) (by omega)
      rw [oi_sc0 1 (fun _ => 0) ac] at M
      exact ⟨10, M⟩
    · have hv : vp_in (nI i) 64 := vp_in_nI (by omega) (by omega)
      have hc : (nI i).toNatClampNeg = i := nI_clamp (by omega)
      have e0 : (fun s => if (decide (s < i) && !decide (ow s = 0)) = true then 0 else ow s) (nI i).toNatClampNeg = ow i := by rw [hc]; simp
      have eT : ¬ ow i = 0 → ∀ x y : Nat → Int32, upd (fun s => if (decide (s < i) && !decide (ow s = 0)) = true then x s else y s) (nI i).toNatClampNeg (x (nI i).toNatClampNeg) = fun s => if (decide (s < i + 1) && !decide (ow s = 0)) = true then x s else y s := fun e x y => by
        rw [hc]
        funext j
        by_cases u : j = i
        · subst u; rw [pk_us]; simp [e]
        · rw [pk_un u]
          by_cases v : j < i
          · simp [v, show j < i + 1 by omega]
          · simp [v, show ¬ j < i + 1 by omega]
      have eN : ow i = 0 → ∀ x y : Nat → Int32, (fun s => if (decide (s < i) && !decide (ow s = 0)) = true then x s else y s) = fun s => if (decide (s < i + 1) && !decide (ow s = 0)) = true then x s else y s := fun e x y => by
        funext j
        by_cases u : j = i
        · subst u; simp [e]
        · by_cases v : j < i
          · simp [v, show j < i + 1 by omega]
          · simp [v, show ¬ j < i + 1 by omega]
      have IH := ih (i + 1) (by omega) (by omega)
      refine ⟨hv, ?_⟩
      rw [e0]
      refine br_c (fun y => nm_r (nI_1 i) ?_) (fun y => ?_)
      · rw [eN y ma ka, eN y mb kb, eN y (fun _ => 0) ow]
        exact IH
      · unfold wpY_undo
        exact ⟨hv, hv, nm_r (eT y ma ka) ⟨hv, hv, nm_r (eT y mb kb) ⟨hv, nm_r (eT y (fun _ => 0) ow) (nm_r (nI_1 i) IH)⟩⟩⟩
theorem oi_n0 (x y : Nat → Int32) : (fun s => if (decide (s < 0) && !decide (ow s = 0)) = true then x s else y s) = y := by
  funext s; simp
end
theorem i_vc_crash {k : Nat} {u : SX} {v : SY} (I : i_Rel k u v) (hk : k + 5 ≤ 2563) : wpX_crash (fun u' => wpY_crash (fun v' => i_Rel (k + 5) u' v') v) u := by
  refine oi_el (P := fun u v => wpX_crash (fun u' => wpY_crash (fun v' => i_Rel (k + 5) u' v') v) u) I ?_
  intro R T p c q w n fl co uq cf bl rm pr lk lg ka kb ma mb ow ac od dr sd en sr dy sy H
  have hR := H.1.2.1
  have hT := H.1.2.2.2.1
  have hp := H.2.2.2.2.2.1.1
  have hO := H.2.2.1.1
  have yy : ∀ post : SY → Prop, (¬ (1 ≤ p ∧ p ≤ 3) → post (nI R, nI T, fl, nI p, co, uq, nI c, nI q, nI w, -1, fun s => if (decide (s < R) && !decide (ow s = 0)) = true then ma s else ka s, fun s => if (decide (s < R) && !decide (ow s = 0)) = true then mb s else kb s, ma, mb, fun s => if (decide (s < R) && !decide (ow s = 0)) = true then 0 else ow s, fun j => if (decide (1 ≤ j) && decide (j < T + 1)) = true then 0 else ac j, dy, sy)) → (1 ≤ p ∧ p ≤ 3 → post (nI R, nI T, fl, nI q, co, uq, nI w, nI q, nI w, -1, fun s => if (decide (s < R) && !decide (ow s = 0)) = true then ma s else ka s, fun s => if (decide (s < R) && !decide (ow s = 0)) = true then mb s else kb s, ma, mb, fun s => if (decide (s < R) && !decide (ow s = 0)) = true then 0 else ow s, fun j => if (decide (1 ≤ j) && decide (j < T + 1)) = true then 0 else ac j, fun j => if j < R then sy j else dy j, sy)) → wpY_crash post (nI R, nI T, fl, nI p, co, uq, nI c, nI q, nI w, cf, ka, kb, ma, mb, ow, ac, dy, sy) := fun post K0 K1 => by
    have M := oi_ycr2 (cf := cf) (post := post) hR hT hp K0 K1 65 0 (by omega) (by omega)
    rw [oi_n0 ma ka, oi_n0 mb kb, oi_n0 (fun _ => 0) ow, nI_0] at M
    unfold wpY_crash
    exact ⟨65, M⟩
  have L := oi_xcr (R := R) (T := T) (p := p) (c := c) (q := q) (w := w) (fl := fl) (rm := rm) (co := co) (uq := uq) (cf := cf) (ka := ka) (kb := kb) (ma := ma) (mb := mb) (ow := ow) (ac := ac) (sd := sd) (sr := sr) (dy := dy) (sy := sy) (post := fun u' => wpY_crash (fun v' => i_Rel (k + 5) u' v') (nI R, nI T, fl, nI p, co, uq, nI c, nI q, nI w, cf, ka, kb, ma, mb, ow, ac, dy, sy)) hO hT hp (fun pr' lk' lg' bl' n' od' dr' en' H' => ⟨fun a => yy _ (fun _ => oi_mk _ H') (fun b => absurd b a), fun a Q hQ => ?_⟩) 10 1 n pr lk lg bl od dr en (by omega) (by omega) (by omega) (by rw [oi_g1 ma ka, oi_g1 mb kb, oi_g1 (fun _ => 0) ow]; exact H)
  · rw [oi_g1 ma ka, oi_g1 mb kb, oi_g1 (fun _ => 0) ow, oi_sc0 1 (fun _ => 0) ac] at L
    unfold wpX_crash
    exact ⟨10, L⟩
  · have P := H'.2.2.2.2.2.1
    exact oi_restore hR P.2.2.2.1 (P.2.2.2.2 a.1 a.2).2.1 (fun s hs => (H'.2.2.2.2.2.2.2.1 s hs).1) (fun n2 lg2 bl2 en2 sr2 k1 k2 k3 k4 k5 => hQ _ (yy _ (fun b => absurd a b) (fun _ => oi_mk _ (oi_iv_rs H' a.1 a.2 k1 k2 k3 k4 k5))))
end
section
/-! the constructors -/
theorem oi_clamp (x : Int32) (lo hi : Nat) (h : lo ≤ hi) (hh : hi < 2 ^ 31) : ∃ a, lo ≤ a ∧ a ≤ hi ∧ (∀ (u : SX) (post : Int32 → Prop), post (nI a) → wpX_clamp post u x (nI lo) (nI hi)) ∧ (∀ (u : SY) (post : Int32 → Prop), post (nI a) → wpY_clamp post u x (nI lo) (nI hi)) := by
  by_cases z : nI lo ≤ x
  · have h0 : ¬ x < 0 := fun q => by
      have a := oi_lt0.mp q
      have b := Int32.le_iff_toInt_le.mp z
      rw [nI_toInt (by omega)] at b
      omega
    obtain ⟨a, ha, rfl⟩ := nI_of h0
    have h1 := (nI_leI (by omega) ha).mp z
    by_cases y : nI a ≤ nI hi
    · exact ⟨a, h1, (nI_leI ha hh).mp y, fun ((fr, ft, fl, rm, pr, lk, ph, co, uq, cu, sp, su, cf, lg, bl, ec, ka, kb, ma, mb, ow, ac, od, dr, sd, en, sr)) post hp => br_t z (br_t y hp), fun ((fr, ft, fl, ph, co, uq, cu, sp, su, cf, ka, kb, ma, mb, ow, ac, dy, sy)) post hp => br_t z (br_t y hp)⟩
    · exact ⟨hi, h, Nat.le_refl hi, fun ((fr, ft, fl, rm, pr, lk, ph, co, uq, cu, sp, su, cf, lg, bl, ec, ka, kb, ma, mb, ow, ac, od, dr, sd, en, sr)) post hp => br_t z (br_f y hp), fun ((fr, ft, fl, ph, co, uq, cu, sp, su, cf, ka, kb, ma, mb, ow, ac, dy, sy)) post hp => br_t z (br_f y hp)⟩
  · exact ⟨lo, Nat.le_refl lo, h, fun ((fr, ft, fl, rm, pr, lk, ph, co, uq, cu, sp, su, cf, lg, bl, ec, ka, kb, ma, mb, ow, ac, od, dr, sd, en, sr)) post hp => br_f z hp, fun ((fr, ft, fl, ph, co, uq, cu, sp, su, cf, ka, kb, ma, mb, ow, ac, dy, sy)) post hp => br_f z hp⟩
section
variable {fr : Int32} {ft : Int32} {fl : Int32} {rm : Int64} {pr : Int64} {lk : Int64} {ph : Int32} {co : Int32} {uq : Int32} {cu : Int32} {sp : Int32} {su : Int32} {cf : Int32} {lg : Int64} {bl : Int32} {ec : Int32} {ka : Nat → Int32} {kb : Nat → Int32} {ma : Nat → Int32} {mb : Nat → Int32} {ow : Nat → Int32} {ac : Nat → Int32} {od : Nat → Int64} {dr : Nat → Int32} {sd : Nat → Int32} {en : Nat → Int32} {sr : Nat → Int32}
variable {dy : Nat → Int32} {sy : Nat → Int32}
variable {R T p c q w n : Nat}
theorem oi_xin {post : SX → Prop} (K : post (fr, ft, fl, rm, pr, lk, 0, -1, 0, 0, 0, 0, -1, 0, 0, 0, fun j => if j < 64 then -1 else ka j, fun j => if j < 64 then -1 else kb j, fun j => if j < 64 then -1 else ma j, fun j => if j < 64 then -1 else mb j, ow, ac, od, fun j => if j < 64 then -1 else dr j, fun j => if j < 64 then -1 else sd j, en, sr)) : ∀ (f i : Nat), i ≤ 64 → 64 - i < f → wX_init_162 post fr ft fl rm pr lk ph co uq cu sp su cf lg bl ec f (nI i) (fun j => if j < i then -1 else ka j) (fun j => if j < i then -1 else kb j) (fun j => if j < i then -1 else ma j) (fun j => if j < i then -1 else mb j) ow ac od dr sd en sr := by
  intro f
  induction f with
  | zero => intro i _ h; exact absurd h (Nat.not_lt_zero _)
  | succ f ih =>
    intro i h1 h2
    rw [wX_init_162]
    refine pk_le 64 i (fun z => ?_) (fun z => ?_)
    · have e : i = 64 := by omega
      subst e
      exact oi_xclear K
    · have hv : vp_in (nI i) 64 := vp_in_nI (by omega) (by omega)
      exact ⟨hv, nm_r (oi_cpc (x := fun _ => -1) (y := ka) (by omega)) ⟨hv, nm_r (oi_cpc (x := fun _ => -1) (y := kb) (by omega)) ⟨hv, nm_r (oi_cpc (x := fun _ => -1) (y := ma) (by omega)) ⟨hv, nm_r (oi_cpc (x := fun _ => -1) (y := mb) (by omega)) (nm_r (nI_1 i) (ih (i + 1) (by omega) (by omega)))⟩⟩⟩⟩
theorem oi_yin {post : SY → Prop} (K : post (fr, ft, fl, 0, -1, 0, 0, 0, 0, -1, fun j => if j < 64 then -1 else ka j, fun j => if j < 64 then -1 else kb j, fun j => if j < 64 then -1 else ma j, fun j => if j < 64 then -1 else mb j, ow, ac, fun j => if j < 64 then -1 else dy j, fun j => if j < 64 then -1 else sy j)) : ∀ (f i : Nat), i ≤ 64 → 64 - i < f → wY_init_107 post fr ft fl ph co uq cu sp su cf f (nI i) (fun j => if j < i then -1 else ka j) (fun j => if j < i then -1 else kb j) (fun j => if j < i then -1 else ma j) (fun j => if j < i then -1 else mb j) ow ac dy sy := by
  intro f
  induction f with
  | zero => intro i _ h; exact absurd h (Nat.not_lt_zero _)
  | succ f ih =>
    intro i h1 h2
    rw [wY_init_107]
    refine pk_le 64 i (fun z => ?_) (fun z => ?_)
    · have e : i = 64 := by omega
      subst e
      exact oi_yclear K
    · have hv : vp_in (nI i) 64 := vp_in_nI (by omega) (by omega)
      exact ⟨hv, nm_r (oi_cpc (x := fun _ => -1) (y := ka) (by omega)) ⟨hv, nm_r (oi_cpc (x := fun _ => -1) (y := kb) (by omega)) ⟨hv, nm_r (oi_cpc (x := fun _ => -1) (y := ma) (by omega)) ⟨hv, nm_r (oi_cpc (x := fun _ => -1) (y := mb) (by omega)) (nm_r (nI_1 i) (ih (i + 1) (by omega) (by omega)))⟩⟩⟩⟩
end
theorem oi_iv_init {R T : Nat} {rm : Int64} (h : oi_SZ R T rm) : oi_IV R T 0 0 0 0 0 (-1) (nI 0) rm 0 0 0 (fun j => if j < 64 then -1 else (fun _ => 0) j) (fun j => if j < 64 then -1 else (fun _ => 0) j) (fun j => if j < 64 then -1 else (fun _ => 0) j) (fun j => if j < 64 then -1 else (fun _ => 0) j) (fun _ => 0) (fun _ => 0) (fun j => if j < 64 then -1 else (fun _ => 0) j) (fun j => if j < 64 then -1 else (fun _ => 0) j) (fun _ => 0) (fun j => if j < 64 then -1 else (fun _ => 0) j) (fun j => if j < 64 then -1 else (fun _ => 0) j) := by
  have hR := h.2.1
  have hT := h.2.2.2.1
  have e : ∀ s, s < R → (fun j => if j < 64 then -1 else (fun _ => 0) j : Nat → Int32) s = -1 := fun s hs => if_pos (by omega)
  refine ⟨h, fun s hs => ?_, ⟨fun s hs => ⟨0, by omega, rfl⟩, fun s => ?_, fun t h1 h2 s => ?_⟩, fun s hs => ?_, fun s hs _ => ?_, ⟨by omega, fun q => absurd rfl q, by omega, by omega, fun q => absurd q (by omega)⟩, oi_bu0 (by omega) e, fun s hs => ?_, fun _ s hs => rfl⟩
  · rw [e s hs]; exact ⟨oi_V_m1, oi_V_m1, oi_V_m1, oi_V_m1⟩
  · rw [oi_b_0]; simp
  · have hz : ¬ (0 : Int32) = nI t := fun q => by
      have := oi_nn (a := 0) (b := t) (by omega) (by omega) q
      omega
    rw [oi_b_0]; simp [hz]
  · rw [e s hs, oi_b_0]; rfl
  · exact ⟨rfl, rfl⟩
  · rw [e s hs]; exact ⟨oi_V_m1, rfl⟩
theorem i_vc0 (k0 : Int32) (k1 : Int32) (k2 : Int32) : wpX_init (fun u => wpY_init (fun v => i_Rel 3 u v) k0 k1 k2) k0 k1 k2 := by
  obtain ⟨R, R1, R2, RX, RY⟩ := oi_clamp k0 4 64 (by omega) (by omega)
  obtain ⟨T, T1, T2, TX, TY⟩ := oi_clamp k1 1 8 (by omega) (by omega)
  obtain ⟨L, L1, L2, LX, LY⟩ := oi_clamp k2 0 16 (by omega) (by omega)
  -- behind the clamps, for a row mask with the right bits
  have go : ∀ rm : Int64, (∀ s, oi_b rm s = decide (s < R)) → wX_init_162 (fun u => wpY_init (fun v => i_Rel 3 u v) k0 k1 k2) (nI R) (nI T) (nI L) rm 0 0 0 0 0 0 0 0 0 0 0 0 65 0 (fun _ => 0) (fun _ => 0) (fun _ => 0) (fun _ => 0) (fun _ => 0) (fun _ => 0) (fun _ => 0) (fun _ => 0) (fun _ => 0) (fun _ => 0) (fun _ => 0) := fun rm hrm => by
    have A := oi_xin (fr := nI R) (ft := nI T) (fl := nI L) (rm := rm) (pr := 0) (lk := 0) (ph := 0) (co := 0) (uq := 0) (cu := 0) (sp := 0) (su := 0) (cf := 0) (lg := 0) (bl := 0) (ec := 0) (ka := fun _ => 0) (kb := fun _ => 0) (ma := fun _ => 0) (mb := fun _ => 0) (ow := fun _ => 0) (ac := fun _ => 0) (od := fun _ => 0) (dr := fun _ => 0) (sd := fun _ => 0) (en := fun _ => 0) (sr := fun _ => 0) (post := fun u => wpY_init (fun v => i_Rel 3 u v) k0 k1 k2) ?_ 65 0 (by omega) (by omega)
    · rw [oi_cp0 (fun _ => -1) (fun _ => 0), nI_0] at A
      exact A
    · unfold wpY_init
      refine RY _ _ (TY _ _ (LY _ _ ⟨65, ?_⟩))
      have B := oi_yin (fr := nI R) (ft := nI T) (fl := nI L) (ph := 0) (co := 0) (uq := 0) (cu := 0) (sp := 0) (su := 0) (cf := 0) (ka := fun _ => 0) (kb := fun _ => 0) (ma := fun _ => 0) (mb := fun _ => 0) (ow := fun _ => 0) (ac := fun _ => 0) (dy := fun _ => 0) (sy := fun _ => 0) (post := fun v => i_Rel 3 (nI R, nI T, nI L, rm, 0, 0, 0, -1, 0, 0, 0, 0, -1, 0, 0, 0, fun j => if j < 64 then -1 else (fun _ => 0) j, fun j => if j < 64 then -1 else (fun _ => 0) j, fun j => if j < 64 then -1 else (fun _ => 0) j, fun j => if j < 64 then -1 else (fun _ => 0) j, fun _ => 0, fun _ => 0, fun _ => 0, fun j => if j < 64 then -1 else (fun _ => 0) j, fun j => if j < 64 then -1 else (fun _ => 0) j, fun _ => 0, fun _ => 0) v) (oi_mk (p := 0) (c := 0) (q := 0) (w := 0) (n := 0) 3 (oi_iv_init ⟨R1, R2, T1, T2, hrm⟩)) 65 0 (by omega) (by omega)
      rw [oi_cp0 (fun _ => -1) (fun _ => 0), nI_0] at B
      exact B
  unfold wpX_init
  refine RX _ _ (TX _ _ (LX _ _ (br_c (fun z => ⟨65, go (-1) (fun s => ?_)⟩) (fun z => nm_e ⟨65, go _ (fun s => ?_)⟩))))
  · have e : R = 64 := (nI_eq (b := 64) (by omega) (by omega)).mp z
    rw [oi_b_m1, e]
  · have e : ¬ R = 64 := fun q => z (by rw [q]; rfl)
    exact oi_b_rm (by omega) s
end
