section
/-! pure rows to paste: stores, nI and lN arithmetic, masks, shifts, narrowing, branches by naturals (pk_le, pk_lt, pk_eq), loops (lp1 .. lp16: the measure of the state; rp1 ..: recursion), negatives. Take what you need -/
theorem pk_us {f : Nat → Int32} {k : Nat} {x : Int32} : upd f k x k = x := if_pos rfl
theorem pk_un {f : Nat → Int32} {k j : Nat} {x : Int32} (h : j ≠ k) : upd f k x j = f j := if_neg h
theorem pk_uLs {f : Nat → Int64} {k : Nat} {x : Int64} : vp_updL f k x k = x := if_pos rfl
theorem pk_uLn {f : Nat → Int64} {k j : Nat} {x : Int64} (h : j ≠ k) : vp_updL f k x j = f j := if_neg h
theorem pk_sub {a b : Nat} (h : b ≤ a) : nI a - nI b = nI (a - b) := by
  obtain ⟨c, rfl⟩ : ∃ c, a = c + b := ⟨a - b, by omega⟩
  rw [← nI_add, Int32.add_sub_cancel, Nat.add_sub_cancel]
theorem pk_m1 (n : Nat) : nI (n + 1) + (-1) = nI n := by
  rw [← nI_1, Int32.add_assoc, show (1 : Int32) + (-1) = 0 from rfl, Int32.add_zero]
theorem pk_mul (a b : Nat) : nI a * nI b = nI (a * b) := (Int32.ofNat_mul a b).symm
theorem pk_div {a d : Nat} (ha : a < 2 ^ 31) (h0 : 0 < d) (hd : d < 2 ^ 31) : nI a / nI d = nI (a / d) := by
  apply Int32.toInt_inj.mp
  rw [lg_idiv_nonneg (by rw [nI_toInt ha]; omega) (by rw [nI_toInt hd]; omega), nI_toInt ha, nI_toInt hd, nI_toInt (Nat.lt_of_le_of_lt (Nat.div_le_self a d) ha)]
  first | rfl | exact (Int.natCast_ediv _ _).symm
theorem pk_rem {a d : Nat} (ha : a < 2 ^ 31) (h0 : 0 < d) (hd : d < 2 ^ 31) : nI a - nI a / nI d * nI d = nI (a % d) := by
  rw [pk_div ha h0 hd, pk_mul, pk_sub (Nat.div_mul_le_self a d)]
  exact congrArg nI (by have := Nat.div_add_mod' a d; omega)
theorem pk_sub_toInt {a b : Nat} (ha : a < 2 ^ 30) (hb : b < 2 ^ 30) : (nI a - nI b).toInt = (a : Int) - b := by
  rw [Int32.toInt_sub, nI_toInt (by omega), nI_toInt (by omega)]
  exact Int.bmod_eq_of_le (by omega) (by omega)
theorem pk_sneg {a b : Nat} (hb : b < 2 ^ 30) (h : a < b) : nI a - nI b < 0 := by
  rw [Int32.lt_iff_toInt_lt, pk_sub_toInt (by omega) hb, show (0 : Int32).toInt = 0 from by decide]
  omega
theorem pk_ix (x : Int32) {n : Nat} (hn : n < 2 ^ 31) : x < 0 ∨ nI n ≤ x ∨ ∃ j : Nat, j < n ∧ x = nI j := by
  by_cases h : x < 0
  · exact Or.inl h
  · obtain ⟨j, hj, rfl⟩ := nI_of h
    by_cases h2 : j < n
    · exact Or.inr (Or.inr ⟨j, h2, rfl⟩)
    · exact Or.inr (Or.inl (nI_le (by omega) hj))
theorem pk_le {x y : Int32} {A B : Prop} (a b : Nat) (f : a ≤ b → A) (g : b < a → B) (hx : x = nI a := by rfl) (hy : y = nI b := by rfl) (ha : a < 2 ^ 31 := by omega) (hb : b < 2 ^ 31 := by omega) : (x ≤ y → A) ∧ (¬ x ≤ y → B) := by
  subst hx hy
  rw [nI_leI ha hb]
  exact ⟨f, fun z => g (by omega)⟩
theorem pk_lt {x y : Int32} {A B : Prop} (a b : Nat) (f : a < b → A) (g : b ≤ a → B) (hx : x = nI a := by rfl) (hy : y = nI b := by rfl) (ha : a < 2 ^ 31 := by omega) (hb : b < 2 ^ 31 := by omega) : (x < y → A) ∧ (¬ x < y → B) := by
  subst hx hy
  rw [nI_ltI ha hb]
  exact ⟨f, fun z => g (by omega)⟩
theorem pk_eq {x y : Int32} {A B : Prop} (a b : Nat) (f : a = b → A) (g : a ≠ b → B) (hx : x = nI a := by rfl) (hy : y = nI b := by rfl) (ha : a < 2 ^ 31 := by omega) (hb : b < 2 ^ 31 := by omega) : (x = y → A) ∧ (¬ x = y → B) := by
  subst hx hy
  rw [nI_eq ha hb]
  exact ⟨f, g⟩
theorem pk_in {x : Int32} (n N : Nat) (h : n < N) (hx : x = nI n := by rfl) (hN : N < 2 ^ 31 := by omega) : vp_in x N := by
  subst hx
  exact vp_in_nI h hN
theorem pk_cl {x : Int32} (n : Nat) (hx : x = nI n := by rfl) (h : n < 2 ^ 31 := by omega) : x.toNatClampNeg = n := by
  subst hx
  exact nI_clamp h
theorem pk_tn {n : Nat} (h : n < 2 ^ 32) : (nI n).toBitVec.toNat = n := Nat.mod_eq_of_lt h
theorem pk_and (x : Int32) {m : Int32} (k : Nat) (hm : m.toBitVec.toNat = 2 ^ k - 1) : x &&& m = nI (x.toBitVec.toNat % 2 ^ k) := by
  apply Int32.toBitVec_inj.mp
  apply BitVec.eq_of_toNat_eq
  rw [Int32.toBitVec_and, BitVec.toNat_and, hm, Nat.and_two_pow_sub_one_eq_mod]
  show _ = (BitVec.ofNat 32 _).toNat
  rw [BitVec.toNat_ofNat]
  exact (Nat.mod_eq_of_lt (Nat.lt_of_le_of_lt (Nat.mod_le _ _) x.toBitVec.isLt)).symm
theorem pk_andN {n : Nat} (h : n < 2 ^ 32) {m : Int32} (k : Nat) (hm : m.toBitVec.toNat = 2 ^ k - 1) : nI n &&& m = nI (n % 2 ^ k) := by
  rw [pk_and _ k hm, pk_tn h]
theorem pk_andE (x : Int32) {m : Int32} (k : Nat) (hm : m.toBitVec.toNat = 2 ^ k - 1) : ∃ j : Nat, j < 2 ^ k ∧ x &&& m = nI j := ⟨_, Nat.mod_lt _ (Nat.two_pow_pos k), pk_and x k hm⟩
theorem pk_andIn (x : Int32) {m : Int32} (k : Nat) (hm : m.toBitVec.toNat = 2 ^ k - 1) (hk : k ≤ 30) : vp_in (x &&& m) (2 ^ k) := by
  obtain ⟨j, hj, e⟩ := pk_andE x k hm
  rw [e]
  exact vp_in_nI hj (Nat.lt_of_le_of_lt (Nat.pow_le_pow_right (by decide) hk) (by decide))
theorem pk_shl (a s : Int32) (k : Nat) (hs : (s.toBitVec.smod 32).toNat = k) : (a <<< s).toBitVec.toNat = a.toBitVec.toNat * 2 ^ k % 2 ^ 32 := by
  show (a.toBitVec <<< (s.toBitVec.smod 32).toNat).toNat = _
  rw [hs, BitVec.toNat_shiftLeft, Nat.shiftLeft_eq]
theorem pk_shlN {n : Nat} (s : Int32) (k : Nat) (hs : (s.toBitVec.smod 32).toNat = k) (h : n * 2 ^ k < 2 ^ 32) : nI n <<< s = nI (n * 2 ^ k) := by
  apply Int32.toBitVec_inj.mp
  apply BitVec.eq_of_toNat_eq
  have hn : n < 2 ^ 32 := Nat.lt_of_le_of_lt (Nat.le_mul_of_pos_right n (Nat.two_pow_pos k)) h
  rw [pk_shl _ _ k hs, pk_tn hn, pk_tn h, Nat.mod_eq_of_lt h]
theorem pk_shr (a s : Int32) (k : Nat) (hs : (s.toBitVec.smod 32).toNat = k) : (a >>> s).toInt = a.toInt >>> k := by
  show (a.toBitVec.sshiftRight (s.toBitVec.smod 32).toNat).toInt = _
  rw [hs, BitVec.toInt_sshiftRight]
  rfl
theorem pk_shrN {n : Nat} (h : n < 2 ^ 31) (s : Int32) (k : Nat) (hs : (s.toBitVec.smod 32).toNat = k) : nI n >>> s = nI (n / 2 ^ k) := by
  apply Int32.toInt_inj.mp
  have h2 : n / 2 ^ k ≤ n := Nat.div_le_self _ _
  rw [pk_shr _ _ k hs, nI_toInt h, nI_toInt (by omega), Int.shiftRight_eq_div_pow]
  rfl
theorem pk_ushr (x s : Int32) (k : Nat) (hs : ((s.toUInt32 &&& Int32.toUInt32 31).toBitVec % 32).toNat = k) : (x.toUInt32 >>> (s.toUInt32 &&& Int32.toUInt32 31)).toInt32.toBitVec.toNat = x.toBitVec.toNat / 2 ^ k := by
  have e : (x.toUInt32 >>> (s.toUInt32 &&& Int32.toUInt32 31)).toInt32.toBitVec = x.toBitVec >>> k := by
    rw [← hs]
    exact UInt32.toBitVec_shiftRight _ _
  rw [e, BitVec.toNat_ushiftRight, Nat.shiftRight_eq_div_pow]
theorem pk_ushrN {n : Nat} (hn : n < 2 ^ 32) (s : Int32) (k : Nat) (hs : ((s.toUInt32 &&& Int32.toUInt32 31).toBitVec % 32).toNat = k) : ((nI n).toUInt32 >>> (s.toUInt32 &&& Int32.toUInt32 31)).toInt32 = nI (n / 2 ^ k) := by
  apply Int32.toBitVec_inj.mp
  apply BitVec.eq_of_toNat_eq
  rw [pk_ushr _ s k hs, pk_tn hn, pk_tn (Nat.lt_of_le_of_lt (Nat.div_le_self _ _) hn)]
theorem pk_nb (z : Int32) : narrow .byte (.int z.toInt8.toInt32) = .int z.toInt8.toInt32 := congrArg Value.int (by simp)
theorem pk_ns (z : Int32) : narrow .short (.int z.toInt16.toInt32) = .int z.toInt16.toInt32 := congrArg Value.int (by simp)
theorem pk_fb (r : Int32) : fits .byte (.int r.toInt8.toInt32) = true := by
  have ⟨a, b⟩ := lg_i2b_range r
  have h1 : (-128 : Int32).toInt = -128 := by decide
  have h2 : (127 : Int32).toInt = 127 := by decide
  simp only [fits, Bool.and_eq_true, decide_eq_true_eq, Int32.le_iff_toInt_le, h1, h2]
  omega
theorem pk_fs (r : Int32) : fits .short (.int r.toInt16.toInt32) = true := by
  have ⟨a, b⟩ := lg_i2s_range r
  have h1 : (-32768 : Int32).toInt = -32768 := by decide
  have h2 : (32767 : Int32).toInt = 32767 := by decide
  simp only [fits, Bool.and_eq_true, decide_eq_true_eq, Int32.le_iff_toInt_le, h1, h2]
  omega
theorem pk_charN {q : Nat} (hq : q < 65536) : narrow .char (.int (nI q)) = .int (nI q) ∧ fits .char (.int (nI q)) = true := by
  constructor
  · have e : (nI q).toUInt32.toUInt16.toUInt32.toInt32 = nI q := by
      apply Int32.toBitVec_inj.mp
      apply BitVec.eq_of_toNat_eq
      show (nI q).toUInt32.toUInt16.toUInt32.toNat = q % 2 ^ 32
      rw [UInt16.toNat_toUInt32, UInt32.toNat_toUInt16, show (nI q).toUInt32.toNat = q % 2 ^ 32 from rfl]
      omega
    exact congrArg Value.int e
  · have a : (0 : Int32) ≤ nI q := nI_pos' (by omega)
    have b : nI q ≤ 65535 := nI_le (b := 65535) (by omega) (by decide)
    show (decide ((0 : Int32) ≤ nI q) && decide (nI q ≤ 65535)) = true
    rw [decide_eq_true a, decide_eq_true b]
    rfl
theorem pk_char (x : Int32) : (x.toUInt32 % 65536).toInt32 = nI (x.toBitVec.toNat % 65536) := by
  apply Int32.toBitVec_inj.mp
  apply BitVec.eq_of_toNat_eq
  rw [pk_tn (by omega)]
  show (x.toUInt32 % 65536).toNat = _
  rw [UInt32.toNat_mod]
  rfl
theorem pk_nc (x : Int32) : narrow .char (.int (x.toUInt32 % 65536).toInt32) = .int (x.toUInt32 % 65536).toInt32 := by
  rw [pk_char]
  exact (pk_charN (Nat.mod_lt _ (by decide))).1
theorem pk_fc (x : Int32) : fits .char (.int (x.toUInt32 % 65536).toInt32) = true := by
  rw [pk_char]
  exact (pk_charN (Nat.mod_lt _ (by decide))).2
theorem pk_vb (z : Int32) : vp_nar .byte z.toInt8.toInt32 = z.toInt8.toInt32 := by rw [vp_nar_byte]; simp
theorem pk_vs (z : Int32) : vp_nar .short z.toInt16.toInt32 = z.toInt16.toInt32 := by rw [vp_nar_short]; simp
theorem pk_vc (z : Int32) : vp_nar .char (z.toUInt32 % 65536).toInt32 = (z.toUInt32 % 65536).toInt32 := Value.int.inj (pk_nc z)
theorem pk_lT {n : Nat} (h : n < 2 ^ 63) : (lN n).toInt = (n : Int) := lg_ofNat_toInt h
theorem pk_lLT {a b : Nat} (ha : a < 2 ^ 63) (hb : b < 2 ^ 63) : lN a < lN b ↔ a < b := by
  rw [Int64.lt_iff_toInt_lt, pk_lT ha, pk_lT hb]; omega
theorem pk_lLE {a b : Nat} (ha : a < 2 ^ 63) (hb : b < 2 ^ 63) : lN a ≤ lN b ↔ a ≤ b := by
  rw [Int64.le_iff_toInt_le, pk_lT ha, pk_lT hb]; omega
theorem pk_lEQ {a b : Nat} (ha : a < 2 ^ 63) (hb : b < 2 ^ 63) : lN a = lN b ↔ a = b := by
  rw [← Int64.toInt_inj, pk_lT ha, pk_lT hb]; omega
theorem pk_lOf {x : Int64} (h : ¬ x < 0) : ∃ k : Nat, k < 2 ^ 63 ∧ x = lN k := by
  rw [Int64.lt_iff_toInt_lt] at h
  have h0 : (0 : Int64).toInt = 0 := by decide
  have hx := Int64.toInt_lt x
  refine ⟨x.toInt.toNat, by omega, Int64.toInt_inj.mp ?_⟩
  rw [pk_lT (by omega)]
  omega
theorem pk_lDiv {a b : Nat} (ha : a < 2 ^ 63) (h0 : 0 < b) (hb : b < 2 ^ 63) : lN a / lN b = lN (a / b) := by
  apply Int64.toInt_inj.mp
  rw [lg_ldiv_nonneg (by rw [pk_lT ha]; omega) (by rw [pk_lT hb]; omega), pk_lT ha, pk_lT hb, pk_lT (Nat.lt_of_le_of_lt (Nat.div_le_self a b) ha)]
  rfl
theorem pk_lRem {a b : Nat} (ha : a < 2 ^ 63) (h0 : 0 < b) (hb : b < 2 ^ 63) : lN a - lN a / lN b * lN b = lN (a % b) := by
  rw [pk_lDiv ha h0 hb, lN_mul, lN_sub (Nat.div_mul_le_self a b)]
  exact congrArg lN (by have := Nat.div_add_mod' a b; omega)
theorem pk_loop {σ : Type} (W : Nat → Nat → σ → Prop) (I : Nat → σ → Prop) (e i0 : Nat) (s : σ) (hi : i0 ≤ e) (h0 : I i0 s) (hx : ∀ n s, I e s → W (n + 1) e s)
    (hs : ∀ n i s, i < e → I i s → (∀ s', I (i + 1) s' → W n (i + 1) s') → W (n + 1) i s) : ∃ n, W n i0 s :=
  ⟨e + 1, loop_i W I e hx hs (e + 1) i0 s hi (by omega) h0⟩
theorem pk_loopD {σ : Type} (W : Nat → Nat → σ → Prop) (I : Nat → σ → Prop) (hx : ∀ n s, I 0 s → W (n + 1) 0 s)
    (hs : ∀ n i s, I (i + 1) s → (∀ s', I i s' → W n i s') → W (n + 1) (i + 1) s) : ∀ (e : Nat) (s : σ), I e s → W (e + 1) e s := by
  intro e
  induction e with
  | zero => exact fun s h => hx 0 s h
  | succ e ih => exact fun s h => hs (e + 1) e s h (fun s' h' => ih s' h')
theorem lp1 {A1 : Type} (W : Nat → A1 → Prop) (I : A1 → Prop) (μ : A1 → Nat) (hs : ∀ (n : Nat) (a1 : A1), I a1 → (∀ (b1 : A1), I b1 → μ b1 < μ a1 → W n b1) → W (n + 1) a1) (a1 : A1) (h : I a1) : ∃ n, W n a1 :=
  loop_m (σ := A1) (fun n s => W n s) (fun s => I s) (fun s => μ s) (fun n s hI hk => hs n s hI (fun b1 h9 hm => hk b1 h9 hm)) a1 h
theorem lp2 {A1 A2 : Type} (W : Nat → A1 → A2 → Prop) (I : A1 → A2 → Prop) (μ : A1 → A2 → Nat) (hs : ∀ (n : Nat) (a1 : A1) (a2 : A2), I a1 a2 → (∀ (b1 : A1) (b2 : A2), I b1 b2 → μ b1 b2 < μ a1 a2 → W n b1 b2) → W (n + 1) a1 a2) (a1 : A1) (a2 : A2) (h : I a1 a2) : ∃ n, W n a1 a2 :=
  loop_m (σ := A1 × A2) (fun n s => W n s.1 s.2) (fun s => I s.1 s.2) (fun s => μ s.1 s.2) (fun n s hI hk => hs n s.1 s.2 hI (fun b1 b2 h9 hm => hk (b1, b2) h9 hm)) (a1, a2) h
theorem lp3 {A1 A2 A3 : Type} (W : Nat → A1 → A2 → A3 → Prop) (I : A1 → A2 → A3 → Prop) (μ : A1 → A2 → A3 → Nat) (hs : ∀ (n : Nat) (a1 : A1) (a2 : A2) (a3 : A3), I a1 a2 a3 → (∀ (b1 : A1) (b2 : A2) (b3 : A3), I b1 b2 b3 → μ b1 b2 b3 < μ a1 a2 a3 → W n b1 b2 b3) → W (n + 1) a1 a2 a3) (a1 : A1) (a2 : A2) (a3 : A3) (h : I a1 a2 a3) : ∃ n, W n a1 a2 a3 :=
  loop_m (σ := A1 × A2 × A3) (fun n s => W n s.1 s.2.1 s.2.2) (fun s => I s.1 s.2.1 s.2.2) (fun s => μ s.1 s.2.1 s.2.2) (fun n s hI hk => hs n s.1 s.2.1 s.2.2 hI (fun b1 b2 b3 h9 hm => hk (b1, b2, b3) h9 hm)) (a1, a2, a3) h
theorem lp4 {A1 A2 A3 A4 : Type} (W : Nat → A1 → A2 → A3 → A4 → Prop) (I : A1 → A2 → A3 → A4 → Prop) (μ : A1 → A2 → A3 → A4 → Nat) (hs : ∀ (n : Nat) (a1 : A1) (a2 : A2) (a3 : A3) (a4 : A4), I a1 a2 a3 a4 → (∀ (b1 : A1) (b2 : A2) (b3 : A3) (b4 : A4), I b1 b2 b3 b4 → μ b1 b2 b3 b4 < μ a1 a2 a3 a4 → W n b1 b2 b3 b4) → W (n + 1) a1 a2 a3 a4) (a1 : A1) (a2 : A2) (a3 : A3) (a4 : A4) (h : I a1 a2 a3 a4) : ∃ n, W n a1 a2 a3 a4 :=
  loop_m (σ := A1 × A2 × A3 × A4) (fun n s => W n s.1 s.2.1 s.2.2.1 s.2.2.2) (fun s => I s.1 s.2.1 s.2.2.1 s.2.2.2) (fun s => μ s.1 s.2.1 s.2.2.1 s.2.2.2) (fun n s hI hk => hs n s.1 s.2.1 s.2.2.1 s.2.2.2 hI (fun b1 b2 b3 b4 h9 hm => hk (b1, b2, b3, b4) h9 hm)) (a1, a2, a3, a4) h
theorem lp5 {A1 A2 A3 A4 A5 : Type} (W : Nat → A1 → A2 → A3 → A4 → A5 → Prop) (I : A1 → A2 → A3 → A4 → A5 → Prop) (μ : A1 → A2 → A3 → A4 → A5 → Nat) (hs : ∀ (n : Nat) (a1 : A1) (a2 : A2) (a3 : A3) (a4 : A4) (a5 : A5), I a1 a2 a3 a4 a5 → (∀ (b1 : A1) (b2 : A2) (b3 : A3) (b4 : A4) (b5 : A5), I b1 b2 b3 b4 b5 → μ b1 b2 b3 b4 b5 < μ a1 a2 a3 a4 a5 → W n b1 b2 b3 b4 b5) → W (n + 1) a1 a2 a3 a4 a5) (a1 : A1) (a2 : A2) (a3 : A3) (a4 : A4) (a5 : A5) (h : I a1 a2 a3 a4 a5) : ∃ n, W n a1 a2 a3 a4 a5 :=
  loop_m (σ := A1 × A2 × A3 × A4 × A5) (fun n s => W n s.1 s.2.1 s.2.2.1 s.2.2.2.1 s.2.2.2.2) (fun s => I s.1 s.2.1 s.2.2.1 s.2.2.2.1 s.2.2.2.2) (fun s => μ s.1 s.2.1 s.2.2.1 s.2.2.2.1 s.2.2.2.2) (fun n s hI hk => hs n s.1 s.2.1 s.2.2.1 s.2.2.2.1 s.2.2.2.2 hI (fun b1 b2 b3 b4 b5 h9 hm => hk (b1, b2, b3, b4, b5) h9 hm)) (a1, a2, a3, a4, a5) h
theorem lp6 {A1 A2 A3 A4 A5 A6 : Type} (W : Nat → A1 → A2 → A3 → A4 → A5 → A6 → Prop) (I : A1 → A2 → A3 → A4 → A5 → A6 → Prop) (μ : A1 → A2 → A3 → A4 → A5 → A6 → Nat) (hs : ∀ (n : Nat) (a1 : A1) (a2 : A2) (a3 : A3) (a4 : A4) (a5 : A5) (a6 : A6), I a1 a2 a3 a4 a5 a6 → (∀ (b1 : A1) (b2 : A2) (b3 : A3) (b4 : A4) (b5 : A5) (b6 : A6), I b1 b2 b3 b4 b5 b6 → μ b1 b2 b3 b4 b5 b6 < μ a1 a2 a3 a4 a5 a6 → W n b1 b2 b3 b4 b5 b6) → W (n + 1) a1 a2 a3 a4 a5 a6) (a1 : A1) (a2 : A2) (a3 : A3) (a4 : A4) (a5 : A5) (a6 : A6) (h : I a1 a2 a3 a4 a5 a6) : ∃ n, W n a1 a2 a3 a4 a5 a6 :=
  loop_m (σ := A1 × A2 × A3 × A4 × A5 × A6) (fun n s => W n s.1 s.2.1 s.2.2.1 s.2.2.2.1 s.2.2.2.2.1 s.2.2.2.2.2) (fun s => I s.1 s.2.1 s.2.2.1 s.2.2.2.1 s.2.2.2.2.1 s.2.2.2.2.2) (fun s => μ s.1 s.2.1 s.2.2.1 s.2.2.2.1 s.2.2.2.2.1 s.2.2.2.2.2) (fun n s hI hk => hs n s.1 s.2.1 s.2.2.1 s.2.2.2.1 s.2.2.2.2.1 s.2.2.2.2.2 hI (fun b1 b2 b3 b4 b5 b6 h9 hm => hk (b1, b2, b3, b4, b5, b6) h9 hm)) (a1, a2, a3, a4, a5, a6) h
theorem lp7 {A1 A2 A3 A4 A5 A6 A7 : Type} (W : Nat → A1 → A2 → A3 → A4 → A5 → A6 → A7 → Prop) (I : A1 → A2 → A3 → A4 → A5 → A6 → A7 → Prop) (μ : A1 → A2 → A3 → A4 → A5 → A6 → A7 → Nat) (hs : ∀ (n : Nat) (a1 : A1) (a2 : A2) (a3 : A3) (a4 : A4) (a5 : A5) (a6 : A6) (a7 : A7), I a1 a2 a3 a4 a5 a6 a7 → (∀ (b1 : A1) (b2 : A2) (b3 : A3) (b4 : A4) (b5 : A5) (b6 : A6) (b7 : A7), I b1 b2 b3 b4 b5 b6 b7 → μ b1 b2 b3 b4 b5 b6 b7 < μ a1 a2 a3 a4 a5 a6 a7 → W n b1 b2 b3 b4 b5 b6 b7) → W (n + 1) a1 a2 a3 a4 a5 a6 a7) (a1 : A1) (a2 : A2) (a3 : A3) (a4 : A4) (a5 : A5) (a6 : A6) (a7 : A7) (h : I a1 a2 a3 a4 a5 a6 a7) : ∃ n, W n a1 a2 a3 a4 a5 a6 a7 :=
  loop_m (σ := A1 × A2 × A3 × A4 × A5 × A6 × A7) (fun n s => W n s.1 s.2.1 s.2.2.1 s.2.2.2.1 s.2.2.2.2.1 s.2.2.2.2.2.1 s.2.2.2.2.2.2) (fun s => I s.1 s.2.1 s.2.2.1 s.2.2.2.1 s.2.2.2.2.1 s.2.2.2.2.2.1 s.2.2.2.2.2.2) (fun s => μ s.1 s.2.1 s.2.2.1 s.2.2.2.1 s.2.2.2.2.1 s.2.2.2.2.2.1 s.2.2.2.2.2.2) (fun n s hI hk => hs n s.1 s.2.1 s.2.2.1 s.2.2.2.1 s.2.2.2.2.1 s.2.2.2.2.2.1 s.2.2.2.2.2.2 hI (fun b1 b2 b3 b4 b5 b6 b7 h9 hm => hk (b1, b2, b3, b4, b5, b6, b7) h9 hm)) (a1, a2, a3, a4, a5, a6, a7) h
theorem lp8 {A1 A2 A3 A4 A5 A6 A7 A8 : Type} (W : Nat → A1 → A2 → A3 → A4 → A5 → A6 → A7 → A8 → Prop) (I : A1 → A2 → A3 → A4 → A5 → A6 → A7 → A8 → Prop) (μ : A1 → A2 → A3 → A4 → A5 → A6 → A7 → A8 → Nat) (hs : ∀ (n : Nat) (a1 : A1) (a2 : A2) (a3 : A3) (a4 : A4) (a5 : A5) (a6 : A6) (a7 : A7) (a8 : A8), I a1 a2 a3 a4 a5 a6 a7 a8 → (∀ (b1 : A1) (b2 : A2) (b3 : A3) (b4 : A4) (b5 : A5) (b6 : A6) (b7 : A7) (b8 : A8), I b1 b2 b3 b4 b5 b6 b7 b8 → μ b1 b2 b3 b4 b5 b6 b7 b8 < μ a1 a2 a3 a4 a5 a6 a7 a8 → W n b1 b2 b3 b4 b5 b6 b7 b8) → W (n + 1) a1 a2 a3 a4 a5 a6 a7 a8) (a1 : A1) (a2 : A2) (a3 : A3) (a4 : A4) (a5 : A5) (a6 : A6) (a7 : A7) (a8 : A8) (h : I a1 a2 a3 a4 a5 a6 a7 a8) : ∃ n, W n a1 a2 a3 a4 a5 a6 a7 a8 :=
  loop_m (σ := A1 × A2 × A3 × A4 × A5 × A6 × A7 × A8) (fun n s => W n s.1 s.2.1 s.2.2.1 s.2.2.2.1 s.2.2.2.2.1 s.2.2.2.2.2.1 s.2.2.2.2.2.2.1 s.2.2.2.2.2.2.2) (fun s => I s.1 s.2.1 s.2.2.1 s.2.2.2.1 s.2.2.2.2.1 s.2.2.2.2.2.1 s.2.2.2.2.2.2.1 s.2.2.2.2.2.2.2) (fun s => μ s.1 s.2.1 s.2.2.1 s.2.2.2.1 s.2.2.2.2.1 s.2.2.2.2.2.1 s.2.2.2.2.2.2.1 s.2.2.2.2.2.2.2) (fun n s hI hk => hs n s.1 s.2.1 s.2.2.1 s.2.2.2.1 s.2.2.2.2.1 s.2.2.2.2.2.1 s.2.2.2.2.2.2.1 s.2.2.2.2.2.2.2 hI (fun b1 b2 b3 b4 b5 b6 b7 b8 h9 hm => hk (b1, b2, b3, b4, b5, b6, b7, b8) h9 hm)) (a1, a2, a3, a4, a5, a6, a7, a8) h
theorem lp9 {A1 A2 A3 A4 A5 A6 A7 A8 A9 : Type} (W : Nat → A1 → A2 → A3 → A4 → A5 → A6 → A7 → A8 → A9 → Prop) (I : A1 → A2 → A3 → A4 → A5 → A6 → A7 → A8 → A9 → Prop) (μ : A1 → A2 → A3 → A4 → A5 → A6 → A7 → A8 → A9 → Nat) (hs : ∀ (n : Nat) (a1 : A1) (a2 : A2) (a3 : A3) (a4 : A4) (a5 : A5) (a6 : A6) (a7 : A7) (a8 : A8) (a9 : A9), I a1 a2 a3 a4 a5 a6 a7 a8 a9 → (∀ (b1 : A1) (b2 : A2) (b3 : A3) (b4 : A4) (b5 : A5) (b6 : A6) (b7 : A7) (b8 : A8) (b9 : A9), I b1 b2 b3 b4 b5 b6 b7 b8 b9 → μ b1 b2 b3 b4 b5 b6 b7 b8 b9 < μ a1 a2 a3 a4 a5 a6 a7 a8 a9 → W n b1 b2 b3 b4 b5 b6 b7 b8 b9) → W (n + 1) a1 a2 a3 a4 a5 a6 a7 a8 a9) (a1 : A1) (a2 : A2) (a3 : A3) (a4 : A4) (a5 : A5) (a6 : A6) (a7 : A7) (a8 : A8) (a9 : A9) (h : I a1 a2 a3 a4 a5 a6 a7 a8 a9) : ∃ n, W n a1 a2 a3 a4 a5 a6 a7 a8 a9 :=
  loop_m (σ := A1 × A2 × A3 × A4 × A5 × A6 × A7 × A8 × A9) (fun n s => W n s.1 s.2.1 s.2.2.1 s.2.2.2.1 s.2.2.2.2.1 s.2.2.2.2.2.1 s.2.2.2.2.2.2.1 s.2.2.2.2.2.2.2.1 s.2.2.2.2.2.2.2.2) (fun s => I s.1 s.2.1 s.2.2.1 s.2.2.2.1 s.2.2.2.2.1 s.2.2.2.2.2.1 s.2.2.2.2.2.2.1 s.2.2.2.2.2.2.2.1 s.2.2.2.2.2.2.2.2) (fun s => μ s.1 s.2.1 s.2.2.1 s.2.2.2.1 s.2.2.2.2.1 s.2.2.2.2.2.1 s.2.2.2.2.2.2.1 s.2.2.2.2.2.2.2.1 s.2.2.2.2.2.2.2.2) (fun n s hI hk => hs n s.1 s.2.1 s.2.2.1 s.2.2.2.1 s.2.2.2.2.1 s.2.2.2.2.2.1 s.2.2.2.2.2.2.1 s.2.2.2.2.2.2.2.1 s.2.2.2.2.2.2.2.2 hI (fun b1 b2 b3 b4 b5 b6 b7 b8 b9 h9 hm => hk (b1, b2, b3, b4, b5, b6, b7, b8, b9) h9 hm)) (a1, a2, a3, a4, a5, a6, a7, a8, a9) h
theorem lp10 {A1 A2 A3 A4 A5 A6 A7 A8 A9 A10 : Type} (W : Nat → A1 → A2 → A3 → A4 → A5 → A6 → A7 → A8 → A9 → A10 → Prop) (I : A1 → A2 → A3 → A4 → A5 → A6 → A7 → A8 → A9 → A10 → Prop) (μ : A1 → A2 → A3 → A4 → A5 → A6 → A7 → A8 → A9 → A10 → Nat) (hs : ∀ (n : Nat) (a1 : A1) (a2 : A2) (a3 : A3) (a4 : A4) (a5 : A5) (a6 : A6) (a7 : A7) (a8 : A8) (a9 : A9) (a10 : A10), I a1 a2 a3 a4 a5 a6 a7 a8 a9 a10 → (∀ (b1 : A1) (b2 : A2) (b3 : A3) (b4 : A4) (b5 : A5) (b6 : A6) (b7 : A7) (b8 : A8) (b9 : A9) (b10 : A10), I b1 b2 b3 b4 b5 b6 b7 b8 b9 b10 → μ b1 b2 b3 b4 b5 b6 b7 b8 b9 b10 < μ a1 a2 a3 a4 a5 a6 a7 a8 a9 a10 → W n b1 b2 b3 b4 b5 b6 b7 b8 b9 b10) → W (n + 1) a1 a2 a3 a4 a5 a6 a7 a8 a9 a10) (a1 : A1) (a2 : A2) (a3 : A3) (a4 : A4) (a5 : A5) (a6 : A6) (a7 : A7) (a8 : A8) (a9 : A9) (a10 : A10) (h : I a1 a2 a3 a4 a5 a6 a7 a8 a9 a10) : ∃ n, W n a1 a2 a3 a4 a5 a6 a7 a8 a9 a10 :=
  loop_m (σ := A1 × A2 × A3 × A4 × A5 × A6 × A7 × A8 × A9 × A10) (fun n s => W n s.1 s.2.1 s.2.2.1 s.2.2.2.1 s.2.2.2.2.1 s.2.2.2.2.2.1 s.2.2.2.2.2.2.1 s.2.2.2.2.2.2.2.1 s.2.2.2.2.2.2.2.2.1 s.2.2.2.2.2.2.2.2.2) (fun s => I s.1 s.2.1 s.2.2.1 s.2.2.2.1 s.2.2.2.2.1 s.2.2.2.2.2.1 s.2.2.2.2.2.2.1 s.2.2.2.2.2.2.2.1 s.2.2.2.2.2.2.2.2.1 s.2.2.2.2.2.2.2.2.2) (fun s => μ s.1 s.2.1 s.2.2.1 s.2.2.2.1 s.2.2.2.2.1 s.2.2.2.2.2.1 s.2.2.2.2.2.2.1 s.2.2.2.2.2.2.2.1 s.2.2.2.2.2.2.2.2.1 s.2.2.2.2.2.2.2.2.2) (fun n s hI hk => hs n s.1 s.2.1 s.2.2.1 s.2.2.2.1 s.2.2.2.2.1 s.2.2.2.2.2.1 s.2.2.2.2.2.2.1 s.2.2.2.2.2.2.2.1 s.2.2.2.2.2.2.2.2.1 s.2.2.2.2.2.2.2.2.2 hI (fun b1 b2 b3 b4 b5 b6 b7 b8 b9 b10 h9 hm => hk (b1, b2, b3, b4, b5, b6, b7, b8, b9, b10) h9 hm)) (a1, a2, a3, a4, a5, a6, a7, a8, a9, a10) h
theorem lp11 {A1 A2 A3 A4 A5 A6 A7 A8 A9 A10 A11 : Type} (W : Nat → A1 → A2 → A3 → A4 → A5 → A6 → A7 → A8 → A9 → A10 → A11 → Prop) (I : A1 → A2 → A3 → A4 → A5 → A6 → A7 → A8 → A9 → A10 → A11 → Prop) (μ : A1 → A2 → A3 → A4 → A5 → A6 → A7 → A8 → A9 → A10 → A11 → Nat) (hs : ∀ (n : Nat) (a1 : A1) (a2 : A2) (a3 : A3) (a4 : A4) (a5 : A5) (a6 : A6) (a7 : A7) (a8 : A8) (a9 : A9) (a10 : A10) (a11 : A11), I a1 a2 a3 a4 a5 a6 a7 a8 a9 a10 a11 → (∀ (b1 : A1) (b2 : A2) (b3 : A3) (b4 : A4) (b5 : A5) (b6 : A6) (b7 : A7) (b8 : A8) (b9 : A9) (b10 : A10) (b11 : A11), I b1 b2 b3 b4 b5 b6 b7 b8 b9 b10 b11 → μ b1 b2 b3 b4 b5 b6 b7 b8 b9 b10 b11 < μ a1 a2 a3 a4 a5 a6 a7 a8 a9 a10 a11 → W n b1 b2 b3 b4 b5 b6 b7 b8 b9 b10 b11) → W (n + 1) a1 a2 a3 a4 a5 a6 a7 a8 a9 a10 a11) (a1 : A1) (a2 : A2) (a3 : A3) (a4 : A4) (a5 : A5) (a6 : A6) (a7 : A7) (a8 : A8) (a9 : A9) (a10 : A10) (a11 : A11) (h : I a1 a2 a3 a4 a5 a6 a7 a8 a9 a10 a11) : ∃ n, W n a1 a2 a3 a4 a5 a6 a7 a8 a9 a10 a11 :=
  loop_m (σ := A1 × A2 × A3 × A4 × A5 × A6 × A7 × A8 × A9 × A10 × A11) (fun n s => W n s.1 s.2.1 s.2.2.1 s.2.2.2.1 s.2.2.2.2.1 s.2.2.2.2.2.1 s.2.2.2.2.2.2.1 s.2.2.2.2.2.2.2.1 s.2.2.2.2.2.2.2.2.1 s.2.2.2.2.2.2.2.2.2.1 s.2.2.2.2.2.2.2.2.2.2) (fun s => I s.1 s.2.1 s.2.2.1 s.2.2.2.1 s.2.2.2.2.1 s.2.2.2.2.2.1 s.2.2.2.2.2.2.1 s.2.2.2.2.2.2.2.1 s.2.2.2.2.2.2.2.2.1 s.2.2.2.2.2.2.2.2.2.1 s.2.2.2.2.2.2.2.2.2.2) (fun s => μ s.1 s.2.1 s.2.2.1 s.2.2.2.1 s.2.2.2.2.1 s.2.2.2.2.2.1 s.2.2.2.2.2.2.1 s.2.2.2.2.2.2.2.1 s.2.2.2.2.2.2.2.2.1 s.2.2.2.2.2.2.2.2.2.1 s.2.2.2.2.2.2.2.2.2.2) (fun n s hI hk => hs n s.1 s.2.1 s.2.2.1 s.2.2.2.1 s.2.2.2.2.1 s.2.2.2.2.2.1 s.2.2.2.2.2.2.1 s.2.2.2.2.2.2.2.1 s.2.2.2.2.2.2.2.2.1 s.2.2.2.2.2.2.2.2.2.1 s.2.2.2.2.2.2.2.2.2.2 hI (fun b1 b2 b3 b4 b5 b6 b7 b8 b9 b10 b11 h9 hm => hk (b1, b2, b3, b4, b5, b6, b7, b8, b9, b10, b11) h9 hm)) (a1, a2, a3, a4, a5, a6, a7, a8, a9, a10, a11) h
theorem lp12 {A1 A2 A3 A4 A5 A6 A7 A8 A9 A10 A11 A12 : Type} (W : Nat → A1 → A2 → A3 → A4 → A5 → A6 → A7 → A8 → A9 → A10 → A11 → A12 → Prop) (I : A1 → A2 → A3 → A4 → A5 → A6 → A7 → A8 → A9 → A10 → A11 → A12 → Prop) (μ : A1 → A2 → A3 → A4 → A5 → A6 → A7 → A8 → A9 → A10 → A11 → A12 → Nat) (hs : ∀ (n : Nat) (a1 : A1) (a2 : A2) (a3 : A3) (a4 : A4) (a5 : A5) (a6 : A6) (a7 : A7) (a8 : A8) (a9 : A9) (a10 : A10) (a11 : A11) (a12 : A12), I a1 a2 a3 a4 a5 a6 a7 a8 a9 a10 a11 a12 → (∀ (b1 : A1) (b2 : A2) (b3 : A3) (b4 : A4) (b5 : A5) (b6 : A6) (b7 : A7) (b8 : A8) (b9 : A9) (b10 : A10) (b11 : A11) (b12 : A12), I b1 b2 b3 b4 b5 b6 b7 b8 b9 b10 b11 b12 → μ b1 b2 b3 b4 b5 b6 b7 b8 b9 b10 b11 b12 < μ a1 a2 a3 a4 a5 a6 a7 a8 a9 a10 a11 a12 → W n b1 b2 b3 b4 b5 b6 b7 b8 b9 b10 b11 b12) → W (n + 1) a1 a2 a3 a4 a5 a6 a7 a8 a9 a10 a11 a12) (a1 : A1) (a2 : A2) (a3 : A3) (a4 : A4) (a5 : A5) (a6 : A6) (a7 : A7) (a8 : A8) (a9 : A9) (a10 : A10) (a11 : A11) (a12 : A12) (h : I a1 a2 a3 a4 a5 a6 a7 a8 a9 a10 a11 a12) : ∃ n, W n a1 a2 a3 a4 a5 a6 a7 a8 a9 a10 a11 a12 :=
  loop_m (σ := A1 × A2 × A3 × A4 × A5 × A6 × A7 × A8 × A9 × A10 × A11 × A12) (fun n s => W n s.1 s.2.1 s.2.2.1 s.2.2.2.1 s.2.2.2.2.1 s.2.2.2.2.2.1 s.2.2.2.2.2.2.1 s.2.2.2.2.2.2.2.1 s.2.2.2.2.2.2.2.2.1 s.2.2.2.2.2.2.2.2.2.1 s.2.2.2.2.2.2.2.2.2.2.1 s.2.2.2.2.2.2.2.2.2.2.2) (fun s => I s.1 s.2.1 s.2.2.1 s.2.2.2.1 s.2.2.2.2.1 s.2.2.2.2.2.1 s.2.2.2.2.2.2.1 s.2.2.2.2.2.2.2.1 s.2.2.2.2.2.2.2.2.1 s.2.2.2.2.2.2.2.2.2.1 s.2.2.2.2.2.2.2.2.2.2.1 s.2.2.2.2.2.2.2.2.2.2.2) (fun s => μ s.1 s.2.1 s.2.2.1 s.2.2.2.1 s.2.2.2.2.1 s.2.2.2.2.2.1 s.2.2.2.2.2.2.1 s.2.2.2.2.2.2.2.1 s.2.2.2.2.2.2.2.2.1 s.2.2.2.2.2.2.2.2.2.1 s.2.2.2.2.2.2.2.2.2.2.1 s.2.2.2.2.2.2.2.2.2.2.2) (fun n s hI hk => hs n s.1 s.2.1 s.2.2.1 s.2.2.2.1 s.2.2.2.2.1 s.2.2.2.2.2.1 s.2.2.2.2.2.2.1 s.2.2.2.2.2.2.2.1 s.2.2.2.2.2.2.2.2.1 s.2.2.2.2.2.2.2.2.2.1 s.2.2.2.2.2.2.2.2.2.2.1 s.2.2.2.2.2.2.2.2.2.2.2 hI (fun b1 b2 b3 b4 b5 b6 b7 b8 b9 b10 b11 b12 h9 hm => hk (b1, b2, b3, b4, b5, b6, b7, b8, b9, b10, b11, b12) h9 hm)) (a1, a2, a3, a4, a5, a6, a7, a8, a9, a10, a11, a12) h
theorem lp13 {A1 A2 A3 A4 A5 A6 A7 A8 A9 A10 A11 A12 A13 : Type} (W : Nat → A1 → A2 → A3 → A4 → A5 → A6 → A7 → A8 → A9 → A10 → A11 → A12 → A13 → Prop) (I : A1 → A2 → A3 → A4 → A5 → A6 → A7 → A8 → A9 → A10 → A11 → A12 → A13 → Prop) (μ : A1 → A2 → A3 → A4 → A5 → A6 → A7 → A8 → A9 → A10 → A11 → A12 → A13 → Nat) (hs : ∀ (n : Nat) (a1 : A1) (a2 : A2) (a3 : A3) (a4 : A4) (a5 : A5) (a6 : A6) (a7 : A7) (a8 : A8) (a9 : A9) (a10 : A10) (a11 : A11) (a12 : A12) (a13 : A13), I a1 a2 a3 a4 a5 a6 a7 a8 a9 a10 a11 a12 a13 → (∀ (b1 : A1) (b2 : A2) (b3 : A3) (b4 : A4) (b5 : A5) (b6 : A6) (b7 : A7) (b8 : A8) (b9 : A9) (b10 : A10) (b11 : A11) (b12 : A12) (b13 : A13), I b1 b2 b3 b4 b5 b6 b7 b8 b9 b10 b11 b12 b13 → μ b1 b2 b3 b4 b5 b6 b7 b8 b9 b10 b11 b12 b13 < μ a1 a2 a3 a4 a5 a6 a7 a8 a9 a10 a11 a12 a13 → W n b1 b2 b3 b4 b5 b6 b7 b8 b9 b10 b11 b12 b13) → W (n + 1) a1 a2 a3 a4 a5 a6 a7 a8 a9 a10 a11 a12 a13) (a1 : A1) (a2 : A2) (a3 : A3) (a4 : A4) (a5 : A5) (a6 : A6) (a7 : A7) (a8 : A8) (a9 : A9) (a10 : A10) (a11 : A11) (a12 : A12) (a13 : A13) (h : I a1 a2 a3 a4 a5 a6 a7 a8 a9 a10 a11 a12 a13) : ∃ n, W n a1 a2 a3 a4 a5 a6 a7 a8 a9 a10 a11 a12 a13 :=
  loop_m (σ := A1 × A2 × A3 × A4 × A5 × A6 × A7 × A8 × A9 × A10 × A11 × A12 × A13) (fun n s => W n s.1 s.2.1 s.2.2.1 s.2.2.2.1 s.2.2.2.2.1 s.2.2.2.2.2.1 s.2.2.2.2.2.2.1 s.2.2.2.2.2.2.2.1 s.2.2.2.2.2.2.2.2.1 s.2.2.2.2.2.2.2.2.2.1 s.2.2.2.2.2.2.2.2.2.2.1 s.2.2.2.2.2.2.2.2.2.2.2.1 s.2.2.2.2.2.2.2.2.2.2.2.2) (fun s => I s.1 s.2.1 s.2.2.1 s.2.2.2.1 s.2.2.2.2.1 s.2.2.2.2.2.1 s.2.2.2.2.2.2.1 s.2.2.2.2.2.2.2.1 s.2.2.2.2.2.2.2.2.1 s.2.2.2.2.2.2.2.2.2.1 s.2.2.2.2.2.2.2.2.2.2.1 s.2.2.2.2.2.2.2.2.2.2.2.1 s.2.2.2.2.2.2.2.2.2.2.2.2) (fun s => μ s.1 s.2.1 s.2.2.1 s.2.2.2.1 s.2.2.2.2.1 s.2.2.2.2.2.1 s.2.2.2.2.2.2.1 s.2.2.2.2.2.2.2.1 s.2.2.2.2.2.2.2.2.1 s.2.2.2.2.2.2.2.2.2.1 s.2.2.2.2.2.2.2.2.2.2.1 s.2.2.2.2.2.2.2.2.2.2.2.1 s.2.2.2.2.2.2.2.2.2.2.2.2) (fun n s hI hk => hs n s.1 s.2.1 s.2.2.1 s.2.2.2.1 s.2.2.2.2.1 s.2.2.2.2.2.1 s.2.2.2.2.2.2.1 s.2.2.2.2.2.2.2.1 s.2.2.2.2.2.2.2.2.1 s.2.2.2.2.2.2.2.2.2.1 s.2.2.2.2.2.2.2.2.2.2.1 s.2.2.2.2.2.2.2.2.2.2.2.1 s.2.2.2.2.2.2.2.2.2.2.2.2 hI (fun b1 b2 b3 b4 b5 b6 b7 b8 b9 b10 b11 b12 b13 h9 hm => hk (b1, b2, b3, b4, b5, b6, b7, b8, b9, b10, b11, b12, b13) h9 hm)) (a1, a2, a3, a4, a5, a6, a7, a8, a9, a10, a11, a12, a13) h
theorem lp14 {A1 A2 A3 A4 A5 A6 A7 A8 A9 A10 A11 A12 A13 A14 : Type} (W : Nat → A1 → A2 → A3 → A4 → A5 → A6 → A7 → A8 → A9 → A10 → A11 → A12 → A13 → A14 → Prop) (I : A1 → A2 → A3 → A4 → A5 → A6 → A7 → A8 → A9 → A10 → A11 → A12 → A13 → A14 → Prop) (μ : A1 → A2 → A3 → A4 → A5 → A6 → A7 → A8 → A9 → A10 → A11 → A12 → A13 → A14 → Nat) (hs : ∀ (n : Nat) (a1 : A1) (a2 : A2) (a3 : A3) (a4 : A4) (a5 : A5) (a6 : A6) (a7 : A7) (a8 : A8) (a9 : A9) (a10 : A10) (a11 : A11) (a12 : A12) (a13 : A13) (a14 : A14), I a1 a2 a3 a4 a5 a6 a7 a8 a9 a10 a11 a12 a13 a14 → (∀ (b1 : A1) (b2 : A2) (b3 : A3) (b4 : A4) (b5 : A5) (b6 : A6) (b7 : A7) (b8 : A8) (b9 : A9) (b10 : A10) (b11 : A11) (b12 : A12) (b13 : A13) (b14 : A14), I b1 b2 b3 b4 b5 b6 b7 b8 b9 b10 b11 b12 b13 b14 → μ b1 b2 b3 b4 b5 b6 b7 b8 b9 b10 b11 b12 b13 b14 < μ a1 a2 a3 a4 a5 a6 a7 a8 a9 a10 a11 a12 a13 a14 → W n b1 b2 b3 b4 b5 b6 b7 b8 b9 b10 b11 b12 b13 b14) → W (n + 1) a1 a2 a3 a4 a5 a6 a7 a8 a9 a10 a11 a12 a13 a14) (a1 : A1) (a2 : A2) (a3 : A3) (a4 : A4) (a5 : A5) (a6 : A6) (a7 : A7) (a8 : A8) (a9 : A9) (a10 : A10) (a11 : A11) (a12 : A12) (a13 : A13) (a14 : A14) (h : I a1 a2 a3 a4 a5 a6 a7 a8 a9 a10 a11 a12 a13 a14) : ∃ n, W n a1 a2 a3 a4 a5 a6 a7 a8 a9 a10 a11 a12 a13 a14 :=
  loop_m (σ := A1 × A2 × A3 × A4 × A5 × A6 × A7 × A8 × A9 × A10 × A11 × A12 × A13 × A14) (fun n s => W n s.1 s.2.1 s.2.2.1 s.2.2.2.1 s.2.2.2.2.1 s.2.2.2.2.2.1 s.2.2.2.2.2.2.1 s.2.2.2.2.2.2.2.1 s.2.2.2.2.2.2.2.2.1 s.2.2.2.2.2.2.2.2.2.1 s.2.2.2.2.2.2.2.2.2.2.1 s.2.2.2.2.2.2.2.2.2.2.2.1 s.2.2.2.2.2.2.2.2.2.2.2.2.1 s.2.2.2.2.2.2.2.2.2.2.2.2.2) (fun s => I s.1 s.2.1 s.2.2.1 s.2.2.2.1 s.2.2.2.2.1 s.2.2.2.2.2.1 s.2.2.2.2.2.2.1 s.2.2.2.2.2.2.2.1 s.2.2.2.2.2.2.2.2.1 s.2.2.2.2.2.2.2.2.2.1 s.2.2.2.2.2.2.2.2.2.2.1 s.2.2.2.2.2.2.2.2.2.2.2.1 s.2.2.2.2.2.2.2.2.2.2.2.2.1 s.2.2.2.2.2.2.2.2.2.2.2.2.2) (fun s => μ s.1 s.2.1 s.2.2.1 s.2.2.2.1 s.2.2.2.2.1 s.2.2.2.2.2.1 s.2.2.2.2.2.2.1 s.2.2.2.2.2.2.2.1 s.2.2.2.2.2.2.2.2.1 s.2.2.2.2.2.2.2.2.2.1 s.2.2.2.2.2.2.2.2.2.2.1 s.2.2.2.2.2.2.2.2.2.2.2.1 s.2.2.2.2.2.2.2.2.2.2.2.2.1 s.2.2.2.2.2.2.2.2.2.2.2.2.2) (fun n s hI hk => hs n s.1 s.2.1 s.2.2.1 s.2.2.2.1 s.2.2.2.2.1 s.2.2.2.2.2.1 s.2.2.2.2.2.2.1 s.2.2.2.2.2.2.2.1 s.2.2.2.2.2.2.2.2.1 s.2.2.2.2.2.2.2.2.2.1 s.2.2.2.2.2.2.2.2.2.2.1 s.2.2.2.2.2.2.2.2.2.2.2.1 s.2.2.2.2.2.2.2.2.2.2.2.2.1 s.2.2.2.2.2.2.2.2.2.2.2.2.2 hI (fun b1 b2 b3 b4 b5 b6 b7 b8 b9 b10 b11 b12 b13 b14 h9 hm => hk (b1, b2, b3, b4, b5, b6, b7, b8, b9, b10, b11, b12, b13, b14) h9 hm)) (a1, a2, a3, a4, a5, a6, a7, a8, a9, a10, a11, a12, a13, a14) h
theorem lp15 {A1 A2 A3 A4 A5 A6 A7 A8 A9 A10 A11 A12 A13 A14 A15 : Type} (W : Nat → A1 → A2 → A3 → A4 → A5 → A6 → A7 → A8 → A9 → A10 → A11 → A12 → A13 → A14 → A15 → Prop) (I : A1 → A2 → A3 → A4 → A5 → A6 → A7 → A8 → A9 → A10 → A11 → A12 → A13 → A14 → A15 → Prop) (μ : A1 → A2 → A3 → A4 → A5 → A6 → A7 → A8 → A9 → A10 → A11 → A12 → A13 → A14 → A15 → Nat) (hs : ∀ (n : Nat) (a1 : A1) (a2 : A2) (a3 : A3) (a4 : A4) (a5 : A5) (a6 : A6) (a7 : A7) (a8 : A8) (a9 : A9) (a10 : A10) (a11 : A11) (a12 : A12) (a13 : A13) (a14 : A14) (a15 : A15), I a1 a2 a3 a4 a5 a6 a7 a8 a9 a10 a11 a12 a13 a14 a15 → (∀ (b1 : A1) (b2 : A2) (b3 : A3) (b4 : A4) (b5 : A5) (b6 : A6) (b7 : A7) (b8 : A8) (b9 : A9) (b10 : A10) (b11 : A11) (b12 : A12) (b13 : A13) (b14 : A14) (b15 : A15), I b1 b2 b3 b4 b5 b6 b7 b8 b9 b10 b11 b12 b13 b14 b15 → μ b1 b2 b3 b4 b5 b6 b7 b8 b9 b10 b11 b12 b13 b14 b15 < μ a1 a2 a3 a4 a5 a6 a7 a8 a9 a10 a11 a12 a13 a14 a15 → W n b1 b2 b3 b4 b5 b6 b7 b8 b9 b10 b11 b12 b13 b14 b15) → W (n + 1) a1 a2 a3 a4 a5 a6 a7 a8 a9 a10 a11 a12 a13 a14 a15) (a1 : A1) (a2 : A2) (a3 : A3) (a4 : A4) (a5 : A5) (a6 : A6) (a7 : A7) (a8 : A8) (a9 : A9) (a10 : A10) (a11 : A11) (a12 : A12) (a13 : A13) (a14 : A14) (a15 : A15) (h : I a1 a2 a3 a4 a5 a6 a7 a8 a9 a10 a11 a12 a13 a14 a15) : ∃ n, W n a1 a2 a3 a4 a5 a6 a7 a8 a9 a10 a11 a12 a13 a14 a15 :=
  loop_m (σ := A1 × A2 × A3 × A4 × A5 × A6 × A7 × A8 × A9 × A10 × A11 × A12 × A13 × A14 × A15) (fun n s => W n s.1 s.2.1 s.2.2.1 s.2.2.2.1 s.2.2.2.2.1 s.2.2.2.2.2.1 s.2.2.2.2.2.2.1 s.2.2.2.2.2.2.2.1 s.2.2.2.2.2.2.2.2.1 s.2.2.2.2.2.2.2.2.2.1 s.2.2.2.2.2.2.2.2.2.2.1 s.2.2.2.2.2.2.2.2.2.2.2.1 s.2.2.2.2.2.2.2.2.2.2.2.2.1 s.2.2.2.2.2.2.2.2.2.2.2.2.2.1 s.2.2.2.2.2.2.2.2.2.2.2.2.2.2) (fun s => I s.1 s.2.1 s.2.2.1 s.2.2.2.1 s.2.2.2.2.1 s.2.2.2.2.2.1 s.2.2.2.2.2.2.1 s.2.2.2.2.2.2.2.1 s.2.2.2.2.2.2.2.2.1 s.2.2.2.2.2.2.2.2.2.1 s.2.2.2.2.2.2.2.2.2.2.1 s.2.2.2.2.2.2.2.2.2.2.2.1 s.2.2.2.2.2.2.2.2.2.2.2.2.1 s.2.2.2.2.2.2.2.2.2.2.2.2.2.1 s.2.2.2.2.2.2.2.2.2.2.2.2.2.2) (fun s => μ s.1 s.2.1 s.2.2.1 s.2.2.2.1 s.2.2.2.2.1 s.2.2.2.2.2.1 s.2.2.2.2.2.2.1 s.2.2.2.2.2.2.2.1 s.2.2.2.2.2.2.2.2.1 s.2.2.2.2.2.2.2.2.2.1 s.2.2.2.2.2.2.2.2.2.2.1 s.2.2.2.2.2.2.2.2.2.2.2.1 s.2.2.2.2.2.2.2.2.2.2.2.2.1 s.2.2.2.2.2.2.2.2.2.2.2.2.2.1 s.2.2.2.2.2.2.2.2.2.2.2.2.2.2) (fun n s hI hk => hs n s.1 s.2.1 s.2.2.1 s.2.2.2.1 s.2.2.2.2.1 s.2.2.2.2.2.1 s.2.2.2.2.2.2.1 s.2.2.2.2.2.2.2.1 s.2.2.2.2.2.2.2.2.1 s.2.2.2.2.2.2.2.2.2.1 s.2.2.2.2.2.2.2.2.2.2.1 s.2.2.2.2.2.2.2.2.2.2.2.1 s.2.2.2.2.2.2.2.2.2.2.2.2.1 s.2.2.2.2.2.2.2.2.2.2.2.2.2.1 s.2.2.2.2.2.2.2.2.2.2.2.2.2.2 hI (fun b1 b2 b3 b4 b5 b6 b7 b8 b9 b10 b11 b12 b13 b14 b15 h9 hm => hk (b1, b2, b3, b4, b5, b6, b7, b8, b9, b10, b11, b12, b13, b14, b15) h9 hm)) (a1, a2, a3, a4, a5, a6, a7, a8, a9, a10, a11, a12, a13, a14, a15) h
theorem lp16 {A1 A2 A3 A4 A5 A6 A7 A8 A9 A10 A11 A12 A13 A14 A15 A16 : Type} (W : Nat → A1 → A2 → A3 → A4 → A5 → A6 → A7 → A8 → A9 → A10 → A11 → A12 → A13 → A14 → A15 → A16 → Prop) (I : A1 → A2 → A3 → A4 → A5 → A6 → A7 → A8 → A9 → A10 → A11 → A12 → A13 → A14 → A15 → A16 → Prop) (μ : A1 → A2 → A3 → A4 → A5 → A6 → A7 → A8 → A9 → A10 → A11 → A12 → A13 → A14 → A15 → A16 → Nat) (hs : ∀ (n : Nat) (a1 : A1) (a2 : A2) (a3 : A3) (a4 : A4) (a5 : A5) (a6 : A6) (a7 : A7) (a8 : A8) (a9 : A9) (a10 : A10) (a11 : A11) (a12 : A12) (a13 : A13) (a14 : A14) (a15 : A15) (a16 : A16), I a1 a2 a3 a4 a5 a6 a7 a8 a9 a10 a11 a12 a13 a14 a15 a16 → (∀ (b1 : A1) (b2 : A2) (b3 : A3) (b4 : A4) (b5 : A5) (b6 : A6) (b7 : A7) (b8 : A8) (b9 : A9) (b10 : A10) (b11 : A11) (b12 : A12) (b13 : A13) (b14 : A14) (b15 : A15) (b16 : A16), I b1 b2 b3 b4 b5 b6 b7 b8 b9 b10 b11 b12 b13 b14 b15 b16 → μ b1 b2 b3 b4 b5 b6 b7 b8 b9 b10 b11 b12 b13 b14 b15 b16 < μ a1 a2 a3 a4 a5 a6 a7 a8 a9 a10 a11 a12 a13 a14 a15 a16 → W n b1 b2 b3 b4 b5 b6 b7 b8 b9 b10 b11 b12 b13 b14 b15 b16) → W (n + 1) a1 a2 a3 a4 a5 a6 a7 a8 a9 a10 a11 a12 a13 a14 a15 a16) (a1 : A1) (a2 : A2) (a3 : A3) (a4 : A4) (a5 : A5) (a6 : A6) (a7 : A7) (a8 : A8) (a9 : A9) (a10 : A10) (a11 : A11) (a12 : A12) (a13 : A13) (a14 : A14) (a15 : A15) (a16 : A16) (h : I a1 a2 a3 a4 a5 a6 a7 a8 a9 a10 a11 a12 a13 a14 a15 a16) : ∃ n, W n a1 a2 a3 a4 a5 a6 a7 a8 a9 a10 a11 a12 a13 a14 a15 a16 :=
  loop_m (σ := A1 × A2 × A3 × A4 × A5 × A6 × A7 × A8 × A9 × A10 × A11 × A12 × A13 × A14 × A15 × A16) (fun n s => W n s.1 s.2.1 s.2.2.1 s.2.2.2.1 s.2.2.2.2.1 s.2.2.2.2.2.1 s.2.2.2.2.2.2.1 s.2.2.2.2.2.2.2.1 s.2.2.2.2.2.2.2.2.1 s.2.2.2.2.2.2.2.2.2.1 s.2.2.2.2.2.2.2.2.2.2.1 s.2.2.2.2.2.2.2.2.2.2.2.1 s.2.2.2.2.2.2.2.2.2.2.2.2.1 s.2.2.2.2.2.2.2.2.2.2.2.2.2.1 s.2.2.2.2.2.2.2.2.2.2.2.2.2.2.1 s.2.2.2.2.2.2.2.2.2.2.2.2.2.2.2) (fun s => I s.1 s.2.1 s.2.2.1 s.2.2.2.1 s.2.2.2.2.1 s.2.2.2.2.2.1 s.2.2.2.2.2.2.1 s.2.2.2.2.2.2.2.1 s.2.2.2.2.2.2.2.2.1 s.2.2.2.2.2.2.2.2.2.1 s.2.2.2.2.2.2.2.2.2.2.1 s.2.2.2.2.2.2.2.2.2.2.2.1 s.2.2.2.2.2.2.2.2.2.2.2.2.1 s.2.2.2.2.2.2.2.2.2.2.2.2.2.1 s.2.2.2.2.2.2.2.2.2.2.2.2.2.2.1 s.2.2.2.2.2.2.2.2.2.2.2.2.2.2.2) (fun s => μ s.1 s.2.1 s.2.2.1 s.2.2.2.1 s.2.2.2.2.1 s.2.2.2.2.2.1 s.2.2.2.2.2.2.1 s.2.2.2.2.2.2.2.1 s.2.2.2.2.2.2.2.2.1 s.2.2.2.2.2.2.2.2.2.1 s.2.2.2.2.2.2.2.2.2.2.1 s.2.2.2.2.2.2.2.2.2.2.2.1 s.2.2.2.2.2.2.2.2.2.2.2.2.1 s.2.2.2.2.2.2.2.2.2.2.2.2.2.1 s.2.2.2.2.2.2.2.2.2.2.2.2.2.2.1 s.2.2.2.2.2.2.2.2.2.2.2.2.2.2.2) (fun n s hI hk => hs n s.1 s.2.1 s.2.2.1 s.2.2.2.1 s.2.2.2.2.1 s.2.2.2.2.2.1 s.2.2.2.2.2.2.1 s.2.2.2.2.2.2.2.1 s.2.2.2.2.2.2.2.2.1 s.2.2.2.2.2.2.2.2.2.1 s.2.2.2.2.2.2.2.2.2.2.1 s.2.2.2.2.2.2.2.2.2.2.2.1 s.2.2.2.2.2.2.2.2.2.2.2.2.1 s.2.2.2.2.2.2.2.2.2.2.2.2.2.1 s.2.2.2.2.2.2.2.2.2.2.2.2.2.2.1 s.2.2.2.2.2.2.2.2.2.2.2.2.2.2.2 hI (fun b1 b2 b3 b4 b5 b6 b7 b8 b9 b10 b11 b12 b13 b14 b15 b16 h9 hm => hk (b1, b2, b3, b4, b5, b6, b7, b8, b9, b10, b11, b12, b13, b14, b15, b16) h9 hm)) (a1, a2, a3, a4, a5, a6, a7, a8, a9, a10, a11, a12, a13, a14, a15, a16) h
theorem pk_least (P : Nat → Prop) (h : ∃ k, P k) : ∃ k, P k ∧ ∀ j, j < k → ¬ P j := by
  obtain ⟨k, hk⟩ := h
  induction k using Nat.strongRecOn with
  | ind k ih =>
    by_cases e : ∃ j, j < k ∧ P j
    · obtain ⟨j, hj, pj⟩ := e
      exact ih j hj pj
    · exact ⟨k, hk, fun j hj pj => e ⟨j, hj, pj⟩⟩
theorem rp1 {ρ A1 : Type} (W : Nat → (ρ → Prop) → A1 → Prop) (ok : A1 → Prop) (μ : A1 → Nat) (val : A1 → ρ)
    (hs : ∀ (d : Nat) (post : ρ → Prop) (a1 : A1), ok a1 → post (val a1) → (∀ (post' : ρ → Prop) (b1 : A1), ok b1 → μ b1 < μ a1 → post' (val b1) → W d post' b1) → W (d + 1) post a1) :
    ∀ (d : Nat) (post : ρ → Prop) (a1 : A1), ok a1 → μ a1 < d → post (val a1) → W d post a1 := by
  intro d
  induction d with
  | zero => intro post a1 _ h; omega
  | succ d ih =>
    intro post a1 ho hm hp
    exact hs d post a1 ho hp (fun post' b1 ho' hm' hp' => ih post' b1 ho' (by omega) hp')
theorem rp2 {ρ A1 A2 : Type} (W : Nat → (ρ → Prop) → A1 → A2 → Prop) (ok : A1 → A2 → Prop) (μ : A1 → A2 → Nat) (val : A1 → A2 → ρ)
    (hs : ∀ (d : Nat) (post : ρ → Prop) (a1 : A1) (a2 : A2), ok a1 a2 → post (val a1 a2) → (∀ (post' : ρ → Prop) (b1 : A1) (b2 : A2), ok b1 b2 → μ b1 b2 < μ a1 a2 → post' (val b1 b2) → W d post' b1 b2) → W (d + 1) post a1 a2) :
    ∀ (d : Nat) (post : ρ → Prop) (a1 : A1) (a2 : A2), ok a1 a2 → μ a1 a2 < d → post (val a1 a2) → W d post a1 a2 := by
  intro d
  induction d with
  | zero => intro post a1 a2 _ h; omega
  | succ d ih =>
    intro post a1 a2 ho hm hp
    exact hs d post a1 a2 ho hp (fun post' b1 b2 ho' hm' hp' => ih post' b1 b2 ho' (by omega) hp')
theorem rp3 {ρ A1 A2 A3 : Type} (W : Nat → (ρ → Prop) → A1 → A2 → A3 → Prop) (ok : A1 → A2 → A3 → Prop) (μ : A1 → A2 → A3 → Nat) (val : A1 → A2 → A3 → ρ)
    (hs : ∀ (d : Nat) (post : ρ → Prop) (a1 : A1) (a2 : A2) (a3 : A3), ok a1 a2 a3 → post (val a1 a2 a3) → (∀ (post' : ρ → Prop) (b1 : A1) (b2 : A2) (b3 : A3), ok b1 b2 b3 → μ b1 b2 b3 < μ a1 a2 a3 → post' (val b1 b2 b3) → W d post' b1 b2 b3) → W (d + 1) post a1 a2 a3) :
    ∀ (d : Nat) (post : ρ → Prop) (a1 : A1) (a2 : A2) (a3 : A3), ok a1 a2 a3 → μ a1 a2 a3 < d → post (val a1 a2 a3) → W d post a1 a2 a3 := by
  intro d
  induction d with
  | zero => intro post a1 a2 a3 _ h; omega
  | succ d ih =>
    intro post a1 a2 a3 ho hm hp
    exact hs d post a1 a2 a3 ho hp (fun post' b1 b2 b3 ho' hm' hp' => ih post' b1 b2 b3 ho' (by omega) hp')
theorem rp4 {ρ A1 A2 A3 A4 : Type} (W : Nat → (ρ → Prop) → A1 → A2 → A3 → A4 → Prop) (ok : A1 → A2 → A3 → A4 → Prop) (μ : A1 → A2 → A3 → A4 → Nat) (val : A1 → A2 → A3 → A4 → ρ)
    (hs : ∀ (d : Nat) (post : ρ → Prop) (a1 : A1) (a2 : A2) (a3 : A3) (a4 : A4), ok a1 a2 a3 a4 → post (val a1 a2 a3 a4) → (∀ (post' : ρ → Prop) (b1 : A1) (b2 : A2) (b3 : A3) (b4 : A4), ok b1 b2 b3 b4 → μ b1 b2 b3 b4 < μ a1 a2 a3 a4 → post' (val b1 b2 b3 b4) → W d post' b1 b2 b3 b4) → W (d + 1) post a1 a2 a3 a4) :
    ∀ (d : Nat) (post : ρ → Prop) (a1 : A1) (a2 : A2) (a3 : A3) (a4 : A4), ok a1 a2 a3 a4 → μ a1 a2 a3 a4 < d → post (val a1 a2 a3 a4) → W d post a1 a2 a3 a4 := by
  intro d
  induction d with
  | zero => intro post a1 a2 a3 a4 _ h; omega
  | succ d ih =>
    intro post a1 a2 a3 a4 ho hm hp
    exact hs d post a1 a2 a3 a4 ho hp (fun post' b1 b2 b3 b4 ho' hm' hp' => ih post' b1 b2 b3 b4 ho' (by omega) hp')
theorem rp5 {ρ A1 A2 A3 A4 A5 : Type} (W : Nat → (ρ → Prop) → A1 → A2 → A3 → A4 → A5 → Prop) (ok : A1 → A2 → A3 → A4 → A5 → Prop) (μ : A1 → A2 → A3 → A4 → A5 → Nat) (val : A1 → A2 → A3 → A4 → A5 → ρ)
    (hs : ∀ (d : Nat) (post : ρ → Prop) (a1 : A1) (a2 : A2) (a3 : A3) (a4 : A4) (a5 : A5), ok a1 a2 a3 a4 a5 → post (val a1 a2 a3 a4 a5) → (∀ (post' : ρ → Prop) (b1 : A1) (b2 : A2) (b3 : A3) (b4 : A4) (b5 : A5), ok b1 b2 b3 b4 b5 → μ b1 b2 b3 b4 b5 < μ a1 a2 a3 a4 a5 → post' (val b1 b2 b3 b4 b5) → W d post' b1 b2 b3 b4 b5) → W (d + 1) post a1 a2 a3 a4 a5) :
    ∀ (d : Nat) (post : ρ → Prop) (a1 : A1) (a2 : A2) (a3 : A3) (a4 : A4) (a5 : A5), ok a1 a2 a3 a4 a5 → μ a1 a2 a3 a4 a5 < d → post (val a1 a2 a3 a4 a5) → W d post a1 a2 a3 a4 a5 := by
  intro d
  induction d with
  | zero => intro post a1 a2 a3 a4 a5 _ h; omega
  | succ d ih =>
    intro post a1 a2 a3 a4 a5 ho hm hp
    exact hs d post a1 a2 a3 a4 a5 ho hp (fun post' b1 b2 b3 b4 b5 ho' hm' hp' => ih post' b1 b2 b3 b4 b5 ho' (by omega) hp')
theorem rp6 {ρ A1 A2 A3 A4 A5 A6 : Type} (W : Nat → (ρ → Prop) → A1 → A2 → A3 → A4 → A5 → A6 → Prop) (ok : A1 → A2 → A3 → A4 → A5 → A6 → Prop) (μ : A1 → A2 → A3 → A4 → A5 → A6 → Nat) (val : A1 → A2 → A3 → A4 → A5 → A6 → ρ)
    (hs : ∀ (d : Nat) (post : ρ → Prop) (a1 : A1) (a2 : A2) (a3 : A3) (a4 : A4) (a5 : A5) (a6 : A6), ok a1 a2 a3 a4 a5 a6 → post (val a1 a2 a3 a4 a5 a6) → (∀ (post' : ρ → Prop) (b1 : A1) (b2 : A2) (b3 : A3) (b4 : A4) (b5 : A5) (b6 : A6), ok b1 b2 b3 b4 b5 b6 → μ b1 b2 b3 b4 b5 b6 < μ a1 a2 a3 a4 a5 a6 → post' (val b1 b2 b3 b4 b5 b6) → W d post' b1 b2 b3 b4 b5 b6) → W (d + 1) post a1 a2 a3 a4 a5 a6) :
    ∀ (d : Nat) (post : ρ → Prop) (a1 : A1) (a2 : A2) (a3 : A3) (a4 : A4) (a5 : A5) (a6 : A6), ok a1 a2 a3 a4 a5 a6 → μ a1 a2 a3 a4 a5 a6 < d → post (val a1 a2 a3 a4 a5 a6) → W d post a1 a2 a3 a4 a5 a6 := by
  intro d
  induction d with
  | zero => intro post a1 a2 a3 a4 a5 a6 _ h; omega
  | succ d ih =>
    intro post a1 a2 a3 a4 a5 a6 ho hm hp
    exact hs d post a1 a2 a3 a4 a5 a6 ho hp (fun post' b1 b2 b3 b4 b5 b6 ho' hm' hp' => ih post' b1 b2 b3 b4 b5 b6 ho' (by omega) hp')
theorem rec_p {σ ρ : Type} (W : Nat → (ρ → Prop) → σ → Prop) (ok : σ → Prop) (μ : σ → Nat) (val : σ → ρ)
    (hs : ∀ d s post, ok s → post (val s) → (∀ s' post', ok s' → μ s' < μ s → post' (val s') → W d post' s') → W (d + 1) post s) :
    ∀ d s post, ok s → μ s < d → post (val s) → W d post s := by
  intro d
  induction d with
  | zero => intro s post _ h; omega
  | succ d ih =>
    intro s post ho hm hp
    exact hs d s post ho hp (fun s' post' ho' hm' hp' => ih s' post' ho' (by omega) hp')
theorem rec_q {σ ρ : Type} (W : Nat → (ρ → Prop) → σ → Prop) (ok : σ → Prop) (μ : σ → Nat) (Q : σ → ρ → Prop)
    (hs : ∀ d s post, ok s → (∀ r, Q s r → post r) → (∀ s' post', ok s' → μ s' < μ s → (∀ r, Q s' r → post' r) → W d post' s') → W (d + 1) post s) :
    ∀ d s post, ok s → μ s < d → (∀ r, Q s r → post r) → W d post s := by
  intro d
  induction d with
  | zero => intro s post _ h; omega
  | succ d ih =>
    intro s post ho hm hp
    exact hs d s post ho hp (fun s' post' ho' hm' hp' => ih s' post' ho' (by omega) hp')
def bx_sum (f : Nat → Int32) : Nat → Int32
  | 0 => 0
  | n + 1 => bx_sum f n + f n
theorem ek_u {A : Prop} {B : Nat → Prop} {k N : Nat} (hk : k < N) (h : B k) : (some k = none → A) ∧ (∀ y : Nat, some k = some y → (y < N ∧ B y)) :=
  ⟨fun z => absurd z (Option.some_ne_none k), fun _ e => (by cases e; exact ⟨hk, h⟩)⟩
theorem ek_nu {A : Prop} {B : Nat → Prop} (h : A) : ((none : Option Nat) = none → A) ∧ (∀ y : Nat, (none : Option Nat) = some y → B y) :=
  ⟨fun _ => h, fun _ e => (by cases e)⟩
theorem ek_if {c d A B : Prop} (e : c ↔ d) (f : d → A) (g : ¬ d → B) : (c → A) ∧ (¬ c → B) :=
  ⟨fun z => f (e.mp z), fun z => g (fun y => z (e.mpr y))⟩
theorem ek_v {α : Sort _} {P : α → Prop} {a b : α} (e : a = b) (h : P b) : P a := e ▸ h
theorem co_some {x : Option Nat} {A : Prop} {B : Nat → Prop} (i : Nat) (h : B i) (hx : x = some i := by rfl) : (x = none → A) ∧ (∀ y : Nat, x = some y → B y) := by
  subst hx
  exact ⟨fun e => (nomatch e), fun y e => Option.some.inj e ▸ h⟩
theorem co_none {x : Option Nat} {A : Prop} {B : Nat → Prop} (h : A) (hx : x = none := by rfl) : (x = none → A) ∧ (∀ y : Nat, x = some y → B y) := by
  subst hx
  exact ⟨fun _ => h, fun y e => (nomatch e)⟩
theorem co_any {x : Option Nat} {A : Prop} {B : Nat → Prop} (hn : x = none → A) (hs : ∀ i : Nat, x = some i → B i) : (x = none → A) ∧ (∀ y : Nat, x = some y → B y) := ⟨hn, hs⟩
theorem co_2 {P : Nat → Prop} (h0 : P 0) (h1 : P 1) {i : Nat} (hi : i < 2) : P i :=
  match i, hi with
  | 0, _ => h0
  | 1, _ => h1
theorem co_3 {P : Nat → Prop} (h0 : P 0) (h1 : P 1) (h2 : P 2) {i : Nat} (hi : i < 3) : P i :=
  match i, hi with
  | 0, _ => h0
  | 1, _ => h1
  | 2, _ => h2
theorem co_4 {P : Nat → Prop} (h0 : P 0) (h1 : P 1) (h2 : P 2) (h3 : P 3) {i : Nat} (hi : i < 4) : P i :=
  match i, hi with
  | 0, _ => h0
  | 1, _ => h1
  | 2, _ => h2
  | 3, _ => h3
theorem co_dec {N : Nat} {P : Nat → Prop} [DecidablePred P] (h : (List.range N).all (fun i => decide (P i)) = true) {i : Nat} (hi : i < N) : P i := by
  have := List.all_eq_true.mp h i (List.mem_range.mpr hi)
  exact of_decide_eq_true this
theorem co_tab {α : Type} {l : List α} {d : α} {P : α → Prop} (h : ∀ a, a ∈ l → P a) {i : Nat} (hi : i < l.length) : P (l.getD i d) := by
  rw [List.getD_eq_getElem?_getD, List.getElem?_eq_getElem hi]
  exact h _ (List.getElem_mem hi)
theorem pk_mu {x : Int32} {L : Nat} (h0 : ¬ x < 0) (h : ¬ nI L ≤ x) (hL : L < 2 ^ 31) : ∃ j : Nat, j < L ∧ x = nI j ∧ x + 1 = nI (j + 1) ∧ x.toNatClampNeg = j ∧ L - (x + 1).toNatClampNeg < L - x.toNatClampNeg := by
  obtain ⟨j, hj, rfl⟩ := nI_of h0
  have hl : j < L := Nat.not_le.mp fun q => h (nI_le q hj)
  refine ⟨j, hl, rfl, nI_1 j, nI_clamp hj, ?_⟩
  rw [nI_1, nI_clamp (by omega), nI_clamp hj]
  omega
theorem op_s {α : Type} {r : Option α} {A : Prop} {B : α → Prop} {y : α} (h : r = some y) (b : B y) : (r = none → A) ∧ ∀ z, r = some z → B z :=
  ⟨fun e => (by rw [h] at e; cases e), fun z e => (by rw [h] at e; cases e; exact b)⟩
def l_holds {α : Type} (a : Nat → Option Nat) (LP : List Nat) (p : Nat → α) (c : Nat) (b : Nat → α) : Prop :=
  ∀ j, j < c → ∃ y, a j = some y ∧ y ∈ LP ∧ p y = b j
theorem l_holds_0 {α : Type} {a : Nat → Option Nat} {LP : List Nat} {p b : Nat → α} : l_holds a LP p 0 b := fun j h => absurd h (Nat.not_lt_zero j)
theorem l_in_new (LP : List Nat) (q : Nat) : q ∈ LP ++ [q] := List.mem_append.mpr (Or.inr (List.mem_singleton.mpr rfl))
def l_sum (b : Nat → Int32) : Nat → Int32
  | 0 => 0
  | k + 1 => l_sum b k + b k
theorem sb_shr0 (x : Int32) : x >>> ((0 : Int32) &&& 31) = x := by
  rw [show ((0 : Int32) &&& 31) = 0 by decide]
  simp
theorem sb_shl0 (x : Int32) : x <<< ((0 : Int32) &&& 31) = x := by
  rw [show ((0 : Int32) &&& 31) = 0 by decide]
  simp
theorem sb_cl0 : (0 : Int32).toNatClampNeg = 0 := by decide
theorem sb_m1 {p : Nat} (h : 0 < p) : nI p + (-1) = nI (p - 1) := by
  obtain ⟨q, rfl⟩ : ∃ q, p = q + 1 := ⟨p - 1, by omega⟩
  exact pk_m1 q
def sb_b (c : Nat) : Int32 := (nI c).toInt8.toInt32
theorem sb_byte : ∀ c, c < 256 → sb_b c &&& 255 = nI c ∧ ((nI c).toUInt32 % 65536).toInt32 = nI c ∧ nI c ≤ 255 := by decide +kernel
def sb_Fit (a : Nat → Int32) : Prop := ∀ j, fits .byte (.int (a j)) = true
def sb_Lat (t : Nat → Nat) (n : Nat) (a : Nat → Int32) : Prop := ∀ j, j < n → t j < 256 ∧ a j = sb_b (t j)
theorem sb_fitB (c : Nat) : fits .byte (.int (sb_b c)) = true := pk_fb _
theorem sb_fit0 : sb_Fit (fun _ => 0) := fun _ => by
  show fits .byte (.int 0) = true
  decide
theorem sb_fitU {a : Nat → Int32} {k : Nat} {x : Int32} (h : sb_Fit a) (hx : fits .byte (.int x) = true) : sb_Fit (upd a k x) := by
  intro j
  by_cases e : j = k
  · subst e
    rw [pk_us]
    exact hx
  · rw [pk_un e]
    exact h j
def sb_cat (t : Nat → Nat) (n : Nat) (s : Nat → Nat) : Nat → Nat := fun j => if j < n then t j else s (j - n)
theorem sb_cat_lo {t s : Nat → Nat} {n j : Nat} (h : j < n) : sb_cat t n s j = t j := if_pos h
theorem sb_cat_hi {t s : Nat → Nat} {n j : Nat} : sb_cat t n s (n + j) = s j := by
  show (if n + j < n then t (n + j) else s (n + j - n)) = s j
  rw [if_neg (by omega), Nat.add_sub_cancel_left]
theorem sb_latPut {t s : Nat → Nat} {n w : Nat} {a a' : Nat → Int32} (h : sb_Lat t n a) (hk : ∀ j, j < n → a' j = a j) (hs : ∀ i, i < w → s i < 256 ∧ a' (n + i) = sb_b (s i)) : sb_Lat (sb_cat t n s) (n + w) a' := by
  intro j hj
  by_cases e : j < n
  · rw [sb_cat_lo e, hk j e]
    exact h j e
  · obtain ⟨i, rfl⟩ : ∃ i, j = n + i := ⟨j - n, by omega⟩
    rw [sb_cat_hi]
    exact hs i (by omega)
theorem sb_latKeep {t : Nat → Nat} {n : Nat} {a a' : Nat → Int32} (h : sb_Lat t n a) (hk : ∀ j, j < n → a' j = a j) : sb_Lat t n a' := fun j hj => by
  rw [hk j hj]
  exact h j hj
def sb_cap (q m : Nat) : Nat := if q ≤ m then m else if 2 * m + 2 < q then q else 2 * m + 2
def sb_Room (q m mc ms : Nat) : Prop := q ≤ m ∨ (1 ≤ mc ∧ sb_cap q m ≤ ms ∧ sb_cap q m ≤ 65536)
theorem sb_cap_ge (q m : Nat) : q ≤ sb_cap q m := by
  unfold sb_cap
  split
  · omega
  · split <;> omega
theorem sb_cap_gem (q m : Nat) : m ≤ sb_cap q m := by
  unfold sb_cap
  split
  · omega
  · split <;> omega
theorem sb_cap_le {q m mc ms : Nat} (hm : m ≤ 65536) (hr : sb_Room q m mc ms) : sb_cap q m ≤ 65536 := by
  rcases hr with h | h
  · rw [sb_cap, if_pos h]
    exact hm
  · exact h.2.2
theorem sb_at {P : Int32 → Prop} {x y : Int32} (e : x = y) (h : P y) : P x := e ▸ h
def sb_dg (w : Nat) : Nat := if w < 10 then 1 else if w < 100 then 2 else if w < 1000 then 3 else if w < 10000 then 4 else if w < 100000 then 5 else if w < 1000000 then 6 else if w < 10000000 then 7 else if w < 100000000 then 8 else if w < 1000000000 then 9 else 10
def sb_dec (v : Nat) : Nat → Nat := fun i => 48 + v / 10 ^ (sb_dg v - 1 - i) % 10
theorem sb_dg_in (w : Nat) : 1 ≤ sb_dg w ∧ sb_dg w ≤ 10 := by
  unfold sb_dg
  constructor <;> (repeat' split) <;> omega
theorem sb_dg100 {w : Nat} (h : 100 ≤ w) (hw : w < 2 ^ 31) : sb_dg w = sb_dg (w / 100) + 2 := by
  rw [sb_dg, sb_dg, if_neg (show ¬ w < 10 by omega), if_neg (show ¬ w < 100 by omega)]
  by_cases h3 : w < 1000
  · rw [if_pos h3, if_pos (show w / 100 < 10 by omega)]
  rw [if_neg h3, if_neg (show ¬ w / 100 < 10 by omega)]
  by_cases h4 : w < 10000
  · rw [if_pos h4, if_pos (show w / 100 < 100 by omega)]
  rw [if_neg h4, if_neg (show ¬ w / 100 < 100 by omega)]
  by_cases h5 : w < 100000
  · rw [if_pos h5, if_pos (show w / 100 < 1000 by omega)]
  rw [if_neg h5, if_neg (show ¬ w / 100 < 1000 by omega)]
  by_cases h6 : w < 1000000
  · rw [if_pos h6, if_pos (show w / 100 < 10000 by omega)]
  rw [if_neg h6, if_neg (show ¬ w / 100 < 10000 by omega)]
  by_cases h7 : w < 10000000
  · rw [if_pos h7, if_pos (show w / 100 < 100000 by omega)]
  rw [if_neg h7, if_neg (show ¬ w / 100 < 100000 by omega)]
  by_cases h8 : w < 100000000
  · rw [if_pos h8, if_pos (show w / 100 < 1000000 by omega)]
  rw [if_neg h8, if_neg (show ¬ w / 100 < 1000000 by omega)]
  by_cases h9 : w < 1000000000
  · rw [if_pos h9, if_pos (show w / 100 < 10000000 by omega)]
  rw [if_neg h9, if_neg (show ¬ w / 100 < 10000000 by omega)]
  rw [if_pos (show w / 100 < 100000000 by omega)]
theorem sb_negT {w : Nat} (h : w < 2 ^ 31) : (-nI w).toInt = -(w : Int) := by
  rw [Int32.toInt_neg, nI_toInt h]
  exact Int.bmod_eq_of_le (by omega) (by omega)
theorem sb_nle {a b : Nat} (ha : a < 2 ^ 31) (hb : b < 2 ^ 31) : -nI a ≤ -nI b ↔ b ≤ a := by
  rw [Int32.le_iff_toInt_le, sb_negT ha, sb_negT hb]
  omega
theorem sb_nlt {a b : Nat} (ha : a < 2 ^ 31) (hb : b < 2 ^ 31) : -nI a < -nI b ↔ b < a := by
  rw [Int32.lt_iff_toInt_lt, sb_negT ha, sb_negT hb]
  omega
theorem sb_cmp {A B : Prop} {x : Int32} (v c : Nat) (f : c ≤ v → A) (g : v < c → B) (hv : v < 2 ^ 31) (hx : x = -nI c := by rfl) (hc : c < 2 ^ 31 := by omega) : (-nI v ≤ x → A) ∧ (¬ -nI v ≤ x → B) := by
  subst hx
  rw [sb_nle hv hc]
  exact ⟨f, fun z => g (by omega)⟩
theorem sb_ndiv {w : Nat} (hw : w < 2 ^ 31) : (-nI w) / 100 = -nI (w / 100) := by
  apply Int32.toInt_inj.mp
  have h100 : (100 : Int32).toInt = 100 := by decide
  rw [Int32.toInt_div, sb_negT hw, h100, sb_negT (by omega), Int.neg_tdiv, Int.tdiv_eq_ediv_of_nonneg (by omega), Int.bmod_eq_of_le (by omega) (by omega)]
  omega
theorem sb_nrem {w : Nat} (hw : w < 2 ^ 31) : (-nI (w / 100)) * 100 - (-nI w) = nI (w % 100) := by
  have h := pk_rem (a := w) (d := 100) hw (by decide) (by decide)
  rw [pk_div hw (by decide) (by decide)] at h
  rw [← h]
  show (-nI (w / 100)) * nI 100 - (-nI w) = nI w - nI (w / 100) * nI 100
  rw [Int32.neg_mul, Int32.sub_neg, Int32.add_comm, ← Int32.sub_eq_add_neg]
end
section
/-! rows on bits, shifts and unsigned numbers, to paste: each family out of a closed proof of our own, whole with what it rests on; each by itself clean at Lean in its own claim (generation 39, form 5). Take a family whole -/
/-! ===== Int32 by its bits: bt x i ===== -/
def bt (x : Int32) (i : Nat) : Bool := x.toBitVec.getLsbD i
theorem b_ext {x y : Int32} (h : ∀ i, i < 32 → bt x i = bt y i) : x = y := Int32.toBitVec_inj.mp (BitVec.eq_of_getLsbD_eq (fun i hi => h i hi))
theorem b_or (x y : Int32) (i : Nat) : bt (x ||| y) i = (bt x i || bt y i) := by unfold bt; rw [Int32.toBitVec_or, BitVec.getLsbD_or]
theorem b_and (x y : Int32) (i : Nat) : bt (x &&& y) i = (bt x i && bt y i) := by unfold bt; rw [Int32.toBitVec_and, BitVec.getLsbD_and]
theorem b_xor (x y : Int32) (i : Nat) : bt (x ^^^ y) i = (bt x i ^^ bt y i) := by unfold bt; rw [Int32.toBitVec_xor, BitVec.getLsbD_xor]
theorem b_big {x : Int32} {i : Nat} (h : 32 ≤ i) : bt x i = false := BitVec.getLsbD_of_ge _ _ h
theorem b_255 (i : Nat) : bt 255 i = decide (i < 8) := by
  rcases Nat.lt_or_ge i 32 with h | h
  · exact (by decide +kernel : ∀ i, i < 32 → bt 255 i = decide (i < 8)) i h
  · rw [b_big h, decide_eq_false (by omega)]
theorem b_65535 (i : Nat) : bt 65535 i = decide (i < 16) := by
  rcases Nat.lt_or_ge i 32 with h | h
  · exact (by decide +kernel : ∀ i, i < 32 → bt 65535 i = decide (i < 16)) i h
  · rw [b_big h, decide_eq_false (by omega)]
theorem b_m1 : ∀ i, i < 32 → bt (-1) i = true := by decide +kernel
theorem b_0 (i : Nat) : bt 0 i = false := BitVec.getLsbD_zero
theorem s_l : ∀ n, n < 32 → ((nI n &&& 31).toBitVec.smod 32).toNat = n := by decide +kernel
theorem s_u : ∀ n, n < 32 → (((nI n).toUInt32 &&& Int32.toUInt32 31).toBitVec % 32).toNat = n := by decide +kernel
theorem b_shl (n : Nat) (hn : n < 32) (x : Int32) {i : Nat} (hi : i < 32) : bt (x <<< (nI n &&& 31)) i = (decide (n ≤ i) && bt x (i - n)) := by
  unfold bt
  rw [Int32.toBitVec_shiftLeft]
  show (x.toBitVec <<< ((nI n &&& 31).toBitVec.smod 32).toNat).getLsbD i = _
  rw [s_l n hn, BitVec.getLsbD_shiftLeft]
  rcases Nat.lt_or_ge i n with h | h
  · simp [h, Nat.not_le.mpr h]
  · simp [hi, h, Nat.not_lt.mpr h]
theorem b_ushr (n : Nat) (hn : n < 32) (x : Int32) (i : Nat) : bt ((x.toUInt32 >>> ((nI n).toUInt32 &&& Int32.toUInt32 31)).toInt32) i = bt x (n + i) := by
  show (x.toUInt32 >>> ((nI n).toUInt32 &&& Int32.toUInt32 31)).toBitVec.getLsbD i = x.toUInt32.toBitVec.getLsbD (n + i)
  rw [UInt32.toBitVec_shiftRight]
  show (x.toUInt32.toBitVec >>> (((nI n).toUInt32 &&& Int32.toUInt32 31).toBitVec % 32).toNat).getLsbD i = _
  rw [s_u n hn, BitVec.getLsbD_ushiftRight]
theorem b_sshr (n : Nat) (hn : n < 32) (x : Int32) {i : Nat} (hi : i < 32) : bt (x >>> (nI n &&& 31)) i = if n + i < 32 then bt x (n + i) else bt x 31 := by
  unfold bt
  rw [Int32.toBitVec_shiftRight]
  show (x.toBitVec.sshiftRight ((nI n &&& 31).toBitVec.smod 32).toNat).getLsbD i = _
  rw [s_l n hn, BitVec.getLsbD_sshiftRight, BitVec.msb_eq_getLsbD_last]
  simp [hi]
theorem b_shl8 (x : Int32) {i : Nat} (hi : i < 32) : bt (x <<< ((8 : Int32) &&& 31)) i = (decide (8 ≤ i) && bt x (i - 8)) := b_shl 8 (by omega) x hi
theorem b_shl16 (x : Int32) {i : Nat} (hi : i < 32) : bt (x <<< ((16 : Int32) &&& 31)) i = (decide (16 ≤ i) && bt x (i - 16)) := b_shl 16 (by omega) x hi
theorem b_shl24 (x : Int32) {i : Nat} (hi : i < 32) : bt (x <<< ((24 : Int32) &&& 31)) i = (decide (24 ≤ i) && bt x (i - 24)) := b_shl 24 (by omega) x hi
theorem b_sshr8 (x : Int32) {i : Nat} (hi : i < 32) : bt (x >>> ((8 : Int32) &&& 31)) i = if 8 + i < 32 then bt x (8 + i) else bt x 31 := b_sshr 8 (by omega) x hi
/-! ===== nI under and, xor, >>>, one bit, 65535 ===== -/
theorem nx_and (a b : Nat) : nI a &&& nI b = nI (a &&& b) := by
  apply Int32.toBitVec_inj.1
  show BitVec.ofNat 32 a &&& BitVec.ofNat 32 b = BitVec.ofNat 32 (a &&& b)
  apply BitVec.eq_of_getLsbD_eq
  intro i hi
  simp [hi]
theorem nx_xor (a b : Nat) : nI a ^^^ nI b = nI (a ^^^ b) := by
  apply Int32.toBitVec_inj.1
  show BitVec.ofNat 32 a ^^^ BitVec.ofNat 32 b = BitVec.ofNat 32 (a ^^^ b)
  apply BitVec.eq_of_getLsbD_eq
  intro i hi
  simp [hi]
theorem nx_cnt : ∀ j : Fin 32, (UInt32.ofNat j.val &&& Int32.toUInt32 31).toNat % 32 = j.val := by decide +kernel
theorem nx_ush {k j : Nat} (hk : k < 65536) (hj : j < 32) : ((nI k).toUInt32 >>> ((nI j).toUInt32 &&& Int32.toUInt32 31)).toInt32 = nI (k >>> j) := by
  have hs : k >>> j ≤ k := by
    rw [Nat.shiftRight_eq_div_pow]
    exact Nat.div_le_self _ _
  have e2 : UInt32.ofNat k >>> (UInt32.ofNat j &&& Int32.toUInt32 31) = UInt32.ofNat (k >>> j) := by
    apply UInt32.toNat_inj.1
    have h1 : (UInt32.ofNat k).toNat = k := Nat.mod_eq_of_lt (by omega)
    have h2 : (UInt32.ofNat (k >>> j)).toNat = k >>> j := Nat.mod_eq_of_lt (by omega)
    rw [UInt32.toNat_shiftRight, nx_cnt ⟨j, hj⟩, h1, h2]
  show (UInt32.ofNat k >>> (UInt32.ofNat j &&& Int32.toUInt32 31)).toInt32 = _
  rw [e2]
  rfl
theorem nx_bit {k j : Nat} (hk : k < 65536) (hj : j < 16) : (((nI k).toUInt32 >>> ((nI j).toUInt32 &&& Int32.toUInt32 31)).toInt32 &&& 1) = 0 ↔ k.testBit j = false := by
  rw [nx_ush hk (by omega)]
  show nI (k >>> j) &&& nI 1 = 0 ↔ _
  rw [nx_and, Nat.and_one_is_mod, ← nI_0, nI_eq (by omega) (by omega), Nat.testBit_eq_decide_div_mod_eq, Nat.shiftRight_eq_div_pow, decide_eq_false_iff_not]
  generalize k / 2 ^ j = z
  omega
theorem nx_mod (k : Nat) : nI k &&& 65535 = nI (k % 65536) := by
  show nI k &&& nI 65535 = _
  rw [nx_and, show (65535 : Nat) = 2 ^ 16 - 1 from rfl, Nat.and_two_pow_sub_one_eq_mod]
theorem nx_m16 {k : Nat} (h : k < 65536) : nI k &&& 65535 = nI k := by rw [nx_mod, Nat.mod_eq_of_lt h]
theorem nx_mask (x : Int32) : ∃ k, k < 65536 ∧ x &&& 65535 = nI k := by
  have e : x = nI x.toBitVec.toNat := by
    apply Int32.toBitVec_inj.1
    show x.toBitVec = BitVec.ofNat 32 x.toBitVec.toNat
    simp
  refine ⟨x.toBitVec.toNat % 65536, Nat.mod_lt _ (by omega), ?_⟩
  rw [← nx_mod, ← e]
/-! ===== Int32 as a set of bits: test, set ===== -/
def nf_M (m : Int32) : Nat := 4294967296 - m.toBitVec.toNat
theorem nf_sh : ∀ l, l < 32 → ((1 : Int32) <<< (nI l &&& 31)).toBitVec = BitVec.twoPow 32 l := by decide +kernel
theorem nf_sl : ∀ l, l < 32 → (((nI l).toUInt32 &&& Int32.toUInt32 31).toBitVec % 32).toNat = l := by decide +kernel
theorem nf_tp : ∀ l, l < 32 → BitVec.twoPow 32 l ≠ 0#32 := by decide +kernel
theorem nf_bit (m : Int32) (l : Nat) (hl : l < 32) : ((m.toUInt32 >>> ((nI l).toUInt32 &&& Int32.toUInt32 31)).toInt32 &&& 1) = 0 ↔ (m &&& ((1 : Int32) <<< (nI l &&& 31))) = 0 := by
  have e : ((m.toUInt32 >>> ((nI l).toUInt32 &&& Int32.toUInt32 31)).toInt32).toBitVec = m.toBitVec >>> l := by
    show m.toBitVec >>> (((nI l).toUInt32 &&& Int32.toUInt32 31).toBitVec % 32) = m.toBitVec >>> l
    rw [BitVec.ushiftRight_eq', nf_sl l hl]
  rw [← Int32.toBitVec_inj, ← Int32.toBitVec_inj, Int32.toBitVec_and, Int32.toBitVec_and, nf_sh l hl, e, BitVec.and_twoPow]
  show (m.toBitVec >>> l &&& 1#32) = 0#32 ↔ _ = 0#32
  rw [BitVec.and_one_eq_setWidth_ofBool_getLsbD, BitVec.getLsbD_ushiftRight, Nat.add_zero]
  cases hb : m.toBitVec.getLsbD l
  · exact ⟨fun _ => by simp, fun _ => by decide⟩
  · exact ⟨fun z => absurd z (by decide), fun z => absurd ((if_pos rfl).symm.trans z) (nf_tp l hl)⟩
theorem nf_gr (m k : Int32) (h : m &&& k = 0) (hk : k ≠ 0) : nf_M (m ||| k) < nf_M m := by
  have hm := m.toBitVec.isLt
  have hm' := (m ||| k).toBitVec.isLt
  have h1 : m.toBitVec.toNat ≤ (m ||| k).toBitVec.toNat := by
    rw [Int32.toBitVec_or, BitVec.toNat_or]
    exact Nat.left_le_or
  have h2 : m.toBitVec.toNat ≠ (m ||| k).toBitVec.toNat := by
    intro e
    have e2 : m = m ||| k := Int32.toBitVec_inj.mp (BitVec.eq_of_toNat_eq e)
    apply hk
    apply Int32.toBitVec_inj.mp
    show k.toBitVec = 0#32
    apply BitVec.eq_of_getLsbD_eq
    intro i hi
    have a : m.toBitVec.getLsbD i = (m.toBitVec.getLsbD i || k.toBitVec.getLsbD i) := by rw [← BitVec.getLsbD_or, ← Int32.toBitVec_or, ← e2]
    have b : (m.toBitVec.getLsbD i && k.toBitVec.getLsbD i) = false := by
      rw [← BitVec.getLsbD_and, ← Int32.toBitVec_and, h]
      exact BitVec.getLsbD_zero
    rw [BitVec.getLsbD_zero]
    revert a b
    cases m.toBitVec.getLsbD i <;> cases k.toBitVec.getLsbD i <;> simp
  unfold nf_M
  omega
/-! ===== a byte read unsigned ===== -/
theorem bp_b (x : Int32) : x.toInt8.toInt32 &&& 255 = x &&& 255 := by
  apply Int32.toBitVec_inj.mp
  rw [Int32.toBitVec_and, Int32.toBitVec_and, Int8.toBitVec_toInt32, Int32.toBitVec_toInt8]
  apply BitVec.eq_of_getLsbD_eq
  intro i hi
  rw [BitVec.getLsbD_and, BitVec.getLsbD_and]
  have hm : ∀ i < 32, 8 ≤ i → (255 : Int32).toBitVec.getLsbD i = false := by decide
  rcases Nat.lt_or_ge i 8 with z | z
  · rw [BitVec.getLsbD_signExtend, BitVec.getLsbD_signExtend, if_pos z, if_pos hi]
    simp only [z, hi, decide_true, Bool.true_and]
  · rw [hm i hi z]; simp
/-! ===== the char cast and 65535 ===== -/
theorem em_w (v : Int32) : ∃ w : Nat, w < 65536 ∧ (v.toUInt32 % 65536).toInt32 = nI w ∧ v &&& 65535 = nI w := by
  have hr := lw_u16_r v
  have h0 : (0 : Int32).toInt = 0 := by decide
  obtain ⟨w, h1, h2⟩ := nI_of (x := lw_u16 v) (by rw [Int32.lt_iff_toInt_lt]; omega)
  have h3 : (v.toUInt32 % 65536).toInt32 = nI w := h2
  rw [h2, nI_toInt h1] at hr
  exact ⟨w, by omega, h3, by rw [← lg_i2c_mask, ← lg_i2c_nf, h3]⟩
/-! ===== Int64 as a set of bits: test, set, clear ===== -/
theorem ts_nf {x : Bool} (h : ¬ x = false) : x = true := by cases x <;> first | rfl | exact absurd rfl h
theorem ts_nt {x : Bool} (h : ¬ x = true) : x = false := by cases x <;> first | rfl | exact absurd rfl h
theorem ts_bit {w : Int64} {s : UInt64} {j : Nat} (hj : j < 64) (hs : s.toNat = j) : ((w.toUInt64 >>> s).toInt64 &&& 1) = 0 ↔ w.toBitVec.getLsbD j = false := by
  have e : (w.toUInt64 >>> s).toInt64.toBitVec = w.toBitVec >>> j := by
    apply BitVec.eq_of_toNat_eq
    show (w.toUInt64 >>> s).toNat = _
    rw [UInt64.toNat_shiftRight, hs, Nat.mod_eq_of_lt hj, BitVec.toNat_ushiftRight]
    rfl
  rw [← Int64.toBitVec_inj, Int64.toBitVec_and, e]
  show w.toBitVec >>> j &&& 1#64 = 0#64 ↔ _
  constructor
  · intro h
    have t := congrArg (fun x => x.getLsbD 0) h
    simpa using t
  · intro h
    apply BitVec.eq_of_getLsbD_eq
    intro i hi
    cases i with
    | zero => simp [h]
    | succ i => simp
theorem ts_or {w m : Int64} {j : Nat} (hj : j < 64) (hm : m.toBitVec = BitVec.twoPow 64 j) : (w ||| m) = w ↔ w.toBitVec.getLsbD j = true := by
  rw [← Int64.toBitVec_inj, Int64.toBitVec_or, hm]
  constructor
  · intro h
    have t := congrArg (fun x => x.getLsbD j) h
    simp only [BitVec.getLsbD_or, BitVec.getLsbD_twoPow] at t
    simpa [hj] using t.symm
  · intro h
    apply BitVec.eq_of_getLsbD_eq
    intro i hi
    rw [BitVec.getLsbD_or, BitVec.getLsbD_twoPow]
    by_cases e : j = i
    · subst e; rw [h, Bool.true_or]
    · simp [e]
theorem ts_and {w m : Int64} {j : Nat} (hj : j < 64) (hm : m.toBitVec = BitVec.twoPow 64 j) : (w &&& (m ^^^ (-1))) = w ↔ w.toBitVec.getLsbD j = false := by
  have ha : (-1 : Int64).toBitVec = BitVec.allOnes 64 := by decide
  rw [← Int64.toBitVec_inj, Int64.toBitVec_and, Int64.toBitVec_xor, hm, ha]
  constructor
  · intro h
    have t := congrArg (fun x => x.getLsbD j) h
    simp only [BitVec.getLsbD_and, BitVec.getLsbD_xor, BitVec.getLsbD_twoPow, BitVec.getLsbD_allOnes] at t
    simpa [hj] using t.symm
  · intro h
    apply BitVec.eq_of_getLsbD_eq
    intro i hi
    rw [BitVec.getLsbD_and, BitVec.getLsbD_xor, BitVec.getLsbD_twoPow, BitVec.getLsbD_allOnes]
    by_cases e : j = i
    · subst e; rw [h, Bool.false_and]
    · simp [e, hi]
/-! ===== lN n to 2^64: shifts, and, or, masks, one bit ===== -/
theorem wb_tb (n : Nat) : (lN n).toBitVec = BitVec.ofNat 64 n := rfl
theorem wb_inj {a b : Int64} (h : a.toBitVec = b.toBitVec) : a = b := Int64.toBitVec_inj.mp h
theorem wb_tn {n : Nat} (h : n < 2 ^ 64) : (lN n).toBitVec.toNat = n := by rw [wb_tb, BitVec.toNat_ofNat, Nat.mod_eq_of_lt h]
theorem wb_of (x : Int64) : ∃ n, n < 2 ^ 64 ∧ x = lN n := ⟨x.toBitVec.toNat, x.toBitVec.isLt, wb_inj (by rw [wb_tb]; simp)⟩
theorem wb_of32 (x : Int32) : ∃ n, n < 2 ^ 32 ∧ x = nI n := ⟨x.toBitVec.toNat, x.toBitVec.isLt, Int32.toBitVec_inj.mp (by show _ = BitVec.ofNat 32 _; simp)⟩
theorem wb_c : ∀ k, k < 64 → ((nI k).toInt64 &&& 63) = lN k := by decide +kernel
theorem wb_cu : ∀ k, k < 64 → ((nI k).toInt64.toUInt64 &&& Int64.toUInt64 63) = UInt64.ofNat k := by decide +kernel
theorem wb_sm : ∀ k, k < 64 → (BitVec.ofNat 64 k).smod 64 = BitVec.ofNat 64 k := by decide +kernel
theorem wb_pw {a b : Nat} (h : a ≤ b) : 2 ^ b = 2 ^ a * 2 ^ (b - a) := by rw [← Nat.pow_add]; congr 1; omega
theorem wb_lt2 {a b : Nat} (h : a < b) : 2 ^ a < 2 ^ b := Nat.pow_lt_pow_right (by decide) h
theorem wb_mod (n : Nat) : lN n = lN (n % 2 ^ 64) := wb_inj (by rw [wb_tb, wb_tb]; apply BitVec.eq_of_toNat_eq; rw [BitVec.toNat_ofNat, BitVec.toNat_ofNat, Nat.mod_mod])
theorem wb_shr {n k : Nat} (hn : n < 2 ^ 64) (hk : k < 64) : ((lN n).toUInt64 >>> ((nI k).toInt64.toUInt64 &&& Int64.toUInt64 63)).toInt64 = lN (n / 2 ^ k) := by
  rw [wb_cu k hk]
  apply wb_inj
  apply BitVec.eq_of_toNat_eq
  show ((lN n).toUInt64 >>> UInt64.ofNat k).toNat = (BitVec.ofNat 64 _).toNat
  have h1 : (UInt64.ofNat k).toNat = k := by
    show (BitVec.ofNat 64 k).toNat = k
    rw [BitVec.toNat_ofNat, Nat.mod_eq_of_lt (by omega)]
  have h2 : (lN n).toUInt64.toNat = n := wb_tn hn
  rw [UInt64.toNat_shiftRight, h1, h2, Nat.mod_eq_of_lt hk, Nat.shiftRight_eq_div_pow, BitVec.toNat_ofNat, Nat.mod_eq_of_lt (Nat.lt_of_le_of_lt (Nat.div_le_self _ _) hn)]
theorem wb_shl (n : Nat) {k : Nat} (hk : k < 64) : lN n <<< ((nI k).toInt64 &&& 63) = lN (n * 2 ^ k) := by
  rw [wb_c k hk]
  apply wb_inj
  rw [Int64.toBitVec_shiftLeft, wb_tb, wb_tb, wb_tb, wb_sm k hk]
  apply BitVec.eq_of_toNat_eq
  rw [BitVec.shiftLeft_eq', BitVec.toNat_shiftLeft, BitVec.toNat_ofNat, BitVec.toNat_ofNat, BitVec.toNat_ofNat, Nat.mod_eq_of_lt (show k < 2 ^ 64 by omega), Nat.shiftLeft_eq, Nat.mul_mod, Nat.mod_mod, ← Nat.mul_mod]
theorem wb_and {a b : Nat} (ha : a < 2 ^ 64) (hb : b < 2 ^ 64) : lN a &&& lN b = lN (a &&& b) := by
  apply wb_inj
  rw [Int64.toBitVec_and, wb_tb, wb_tb, wb_tb]
  apply BitVec.eq_of_toNat_eq
  rw [BitVec.toNat_and, BitVec.toNat_ofNat, BitVec.toNat_ofNat, BitVec.toNat_ofNat, Nat.mod_eq_of_lt ha, Nat.mod_eq_of_lt hb, Nat.mod_eq_of_lt (Nat.and_lt_two_pow _ hb)]
theorem wb_or {a b : Nat} (ha : a < 2 ^ 64) (hb : b < 2 ^ 64) : lN a ||| lN b = lN (a ||| b) := by
  apply wb_inj
  rw [Int64.toBitVec_or, wb_tb, wb_tb, wb_tb]
  apply BitVec.eq_of_toNat_eq
  rw [BitVec.toNat_or, BitVec.toNat_ofNat, BitVec.toNat_ofNat, BitVec.toNat_ofNat, Nat.mod_eq_of_lt ha, Nat.mod_eq_of_lt hb, Nat.mod_eq_of_lt (Nat.or_lt_two_pow ha hb)]
theorem wb_mask {n k : Nat} (hn : n < 2 ^ 64) (hk : k < 64) : lN n &&& lN (2 ^ k - 1) = lN (n % 2 ^ k) := by
  rw [wb_and hn (by have := wb_lt2 hk; omega), Nat.and_two_pow_sub_one_eq_mod]
theorem wb_a1 {n : Nat} (hn : n < 2 ^ 64) : lN n &&& 1 = lN (n % 2) := wb_mask (k := 1) hn (by decide)
theorem wb_bit {n k : Nat} (hn : n < 2 ^ 64) (hk : k < 64) : ((lN n).toUInt64 >>> ((nI k).toInt64.toUInt64 &&& Int64.toUInt64 63)).toInt64 &&& 1 = lN (n / 2 ^ k % 2) := by
  rw [wb_shr hn hk, wb_a1 (Nat.lt_of_le_of_lt (Nat.div_le_self _ _) hn)]
theorem wb_xor {q k : Nat} (hk : k < 63) (h : 2 ^ k ≤ q) (h2 : q < 2 ^ (k + 1)) : lN q ^^^ lN (2 ^ k) = lN (q - 2 ^ k) := by
  obtain ⟨r, rfl⟩ : ∃ r, q = 2 ^ k + r := ⟨q - 2 ^ k, by omega⟩
  have hr : r < 2 ^ k := by rw [Nat.pow_succ] at h2; omega
  have hx : (2 ^ k + r) ^^^ 2 ^ k = r := by
    apply Nat.eq_of_testBit_eq
    intro i
    rw [Nat.testBit_xor, Nat.testBit_two_pow]
    rcases Nat.lt_trichotomy i k with h | h | h
    · rw [Nat.testBit_two_pow_add_gt h]
      simp [show ¬ k = i by omega]
    · subst h
      rw [Nat.testBit_two_pow_add_eq]
      simp
    · have a1 : 2 ^ (k + 1) ≤ 2 ^ i := Nat.pow_le_pow_right (by decide) h
      rw [Nat.testBit_lt_two_pow (show 2 ^ k + r < 2 ^ i by omega), Nat.testBit_lt_two_pow (show r < 2 ^ i by omega)]
      simp [show ¬ k = i by omega]
  have b1 := wb_lt2 (show k + 1 < 64 by omega)
  have b2 := wb_lt2 (show k < 64 by omega)
  apply wb_inj
  rw [Int64.toBitVec_xor, wb_tb, wb_tb, wb_tb]
  apply BitVec.eq_of_toNat_eq
  rw [BitVec.toNat_xor, BitVec.toNat_ofNat, BitVec.toNat_ofNat, BitVec.toNat_ofNat, Nat.mod_eq_of_lt (by omega : 2 ^ k + r < 2 ^ 64), Nat.mod_eq_of_lt b2, hx, Nat.add_sub_cancel_left, Nat.mod_eq_of_lt (by omega)]
/-! ===== lN: masks, 'or' of parts that don't overlap is a sum ===== -/
theorem u_tn {n : Nat} (h : n < 2 ^ 64) : (UInt64.ofNat n).toNat = n := Nat.mod_eq_of_lt h
theorem g_and {a b c : Nat} (ha : a < 2 ^ 64) (hb : b < 2 ^ 64) (hc : a &&& b = c) : lN a &&& lN b = lN c := by
  subst hc
  have h : UInt64.ofNat a &&& UInt64.ofNat b = UInt64.ofNat (a &&& b) := UInt64.toNat_inj.mp (by rw [UInt64.toNat_and, u_tn ha, u_tn hb, u_tn (Nat.and_lt_two_pow a hb)])
  have h2 := congrArg UInt64.toInt64 h
  exact h2
theorem g_and1 {a : Nat} (ha : a < 2 ^ 64) : lN a &&& 1 = lN (a % 2) := g_and (b := 1) ha (by decide) (Nat.and_two_pow_sub_one_eq_mod a 1)
theorem g_mask {a s p : Nat} (hp : 2 ^ s = p) (hs : s < 64) (ha : a < 2 ^ 64) : lN a &&& lN (p - 1) = lN (a % p) := by
  subst hp
  have := Nat.pow_lt_pow_right (show 1 < 2 by decide) hs
  exact g_and ha (by omega) (Nat.and_two_pow_sub_one_eq_mod a s)
theorem g_or {k p a b : Nat} (hp : 2 ^ k = p) (ha : a < p) (h : b * p + a < 2 ^ 64) : lN (b * p) ||| lN a = lN (b * p + a) := by
  subst hp
  have h1 : b * 2 ^ k ||| a = b * 2 ^ k + a := by rw [← Nat.shiftLeft_eq, Nat.shiftLeft_add_eq_or_of_lt ha]
  have h3 : UInt64.ofNat (b * 2 ^ k) ||| UInt64.ofNat a = UInt64.ofNat (b * 2 ^ k + a) := UInt64.toNat_inj.mp (by rw [UInt64.toNat_or, u_tn (by omega), u_tn (by omega), u_tn h, h1])
  have h2 := congrArg UInt64.toInt64 h3
  exact h2
theorem g_or' {k p a b : Nat} (hp : 2 ^ k = p) (ha : a < p) (h : a + b * p < 2 ^ 64) : lN a ||| lN (b * p) = lN (a + b * p) := by
  rw [Int64.or_comm, g_or hp ha (by omega), Nat.add_comm]
theorem g_ushr {a k p : Nat} {y : UInt64} (hy : y = UInt64.ofNat k) (hk : k < 64) (hp : 2 ^ k = p) (ha : a < 2 ^ 64) : ((lN a).toUInt64 >>> y).toInt64 = lN (a / p) := by
  subst hy hp
  have h : UInt64.ofNat a >>> UInt64.ofNat k = UInt64.ofNat (a / 2 ^ k) := UInt64.toNat_inj.mp (by rw [UInt64.toNat_shiftRight, u_tn ha, u_tn (by omega), u_tn (Nat.lt_of_le_of_lt (Nat.div_le_self _ _) ha), Nat.mod_eq_of_lt hk, Nat.shiftRight_eq_div_pow])
  have h2 := congrArg UInt64.toInt64 h
  exact h2
theorem g_shl {a k p : Nat} {y : Int64} (hy : y.toBitVec.smod 64 = BitVec.ofNat 64 k) (hk : k < 64) (hp : 2 ^ k = p) (ha : a < 2 ^ 64) : lN a <<< y = lN (a * p) := by
  subst hp
  apply Int64.toBitVec_inj.mp
  rw [Int64.toBitVec_shiftLeft, hy]
  apply BitVec.eq_of_toNat_eq
  have hb : (lN a).toBitVec.toNat = a := Nat.mod_eq_of_lt ha
  have hk' : (BitVec.ofNat 64 k).toNat = k := Nat.mod_eq_of_lt (by omega)
  have h : ((lN a).toBitVec <<< BitVec.ofNat 64 k).toNat = (a * 2 ^ k) % 2 ^ 64 := by simp only [BitVec.shiftLeft_eq', BitVec.toNat_shiftLeft, hb, hk', Nat.shiftLeft_eq]
  exact h
/-! ===== lN to 2^62 under >> and >>> ===== -/
theorem pf_lI {a : Nat} (h : a < 2 ^ 63) : (lN a).toInt = (a : Int) := lg_ofNat_toInt h
theorem pf_shr {a d : Nat} {D : Int64} (hD : (D.toBitVec.smod 64).toNat = d) (h : a < 2 ^ 62) : lN a >>> D = lN (a / 2 ^ d) := by
  have hd : a / 2 ^ d ≤ a := Nat.div_le_self _ _
  apply Int64.toInt_inj.mp
  have e : (lN a >>> D).toInt = (lN a).toInt >>> d := by
    rw [← hD]
    exact BitVec.toInt_sshiftRight ..
  rw [e, Int.shiftRight_eq_div_pow, pf_lI (by omega), pf_lI (by omega)]
  rfl
theorem pf_ushr {a d : Nat} {D : UInt64} (hD : D.toNat % 64 = d) (h : a < 2 ^ 62) : ((lN a).toUInt64 >>> D).toInt64 = lN (a / 2 ^ d) := by
  have hd : a / 2 ^ d ≤ a := Nat.div_le_self _ _
  have e : (lN a).toUInt64 >>> D = UInt64.ofNat (a / 2 ^ d) := UInt64.toNat_inj.mp (by
    rw [UInt64.toNat_shiftRight, hD, Nat.shiftRight_eq_div_pow, UInt64.toNat_ofNat']
    show (UInt64.ofNat a).toNat / 2 ^ d = _
    rw [UInt64.toNat_ofNat', Nat.mod_eq_of_lt (by omega), Nat.mod_eq_of_lt (by omega)])
  rw [e]
  rfl
theorem pf_andw (x : Int64) : ∃ m, m < 2 ^ 32 ∧ x &&& 4294967295 = lN m := ⟨x.toBitVec.toNat % 2 ^ 32, Nat.mod_lt _ (by decide), Int64.toBitVec_inj.mp (BitVec.eq_of_toNat_eq (by
  show (x.toBitVec &&& 4294967295#64).toNat = (BitVec.ofNat 64 (x.toBitVec.toNat % 2 ^ 32)).toNat
  rw [BitVec.toNat_and, show (4294967295#64).toNat = 2 ^ 32 - 1 from by decide, Nat.and_two_pow_sub_one_eq_mod, BitVec.toNat_ofNat]
  omega))⟩
/-! ===== Int64 as an unsigned number: uN x ===== -/
def uN (x : Int64) : Nat := x.toUInt64.toNat
theorem uN_lt (x : Int64) : uN x < 18446744073709551616 := x.toUInt64.toNat_lt
theorem uN_inj {x y : Int64} (h : uN x = uN y) : x = y := congrArg UInt64.toInt64 (UInt64.toNat_inj.mp h)
theorem uN_add (x y : Int64) : uN (x + y) = (uN x + uN y) % 18446744073709551616 := by
  show (x.toUInt64 + y.toUInt64).toNat = _
  exact UInt64.toNat_add _ _
theorem uN_mul (x y : Int64) : uN (x * y) = (uN x * uN y) % 18446744073709551616 := by
  show (x.toUInt64 * y.toUInt64).toNat = _
  exact UInt64.toNat_mul _ _
theorem uN_shl (x : Int64) : uN (x <<< ((1 : Int32).toInt64 &&& 63)) = (2 * uN x) % 18446744073709551616 := by
  have h : (((1 : Int32).toInt64 &&& 63).toBitVec.smod 64).toNat = 1 := by decide
  show (x.toBitVec <<< (((1 : Int32).toInt64 &&& 63).toBitVec.smod 64).toNat).toNat = _
  rw [h, BitVec.toNat_shiftLeft, Nat.shiftLeft_eq, Nat.mul_comm]
  rfl
theorem uN_shr (x : Int64) (s : UInt64) : uN (x.toUInt64 >>> s).toInt64 = uN x / 2 ^ (s.toNat % 64) := by
  show (x.toUInt64 >>> s).toNat = _
  rw [UInt64.toNat_shiftRight, Nat.shiftRight_eq_div_pow]
  rfl
theorem uN_s32 (x : Int64) : uN (x.toUInt64 >>> ((32 : Int32).toInt64.toUInt64 &&& Int64.toUInt64 63)).toInt64 = uN x / 4294967296 := by
  have h : ((32 : Int32).toInt64.toUInt64 &&& Int64.toUInt64 63).toNat % 64 = 32 := by decide
  rw [uN_shr, h]
theorem uN_s63 (x : Int64) : uN (x.toUInt64 >>> ((63 : Int32).toInt64.toUInt64 &&& Int64.toUInt64 63)).toInt64 = uN x / 9223372036854775808 := by
  have h : ((63 : Int32).toInt64.toUInt64 &&& Int64.toUInt64 63).toNat % 64 = 63 := by decide
  rw [uN_shr, h]
theorem uN_lo (x : Int64) : uN (x &&& 4294967295) = uN x % 4294967296 := by
  show (x.toUInt64 &&& Int64.toUInt64 4294967295).toNat = _
  rw [UInt64.toNat_and]
  exact Nat.and_two_pow_sub_one_eq_mod _ 32
theorem uN_bit (x : Int64) : (x &&& 1) = 0 ↔ uN x % 2 = 0 := by
  have h : uN (x &&& 1) = uN x % 2 := by
    show (x.toUInt64 &&& Int64.toUInt64 1).toNat = _
    rw [UInt64.toNat_and]
    exact Nat.and_two_pow_sub_one_eq_mod _ 1
  rw [← h]
  exact ⟨fun z => by rw [z]; rfl, fun z => uN_inj (z.trans rfl)⟩
theorem uN_or {x y : Int64} (hy : uN y < 2) : uN ((x <<< ((1 : Int32).toInt64 &&& 63)) ||| y) = (2 * uN x) % 18446744073709551616 + uN y := by
  have h1 : uN ((x <<< ((1 : Int32).toInt64 &&& 63)) ||| y) = uN (x <<< ((1 : Int32).toInt64 &&& 63)) ||| uN y := UInt64.toNat_or _ _
  have h2 : (2 * uN x) % 18446744073709551616 = 2 ^ 1 * (uN x % 9223372036854775808) := by omega
  rw [h1, uN_shl, h2]
  exact (Nat.two_pow_add_eq_or_of_lt (i := 1) hy _).symm
theorem nat_xor {a : Nat} (h : a < 18446744073709551616) : a ^^^ 2 ^ 63 = (a + 9223372036854775808) % 18446744073709551616 := by
  have h1 : (a ^^^ 2 ^ 63) % 2 ^ 63 = a % 2 ^ 63 := by rw [Nat.xor_mod_two_pow, Nat.mod_self, Nat.xor_zero]
  have h2 : (a ^^^ 2 ^ 63) / 2 ^ 63 = (a / 2 ^ 63) ^^^ 1 := by rw [Nat.xor_div_two_pow, Nat.div_self (Nat.two_pow_pos 63)]
  have h3 : a / 2 ^ 63 = 0 ∨ a / 2 ^ 63 = 1 := by omega
  generalize a ^^^ 2 ^ 63 = t at h1 h2
  rcases h3 with h3 | h3
  · rw [h3] at h2
    have h2 : t / 2 ^ 63 = 1 := h2
    omega
  · rw [h3] at h2
    have h2 : t / 2 ^ 63 = 0 := h2
    omega
theorem uN_xor (x : Int64) : uN (x ^^^ (-9223372036854775808)) = (uN x + 9223372036854775808) % 18446744073709551616 := by
  rw [← nat_xor (uN_lt x)]
  exact UInt64.toNat_xor _ _
theorem uN_int (x : Int64) : x.toInt = if 2 * uN x < 18446744073709551616 then (uN x : Int) else (uN x : Int) - 18446744073709551616 := BitVec.toInt_eq_toNat_cond _
theorem uN_le (x y : Int64) : (x ^^^ (-9223372036854775808)) ≤ (y ^^^ (-9223372036854775808)) ↔ uN x ≤ uN y := by
  have hx := uN_lt x
  have hy := uN_lt y
  rw [Int64.le_iff_toInt_le, uN_int, uN_int, uN_xor, uN_xor]
  omega
theorem uN_sk (x : Int64) {k : Nat} (hk : k < 64) : uN (x.toUInt64 >>> ((nI k).toInt64.toUInt64 &&& Int64.toUInt64 63)).toInt64 = uN x / 2 ^ k := by
  have h : ((nI k).toInt64.toUInt64 &&& Int64.toUInt64 63).toNat % 64 = k := by
    rw [nI_l (by omega), UInt64.toNat_and]
    have e : (lN k).toUInt64.toNat = k % 2 ^ 64 := rfl
    have e2 : (Int64.toUInt64 63).toNat = 2 ^ 6 - 1 := by decide
    rw [e, e2, Nat.and_two_pow_sub_one_eq_mod]
    omega
  rw [uN_shr, h]
/-! ===== unsigned comparison by xor with the least ===== -/
theorem lN_bv (n : Nat) : (lN n).toBitVec = BitVec.ofNat 64 n := rfl
theorem lN_nat {n : Nat} (h : n < 2 ^ 64) : (lN n).toBitVec.toNat = n := by rw [lN_bv, BitVec.toNat_ofNat]; exact Nat.mod_eq_of_lt h
theorem lN_xor (a b : Nat) : lN a ^^^ lN b = lN (a ^^^ b) := by
  apply Int64.toBitVec_inj.mp; rw [Int64.toBitVec_xor, lN_bv, lN_bv, lN_bv]; apply BitVec.eq_of_getLsbD_eq; intro i hi; simp [BitVec.getLsbD_ofNat, Nat.testBit_xor, hi]
theorem lN_ti {m : Nat} (h : m < 2 ^ 64) : (lN m).toInt = if m < 2 ^ 63 then (m : Int) else (m : Int) - 2 ^ 64 := by
  have c := BitVec.toInt_eq_toNat_cond (lN m).toBitVec
  rw [lN_nat h] at c
  show (lN m).toBitVec.toInt = _
  rw [c]
  split <;> split <;> omega
theorem xor63 {x : Nat} (h : x < 2 ^ 63) : x ^^^ 2 ^ 63 = 2 ^ 63 + x := by
  apply Nat.eq_of_testBit_eq
  intro i
  rw [Nat.testBit_xor, Nat.testBit_two_pow]
  rcases Nat.lt_trichotomy i 63 with z | z | z
  · rw [Nat.testBit_two_pow_add_gt z, decide_eq_false (by omega)]; simp
  · subst z; rw [Nat.testBit_two_pow_add_eq]; simp
  · have hp : 2 ^ 64 ≤ 2 ^ i := Nat.pow_le_pow_right (by decide) z
    rw [Nat.testBit_lt_two_pow (show x < 2 ^ i by omega), Nat.testBit_lt_two_pow (show 2 ^ 63 + x < 2 ^ i by omega), decide_eq_false (by omega)]; rfl
theorem xorS {a : Nat} (h : a < 2 ^ 64) : (lN a ^^^ (-9223372036854775808)).toInt = (a : Int) - 2 ^ 63 := by
  rw [show (-9223372036854775808 : Int64) = lN (2 ^ 63) from by decide +kernel, lN_xor]
  rcases Nat.lt_or_ge a (2 ^ 63) with z | z
  · rw [xor63 z, lN_ti (by omega), if_neg (by omega)]; omega
  · obtain ⟨x, rfl⟩ : ∃ x, a = 2 ^ 63 + x := ⟨a - 2 ^ 63, by omega⟩
    rw [← xor63 (by omega), Nat.xor_assoc, Nat.xor_self, Nat.xor_zero, lN_ti (by omega), if_pos (by omega), xor63 (by omega)]; omega
theorem ultL {a b : Nat} (ha : a < 2 ^ 64) (hb : b < 2 ^ 64) : ((lN b ^^^ (-9223372036854775808)) ≤ (lN a ^^^ (-9223372036854775808))) ↔ b ≤ a := by
  rw [Int64.le_iff_toInt_le, xorS ha, xorS hb]; omega
/-! ===== Int64 masks of n low bits ===== -/
theorem cr_bits (W U M : BitVec 64) : ((W &&& U) &&& (U &&& (M ^^^ BitVec.allOnes 64))) = 0#64 ↔ (W &&& U) &&& M = W &&& U := by
  constructor
  · intro h
    apply BitVec.eq_of_getLsbD_eq
    intro i hi
    have e := congrArg (fun x => BitVec.getLsbD x i) h
    simp only [BitVec.getLsbD_and, BitVec.getLsbD_xor, BitVec.getLsbD_allOnes, BitVec.getLsbD_zero, hi, decide_true] at e ⊢
    revert e
    cases W.getLsbD i <;> cases U.getLsbD i <;> cases M.getLsbD i <;> decide
  · intro h
    apply BitVec.eq_of_getLsbD_eq
    intro i hi
    have e := congrArg (fun x => BitVec.getLsbD x i) h
    simp only [BitVec.getLsbD_and, BitVec.getLsbD_xor, BitVec.getLsbD_allOnes, BitVec.getLsbD_zero, hi, decide_true] at e ⊢
    revert e
    cases W.getLsbD i <;> cases U.getLsbD i <;> cases M.getLsbD i <;> decide
theorem cr_mask (w U m : Int64) (n : Nat) (hm : m.toBitVec.toNat = 2 ^ n - 1) : ((w &&& U) &&& (U &&& (m ^^^ (-1)))) = 0 ↔ (w &&& U).toBitVec.toNat < 2 ^ n := by
  have e0 : (-1 : Int64).toBitVec = BitVec.allOnes 64 := by decide
  have z0 : (0 : Int64).toBitVec = 0#64 := by decide
  rw [← Int64.toBitVec_inj, z0, Int64.toBitVec_and, Int64.toBitVec_and, Int64.toBitVec_and, Int64.toBitVec_xor, e0, cr_bits]
  generalize w.toBitVec &&& U.toBitVec = T
  rw [← BitVec.toNat_inj, BitVec.toNat_and, hm, Nat.and_two_pow_sub_one_eq_mod]
  constructor
  · intro h
    have t := Nat.mod_lt T.toNat (Nat.two_pow_pos n)
    rw [h] at t
    exact t
  · exact Nat.mod_eq_of_lt
theorem cr_shr (t : Int64) (x : UInt64) (n : Nat) (hx : x.toNat % 64 = n) : (t.toUInt64 >>> x).toInt64 = 0 ↔ t.toBitVec.toNat < 2 ^ n := by
  rw [← Int64.toBitVec_inj, ← BitVec.toNat_inj]
  show (t.toUInt64 >>> x).toNat = 0 ↔ t.toUInt64.toNat < 2 ^ n
  rw [UInt64.toNat_shiftRight, hx, Nat.shiftRight_eq_div_pow]
  constructor
  · intro h
    have d : t.toUInt64.toNat / 2 ^ n < 1 := by
      rw [h]
      decide
    have e := (Nat.div_lt_iff_lt_mul (Nat.two_pow_pos n)).mp d
    rw [Nat.one_mul] at e
    exact e
  · exact Nat.div_eq_of_lt
theorem cr_amt (s : Int64) : ∃ n, n < 64 ∧ s &&& 63 = lN n ∧ (s.toUInt64 &&& Int64.toUInt64 63).toNat % 64 = n := by
  have e : (s.toUInt64 &&& Int64.toUInt64 63).toNat = s.toUInt64.toNat % 2 ^ 6 := by
    rw [UInt64.toNat_and, show (Int64.toUInt64 63).toNat = 2 ^ 6 - 1 from by decide, Nat.and_two_pow_sub_one_eq_mod]
  refine ⟨s.toUInt64.toNat % 2 ^ 6, by omega, ?_, by omega⟩
  rw [← Int64.toBitVec_inj, ← BitVec.toNat_inj]
  show (s.toUInt64 &&& Int64.toUInt64 63).toNat = (BitVec.ofNat 64 (s.toUInt64.toNat % 2 ^ 6)).toNat
  rw [e, BitVec.toNat_ofNat]
  omega
end
section
/-! bits, entries, numbers -/
theorem zb_b1 : ∀ i, i < 32 → bt 1 i = decide (i = 0) := by decide +kernel
theorem zb_1 (x : Int32) : (x &&& 1) = 0 ↔ bt x 0 = false := by
  constructor
  · intro h
    have e := b_and x 1 0
    rw [h, b_0, zb_b1 0 (by omega)] at e
    simpa using e.symm
  · intro h
    refine b_ext (fun i hi => ?_)
    rw [b_and, b_0, zb_b1 i hi]
    by_cases z : i = 0
    · subst z; simp [h]
    · simp [z]
theorem zb_us (x : Int32) (j : Nat) (hj : j < 32) : ((x.toUInt32 >>> ((nI j).toUInt32 &&& Int32.toUInt32 31)).toInt32 &&& 1) = 0 ↔ bt x j = false := by
  rw [zb_1, b_ushr j hj, Nat.add_zero]
theorem zb_b01 (x : Int32) : (x &&& 1) = 0 ∨ (x &&& 1) = 1 := by
  cases h : bt x 0
  · exact Or.inl ((zb_1 x).mpr h)
  · refine Or.inr (b_ext (fun i hi => ?_))
    rw [b_and, zb_b1 i hi]
    by_cases z : i = 0
    · subst z; simp [h]
    · simp [z]
theorem zb_1' (x : Int32) : (x &&& 1) = 1 ↔ bt x 0 = true := by
  constructor
  · intro h
    cases e : bt x 0
    · have := (zb_1 x).mpr e
      rw [this] at h
      exact absurd h (by decide)
    · rfl
  · intro h
    rcases zb_b01 x with z | z
    · rw [zb_1, h] at z; exact absurd z (by decide)
    · exact z
theorem zb_us' (x : Int32) (j : Nat) (hj : j < 32) : ((x.toUInt32 >>> ((nI j).toUInt32 &&& Int32.toUInt32 31)).toInt32 &&& 1) = 1 ↔ bt x j = true := by
  rw [zb_1', b_ushr j hj, Nat.add_zero]
theorem zb_ss (x : Int32) (j : Nat) (hj : j < 32) : ((x >>> (nI j &&& 31)) &&& 1) = 0 ↔ bt x j = false := by
  rw [zb_1, b_sshr j hj x (by omega), if_pos (by omega), Nat.add_zero]
theorem zb_sh (j : Nat) (hj : j < 32) (i : Nat) (hi : i < 32) : bt ((1 : Int32) <<< (nI j &&& 31)) i = decide (i = j) := by
  rw [b_shl j hj 1 hi, zb_b1 _ (by omega)]
  by_cases z : i = j
  · subst z; simp
  · by_cases y : j ≤ i
    · have : ¬ i - j = 0 := by omega
      simp [z, this]
    · simp [z, y]
theorem zb_t1 (x : Int32) (j : Nat) (hj : j < 32) : (x &&& ((1 : Int32) <<< (nI j &&& 31))) = 0 ↔ bt x j = false := by
  constructor
  · intro h
    have e := b_and x ((1 : Int32) <<< (nI j &&& 31)) j
    rw [h, b_0, zb_sh j hj j hj] at e
    simpa using e.symm
  · intro h
    refine b_ext (fun i hi => ?_)
    rw [b_and, b_0, zb_sh j hj i hi]
    by_cases z : i = j
    · subst z; simp [h]
    · simp [z]
theorem zb_t2 (x : Int32) (a b : Nat) (ha : a < 32) (hb : b < 32) : (x &&& (((1 : Int32) <<< (nI a &&& 31)) ||| ((1 : Int32) <<< (nI b &&& 31)))) = 0 ↔ (bt x a = false ∧ bt x b = false) := by
  constructor
  · intro h
    constructor
    · have e := b_and x (((1 : Int32) <<< (nI a &&& 31)) ||| ((1 : Int32) <<< (nI b &&& 31))) a
      rw [h, b_0, b_or, zb_sh a ha a ha] at e
      simpa using e.symm
    · have e := b_and x (((1 : Int32) <<< (nI a &&& 31)) ||| ((1 : Int32) <<< (nI b &&& 31))) b
      rw [h, b_0, b_or, zb_sh b hb b hb] at e
      simpa using e.symm
  · intro h
    refine b_ext (fun i hi => ?_)
    rw [b_and, b_0, b_or, zb_sh a ha i hi, zb_sh b hb i hi]
    by_cases z : i = a
    · subst z; simp [h.1]
    · by_cases y : i = b
      · subst y; simp [h.2]
      · simp [z, y]
theorem zb_nt (x : Int32) (i : Nat) (hi : i < 32) : bt (x ^^^ (-1)) i = !bt x i := by
  rw [b_xor, b_m1 i hi]; cases bt x i <;> rfl
theorem zb_15 : ∀ l, l < 4 → ∀ i, i < 32 → bt ((15 : Int32) <<< ((16 + (4 * nI l)) &&& 31)) i = decide (16 + 4 * l ≤ i ∧ i < 20 + 4 * l) := by decide +kernel
theorem zb_mk : ∀ z, z < 5 → (z = 1 ∨ z = 2 ∨ z = 4) → ∀ q, q < 8 → ∀ i, i < 32 → bt ((((1 : Int32) <<< (nI z &&& 31)) - 1) <<< (nI q &&& 31)) i = decide (q ≤ i ∧ i < q + z) := by decide +kernel
theorem zb_rnd : ∀ z, z < 5 → (z = 1 ∨ z = 2 ∨ z = 4) → ∀ w, w < 128 → nI w &&& (-nI z) = nI (w - w % z) := by decide +kernel
/-- two ints of an and whose bits are all 0 -/
theorem zb_zero (x : Int32) (h : ∀ i, i < 32 → bt x i = false) : x = 0 := b_ext (fun i hi => by rw [h i hi, b_0])
theorem zb_pos {x : Int32} {i : Nat} (h : bt x i = true) : ¬ x = 0 := fun e => by rw [e, b_0] at h; exact absurd h (by decide)
theorem zn_tb (n : Nat) : (nI n).toBitVec.toNat = n % 4294967296 := by
  have e : (nI n).toBitVec = BitVec.ofNat 32 n := rfl
  rw [e, BitVec.toNat_ofNat]
/-! entries -/
def ze_v (k a b x y : Nat) : Nat := (256 * k + 16 * a + b) * 1073741824 + x * 32768 + y
def ze_ok (k a b x y : Nat) : Prop := k < 4 ∧ a < 16 ∧ b < 16 ∧ x < 32768 ∧ y < 32768
theorem ze_lt {k a b x y : Nat} (h : ze_ok k a b x y) : ze_v k a b x y < 1099511627776 := by
  obtain ⟨h1, h2, h3, h4, h5⟩ := h; unfold ze_v; omega
theorem ze_mk {k a b x y : Nat} (h : ze_ok k a b x y) : (((nI (256 * k + 16 * a + b)).toInt64 <<< ((30 : Int32).toInt64 &&& 63)) ||| ((nI x <<< ((15 : Int32) &&& 31)).toInt64)) ||| (nI y).toInt64 = lN (ze_v k a b x y) := by
  obtain ⟨h1, h2, h3, h4, h5⟩ := h
  have e1 : (nI (256 * k + 16 * a + b)).toInt64 <<< ((30 : Int32).toInt64 &&& 63) = lN ((256 * k + 16 * a + b) * 1073741824) := by
    rw [nI_l (by omega)]; exact wb_shl _ (k := 30) (by omega)
  have e2 : nI x <<< ((15 : Int32) &&& 31) = nI (x * 32768) := pk_shlN _ 15 (by decide) (by omega)
  rw [e1, e2, nI_l (by omega), nI_l (by omega), g_or (k := 30) (p := 1073741824) (by decide) (by omega) (by omega)]
  have e3 : (256 * k + 16 * a + b) * 1073741824 + x * 32768 = ((256 * k + 16 * a + b) * 32768 + x) * 32768 := by omega
  rw [e3, g_or (k := 15) (p := 32768) (by decide) (by omega) (by omega)]
  unfold ze_v; rw [e3]
theorem ze_s30 {k a b x y : Nat} (h : ze_ok k a b x y) : lN (ze_v k a b x y) >>> ((30 : Int32).toInt64 &&& 63) = lN (256 * k + 16 * a + b) := by
  have hl := ze_lt h
  obtain ⟨h1, h2, h3, h4, h5⟩ := h
  rw [pf_shr (d := 30) (by decide) (by omega)]
  congr 1; unfold ze_v; omega
theorem ze_c {k a b x y : Nat} (h : ze_ok k a b x y) : (lN (ze_v k a b x y) >>> ((30 : Int32).toInt64 &&& 63)).toInt32 = nI (256 * k + 16 * a + b) := by
  rw [ze_s30 h, lN_i]
theorem ze_s15 {k a b x y : Nat} (h : ze_ok k a b x y) : lN (ze_v k a b x y) >>> ((15 : Int32).toInt64 &&& 63) = lN ((256 * k + 16 * a + b) * 32768 + x) := by
  have hl := ze_lt h
  obtain ⟨h1, h2, h3, h4, h5⟩ := h
  rw [pf_shr (d := 15) (by decide) (by omega)]
  congr 1; unfold ze_v; omega
theorem ze_x {k a b x y : Nat} (h : ze_ok k a b x y) : ((lN (ze_v k a b x y) >>> ((15 : Int32).toInt64 &&& 63)).toInt32) &&& 32767 = nI x := by
  rw [ze_s15 h, lN_i]
  obtain ⟨h1, h2, h3, h4, h5⟩ := h
  rw [pk_andN (by omega) 15 (by decide)]
  congr 1; omega
theorem ze_xL {k a b x y : Nat} (h : ze_ok k a b x y) : (lN (ze_v k a b x y) >>> ((15 : Int32).toInt64 &&& 63)) &&& 32767 = lN x := by
  rw [ze_s15 h]
  obtain ⟨h1, h2, h3, h4, h5⟩ := h
  have e := g_mask (a := (256 * k + 16 * a + b) * 32768 + x) (s := 15) (p := 32768) (by decide) (by omega) (by omega)
  refine e.trans ?_
  congr 1; omega
theorem ze_y {k a b x y : Nat} (h : ze_ok k a b x y) : ((lN (ze_v k a b x y)).toInt32) &&& 32767 = nI y := by
  have hl := ze_lt h
  obtain ⟨h1, h2, h3, h4, h5⟩ := h
  rw [lN_i, pk_and _ 15 (by decide)]
  rw [zn_tb]
  have e : ze_v k a b x y % 4294967296 % 2 ^ 15 = y := by unfold ze_v; omega
  rw [e]
theorem ze_yL {k a b x y : Nat} (h : ze_ok k a b x y) : lN (ze_v k a b x y) &&& 32767 = lN y := by
  have hl := ze_lt h
  obtain ⟨h1, h2, h3, h4, h5⟩ := h
  have e := g_mask (a := ze_v k a b x y) (s := 15) (p := 32768) (by decide) (by omega) (by omega)
  refine e.trans ?_
  congr 1; unfold ze_v; omega
theorem ze_k {k a b x y : Nat} (h : ze_ok k a b x y) : lN (ze_v k a b x y) >>> ((38 : Int32).toInt64 &&& 63) = lN k := by
  have hl := ze_lt h
  obtain ⟨h1, h2, h3, h4, h5⟩ := h
  rw [pf_shr (d := 38) (by decide) (by omega)]
  congr 1; unfold ze_v; omega
theorem ze_0 {k a b x y : Nat} (h : ze_ok k a b x y) (hk : 1 ≤ k) : ¬ lN (ze_v k a b x y) = 0 := by
  have hl := ze_lt h
  obtain ⟨h1, h2, h3, h4, h5⟩ := h
  intro e
  have e' : lN (ze_v k a b x y) = lN 0 := e
  rw [pk_lEQ (by omega) (by omega)] at e'
  unfold ze_v at e'; omega
theorem ze_a {k a b : Nat} (hk : k < 4) (ha : a < 16) (hb : b < 16) : (nI (256 * k + 16 * a + b) >>> ((4 : Int32) &&& 31)) &&& 15 = nI a := by
  rw [pk_shrN (by omega) _ 4 (by decide), pk_andN (by omega) 4 (by decide)]
  congr 1; omega
theorem ze_kk {k a b : Nat} (hk : k < 4) (ha : a < 16) (hb : b < 16) : nI (256 * k + 16 * a + b) >>> ((8 : Int32) &&& 31) = nI k := by
  rw [pk_shrN (by omega) _ 8 (by decide)]
  congr 1; omega
theorem ze_b {k a b : Nat} (hk : k < 4) (ha : a < 16) (hb : b < 16) : nI (256 * k + 16 * a + b) &&& 15 = nI b := by
  rw [pk_andN (by omega) 4 (by decide)]
  congr 1; omega
/-! packed blocks -/
theorem zn_hi {b : Nat} (h : b < 2 ^ 31) : nI b >>> ((8 : Int32) &&& 31) = nI (b / 256) := pk_shrN h _ 8 (by decide)
theorem zn_lo {b : Nat} (h : b < 2 ^ 31) : nI b &&& 255 = nI (b % 256) := pk_andN (by omega) 8 (by decide)
theorem zn_pk (s z : Nat) : (256 : Int32) * nI s + nI z = nI (256 * s + z) := by
  have e : (256 : Int32) * nI s = nI (256 * s) := pk_mul 256 s
  rw [e, nI_add]
theorem zn_8 (k : Nat) : (8 : Int32) * nI k = nI (8 * k) := pk_mul 8 k
theorem zn_4 (k : Nat) : (4 : Int32) * nI k = nI (4 * k) := pk_mul 4 k
theorem zn_3 (k : Nat) : (3 : Int32) * nI k = nI (3 * k) := pk_mul 3 k
theorem zn_2 (k : Nat) : (2 : Int32) * nI k = nI (2 * k) := pk_mul 2 k
theorem zn_16 (k : Nat) : (16 : Int32) * nI k = nI (16 * k) := pk_mul 16 k
theorem zn_eq0 {b : Nat} (h : b < 2 ^ 31) : nI b = 0 ↔ b = 0 := nI_eq (b := 0) h (by omega)
theorem zn_le0 {b : Nat} (h : b < 2 ^ 31) : nI b ≤ 0 ↔ b = 0 := by
  have := nI_leI (a := b) (b := 0) h (by omega)
  rw [nI_0] at this
  rw [this]; omega
end
section
/-! the index of held blocks, in plain Lean -/
def za_cov (b w : Nat) : Prop := b / 256 ≤ w ∧ w < b / 256 + b % 256
def za_wf (C b : Nat) : Prop := (b % 256 = 1 ∨ (b % 256 = 2 ∧ b / 256 % 2 = 0) ∨ (b % 256 = 4 ∧ b / 256 % 4 = 0) ∨ (8 ≤ b % 256 ∧ b % 256 % 8 = 0 ∧ b / 256 % 8 = 0)) ∧ b / 256 + b % 256 ≤ 8 * C
def za_in (b k : Nat) : Prop := b / 256 < 8 * k + 8 ∧ 8 * k < b / 256 + b % 256
def zu (B : Nat → Nat) (κ b : Nat) : Nat → Nat := fun j => if j = κ then b else B j
theorem zu_s {B : Nat → Nat} {κ b : Nat} : zu B κ b κ = b := if_pos rfl
theorem zu_n {B : Nat → Nat} {κ b j : Nat} (h : j ≠ κ) : zu B κ b j = B j := if_neg h
theorem za_c0 {w : Nat} : ¬ za_cov 0 w := by unfold za_cov; omega
theorem za_wf_lt {C b : Nat} (hC : C ≤ 16) (h : za_wf C b) : b < 32768 ∧ b ≠ 0 ∧ b / 256 < 128 ∧ 0 < b % 256 := by
  obtain ⟨h1, h2⟩ := h
  rcases h1 with h | h | h | h <;> omega
theorem za_wf_up {C b : Nat} (hC : C ≤ 16) (h : za_wf C b) : za_wf 16 b := ⟨h.1, by have := h.2; omega⟩
theorem za_st {C b : Nat} (h : za_wf C b) : za_cov b (b / 256) := by
  obtain ⟨h1, h2⟩ := h
  unfold za_cov
  rcases h1 with h | h | h | h <;> omega
theorem za_in_w {C b k : Nat} (h : za_wf C b) (hi : za_in b k) : ∃ i, i < 8 ∧ za_cov b (8 * k + i) := by
  obtain ⟨h1, h2⟩ := h
  obtain ⟨i1, i2⟩ := hi
  unfold za_cov
  rcases h1 with h | h | h | h
  · exact ⟨b / 256 % 8, by omega, by omega⟩
  · exact ⟨b / 256 % 8, by omega, by omega⟩
  · exact ⟨b / 256 % 8, by omega, by omega⟩
  · exact ⟨0, by omega, by omega⟩
theorem za_cov_in {b k i : Nat} (hi : i < 8) (h : za_cov b (8 * k + i)) : za_in b k := by
  unfold za_cov at h; unfold za_in; omega
theorem za_big {C b k i : Nat} (h : za_wf C b) (h8 : 8 ≤ b % 256) (hk : za_in b k) (hi : i < 8) : za_cov b (8 * k + i) := by
  obtain ⟨h1, h2⟩ := h
  obtain ⟨i1, i2⟩ := hk
  unfold za_cov
  rcases h1 with h | h | h | h <;> omega
def za_PB (C : Nat) (B : Nat → Nat) : Prop :=
  (∀ κ, κ < 44 → B κ = 0 ∨ za_wf C (B κ)) ∧
  (∀ κ κ' w, κ < 44 → κ' < 44 → za_cov (B κ) w → za_cov (B κ') w → κ = κ') ∧
  (∀ κ κ' w w', κ < 44 → κ' < 44 → w / 8 = w' / 8 → za_cov (B κ) w → za_cov (B κ') w' → B κ % 256 = B κ' % 256)
def za_IX (B cd : Nat → Nat) (U S H O : Nat → Int32) : Prop :=
  (∀ k, k < 16 → ∀ i, i < 32 → (bt (U k) i = true ↔ i < 8 ∧ ∃ κ, κ < 44 ∧ za_cov (B κ) (8 * k + i))) ∧
  (∀ k, k < 16 → ∀ κ, κ < 44 → ∀ i, i < 8 → za_cov (B κ) (8 * k + i) → S k = nI (B κ % 256) ∧ (8 ≤ B κ % 256 → H k = nI (B κ / 256))) ∧
  (∀ k, k < 16 → (∀ κ, κ < 44 → ∀ i, i < 8 → ¬ za_cov (B κ) (8 * k + i)) → S k = 0) ∧
  (∀ κ, κ < 44 → B κ ≠ 0 → O (B κ / 256) = nI (cd κ))
def za_mk (h : Bool) (b : Nat) (U S H U' S' H' : Nat → Int32) : Prop :=
  ∀ k, k < 16 →
    (∀ i, i < 32 → (bt (U' k) i = true ↔ (h = true ∧ (bt (U k) i = true ∨ (i < 8 ∧ za_cov b (8 * k + i)))) ∨ (h = false ∧ bt (U k) i = true ∧ ¬ (i < 8 ∧ za_cov b (8 * k + i))))) ∧
    (za_in b k → ((U' k = 0 → S' k = 0) ∧ (¬ U' k = 0 → S' k = nI (b % 256))) ∧ H' k = nI (b / 256)) ∧
    (¬ za_in b k → S' k = S k ∧ H' k = H k)
theorem za_PB_lt {C : Nat} {B : Nat → Nat} (hC : C ≤ 16) (P : za_PB C B) {κ : Nat} (hκ : κ < 44) : B κ < 32768 := by
  rcases P.1 κ hκ with h | h
  · omega
  · exact (za_wf_lt hC h).1
theorem za_PB_map {C : Nat} {B B' : Nat → Nat} (σ : Nat → Nat) (P : za_PB C B)
    (h1 : ∀ κ, κ < 44 → B' κ ≠ 0 → σ κ < 44 ∧ B' κ = B (σ κ))
    (h2 : ∀ κ κ', κ < 44 → κ' < 44 → B' κ ≠ 0 → B' κ' ≠ 0 → σ κ = σ κ' → κ = κ') : za_PB C B' := by
  obtain ⟨P1, P2, P3⟩ := P
  have nz : ∀ κ w, za_cov (B' κ) w → B' κ ≠ 0 := fun κ w h e => by rw [e] at h; exact za_c0 h
  refine ⟨fun κ hκ => ?_, fun κ κ' w hκ hκ' c c' => ?_, fun κ κ' w w' hκ hκ' hw c c' => ?_⟩
  · by_cases e : B' κ = 0
    · exact Or.inl e
    · obtain ⟨a, b⟩ := h1 κ hκ e
      rw [b]; exact P1 _ a
  · have n1 := nz _ _ c
    have n2 := nz _ _ c'
    obtain ⟨a, b⟩ := h1 κ hκ n1
    obtain ⟨a', b'⟩ := h1 κ' hκ' n2
    rw [b] at c; rw [b'] at c'
    exact h2 κ κ' hκ hκ' n1 n2 (P2 _ _ w a a' c c')
  · have n1 := nz _ _ c
    have n2 := nz _ _ c'
    obtain ⟨a, b⟩ := h1 κ hκ n1
    obtain ⟨a', b'⟩ := h1 κ' hκ' n2
    rw [b] at c ⊢; rw [b'] at c' ⊢
    exact P3 _ _ w w' a a' hw c c'
theorem za_IX_map {B B' cd cd' : Nat → Nat} {U S H O O' : Nat → Int32} (X : za_IX B cd U S H O)
    (h1 : ∀ κ, κ < 44 → B κ ≠ 0 → ∃ κ', κ' < 44 ∧ B' κ' = B κ)
    (h2 : ∀ κ, κ < 44 → B' κ ≠ 0 → ∃ κ', κ' < 44 ∧ B κ' = B' κ)
    (ho : ∀ κ, κ < 44 → B' κ ≠ 0 → O' (B' κ / 256) = nI (cd' κ)) : za_IX B' cd' U S H O' := by
  obtain ⟨X1, X2, X3, X4⟩ := X
  have nz : ∀ (A : Nat → Nat) κ w, za_cov (A κ) w → A κ ≠ 0 := fun A κ w h e => by rw [e] at h; exact za_c0 h
  refine ⟨fun k hk i hi => ?_, fun k hk κ hκ i hi c => ?_, fun k hk hn => ?_, ho⟩
  · rw [X1 k hk i hi]
    constructor
    · rintro ⟨h8, κ, hκ, c⟩
      obtain ⟨κ', hκ', e⟩ := h1 κ hκ (nz B κ _ c)
      exact ⟨h8, κ', hκ', by rw [e]; exact c⟩
    · rintro ⟨h8, κ, hκ, c⟩
      obtain ⟨κ', hκ', e⟩ := h2 κ hκ (nz B' κ _ c)
      exact ⟨h8, κ', hκ', by rw [e]; exact c⟩
  · obtain ⟨κ', hκ', e⟩ := h2 κ hκ (nz B' κ _ c)
    rw [← e] at c ⊢
    exact X2 k hk κ' hκ' i hi c
  · refine X3 k hk (fun κ hκ i hi c => ?_)
    obtain ⟨κ', hκ', e⟩ := h1 κ hκ (nz B κ _ c)
    exact hn κ' hκ' i hi (by rw [e]; exact c)
theorem za_take {C : Nat} {B cd : Nat → Nat} {U S H O U' S' H' : Nat → Int32} {κ b : Nat} (hC : C ≤ 16) (P : za_PB C B) (X : za_IX B cd U S H O)
    (hκ : κ < 44) (h0 : B κ = 0) (wb : za_wf C b)
    (hv : ∀ κ' w, κ' < 44 → za_cov b w → ¬ za_cov (B κ') w)
    (hh : ∀ κ' w w', κ' < 44 → w / 8 = w' / 8 → za_cov b w → za_cov (B κ') w' → B κ' % 256 = b % 256)
    (M : za_mk true b U S H U' S' H') : za_PB C (zu B κ b) ∧ za_IX (zu B κ b) cd U' S' H' (upd O (b / 256) (nI (cd κ))) := by
  obtain ⟨P1, P2, P3⟩ := P
  obtain ⟨X1, X2, X3, X4⟩ := X
  have zs : zu B κ b κ = b := if_pos rfl
  have zn : ∀ j, j ≠ κ → zu B κ b j = B j := fun j h => if_neg h
  refine ⟨⟨?_, ?_, ?_⟩, ?_, ?_, ?_, ?_⟩
  · intro j hj
    by_cases e : j = κ
    · rw [e, zs]; exact Or.inr wb
    · rw [zn j e]; exact P1 j hj
  · intro i j w hi hj ci cj
    by_cases e : i = κ
    · by_cases f : j = κ
      · rw [e, f]
      · rw [e, zs] at ci; rw [zn j f] at cj; exact absurd cj (hv j w hj ci)
    · by_cases f : j = κ
      · rw [f, zs] at cj; rw [zn i e] at ci; exact absurd ci (hv i w hi cj)
      · rw [zn i e] at ci; rw [zn j f] at cj; exact P2 i j w hi hj ci cj
  · intro i j w w' hi hj hw ci cj
    by_cases e : i = κ
    · by_cases f : j = κ
      · rw [e, f]
      · rw [e, zs] at ci ⊢; rw [zn j f] at cj ⊢; exact (hh j w w' hj hw ci cj).symm
    · by_cases f : j = κ
      · rw [f, zs] at cj ⊢; rw [zn i e] at ci ⊢; exact hh i w' w hi hw.symm cj ci
      · rw [zn i e] at ci ⊢; rw [zn j f] at cj ⊢; exact P3 i j w w' hi hj hw ci cj
  · intro k hk i hi
    rw [(M k hk).1 i hi, X1 k hk i hi]
    constructor
    · rintro (⟨_, h | h⟩ | ⟨h, _⟩)
      · obtain ⟨h8, j, hj, cj⟩ := h
        refine ⟨h8, j, hj, ?_⟩
        have ne : j ≠ κ := fun e => by rw [e, h0] at cj; exact za_c0 cj
        rw [zn j ne]; exact cj
      · exact ⟨h.1, κ, hκ, by rw [zs]; exact h.2⟩
      · exact absurd h (by decide)
    · rintro ⟨h8, j, hj, cj⟩
      refine Or.inl ⟨rfl, ?_⟩
      by_cases e : j = κ
      · rw [e, zs] at cj; exact Or.inr ⟨h8, cj⟩
      · rw [zn j e] at cj; exact Or.inl ⟨h8, j, hj, cj⟩
  · intro k hk j hj i hi cj
    have hU : ¬ U' k = 0 := by
      refine zb_pos (i := i) (((M k hk).1 i (by omega)).mpr (Or.inl ⟨rfl, ?_⟩))
      by_cases e : j = κ
      · rw [e, zs] at cj; exact Or.inr ⟨hi, cj⟩
      · rw [zn j e] at cj; exact Or.inl ((X1 k hk i (by omega)).mpr ⟨hi, j, hj, cj⟩)
    by_cases hin : za_in b k
    · obtain ⟨⟨_, hS⟩, hH⟩ := (M k hk).2.1 hin
      obtain ⟨i0, hi0, c0⟩ := za_in_w wb hin
      by_cases e : j = κ
      · rw [e, zs]; exact ⟨hS hU, fun _ => hH⟩
      · rw [zn j e] at cj ⊢
        have es := hh j (8 * k + i0) (8 * k + i) hj (by omega) c0 cj
        refine ⟨by rw [es]; exact hS hU, fun h8 => absurd cj (hv j _ hj (za_big wb (by omega) hin hi))⟩
    · have e : j ≠ κ := fun e => hin (by rw [e, zs] at cj; exact za_cov_in hi cj)
      rw [zn j e] at cj ⊢
      obtain ⟨a, c⟩ := (M k hk).2.2 hin
      rw [a, c]; exact X2 k hk j hj i hi cj
  · intro k hk hn
    have hin : ¬ za_in b k := fun hin => by
      obtain ⟨i0, hi0, c0⟩ := za_in_w wb hin
      exact hn κ hκ i0 hi0 (by rw [zs]; exact c0)
    rw [((M k hk).2.2 hin).1]
    refine X3 k hk (fun j hj i hi cj => ?_)
    by_cases e : j = κ
    · rw [e, h0] at cj; exact za_c0 cj
    · exact hn j hj i hi (by rw [zn j e]; exact cj)
  · intro j hj hn
    by_cases e : j = κ
    · rw [e, zs]; exact pk_us
    · rw [zn j e] at hn ⊢
      have wj : za_wf C (B j) := (P1 j hj).resolve_left hn
      have ne : B j / 256 ≠ b / 256 := fun h => hv j (b / 256) hj (za_st wb) (by rw [← h]; exact za_st wj)
      rw [pk_un ne]; exact X4 j hj hn
theorem za_drop {C : Nat} {B cd : Nat → Nat} {U S H O U' S' H' : Nat → Int32} {κ : Nat} (P : za_PB C B) (X : za_IX B cd U S H O)
    (hκ : κ < 44) (M : za_mk false (B κ) U S H U' S' H') : za_PB C (zu B κ 0) ∧ za_IX (zu B κ 0) cd U' S' H' O := by
  have P' := P
  obtain ⟨P1, P2, P3⟩ := P
  obtain ⟨X1, X2, X3, X4⟩ := X
  have zs : zu B κ 0 κ = 0 := if_pos rfl
  have zn : ∀ j, j ≠ κ → zu B κ 0 j = B j := fun j h => if_neg h
  refine ⟨za_PB_map id P' (fun j hj hn => ?_) (fun i j _ _ _ _ e => e), ?_, ?_, ?_, ?_⟩
  · by_cases e : j = κ
    · rw [e, zs] at hn; exact absurd rfl hn
    · exact ⟨hj, zn j e⟩
  · intro k hk i hi
    rw [(M k hk).1 i hi, X1 k hk i hi]
    constructor
    · rintro (⟨h, _⟩ | ⟨_, ⟨h8, j, hj, cj⟩, nb⟩)
      · exact absurd h (by decide)
      · refine ⟨h8, j, hj, ?_⟩
        have ne : j ≠ κ := fun e => nb ⟨h8, by rw [← e]; exact cj⟩
        rw [zn j ne]; exact cj
    · rintro ⟨h8, j, hj, cj⟩
      have ne : j ≠ κ := fun e => by rw [e, zs] at cj; exact za_c0 cj
      rw [zn j ne] at cj
      exact Or.inr ⟨rfl, ⟨h8, j, hj, cj⟩, fun h => ne (P2 j κ _ hj hκ cj h.2)⟩
  · intro k hk j hj i hi cj
    have ne : j ≠ κ := fun e => by rw [e, zs] at cj; exact za_c0 cj
    rw [zn j ne] at cj ⊢
    have hU : ¬ U' k = 0 := by
      refine zb_pos (i := i) (((M k hk).1 i (by omega)).mpr (Or.inr ⟨rfl, (X1 k hk i (by omega)).mpr ⟨hi, j, hj, cj⟩, fun h => ne (P2 j κ _ hj hκ cj h.2)⟩))
    by_cases hin : za_in (B κ) k
    · obtain ⟨⟨_, hS⟩, hH⟩ := (M k hk).2.1 hin
      have wk : za_wf C (B κ) := (P1 κ hκ).resolve_left (fun e => by rw [e] at hin; unfold za_in at hin; omega)
      obtain ⟨i0, hi0, c0⟩ := za_in_w wk hin
      have es := P3 j κ (8 * k + i) (8 * k + i0) hj hκ (by omega) cj c0
      refine ⟨by rw [es]; exact hS hU, fun h8 => absurd (P2 j κ _ hj hκ cj (za_big wk (by omega) hin hi)) ne⟩
    · obtain ⟨a, c⟩ := (M k hk).2.2 hin
      rw [a, c]; exact X2 k hk j hj i hi cj
  · intro k hk hn
    have hU : U' k = 0 := by
      refine zb_zero _ (fun i hi => ?_)
      cases hb : bt (U' k) i
      · rfl
      · rcases ((M k hk).1 i hi).mp hb with ⟨h, _⟩ | ⟨_, hb', nb⟩
        · exact absurd h (by decide)
        · obtain ⟨h8, j, hj, cj⟩ := (X1 k hk i hi).mp hb'
          have ne : j ≠ κ := fun e => nb ⟨h8, by rw [← e]; exact cj⟩
          exact absurd (by rw [zn j ne]; exact cj) (hn j hj i h8)
    by_cases hin : za_in (B κ) k
    · exact ((M k hk).2.1 hin).1.1 hU
    · rw [((M k hk).2.2 hin).1]
      refine X3 k hk (fun j hj i hi cj => ?_)
      by_cases e : j = κ
      · rw [e] at cj; exact hin (za_cov_in hi cj)
      · exact hn j hj i hi (by rw [zn j e]; exact cj)
  · intro j hj hn
    by_cases e : j = κ
    · rw [e, zs] at hn; exact absurd rfl hn
    · rw [zn j e] at hn ⊢; exact X4 j hj hn
end
section
/-! X's own helpers, one lemma each -/
def za_mk1 (h : Bool) (b k : Nat) (U S H U' S' H' : Nat → Int32) : Prop :=
    (∀ i, i < 32 → (bt (U' k) i = true ↔ (h = true ∧ (bt (U k) i = true ∨ (i < 8 ∧ za_cov b (8 * k + i)))) ∨ (h = false ∧ bt (U k) i = true ∧ ¬ (i < 8 ∧ za_cov b (8 * k + i))))) ∧
    (za_in b k → ((U' k = 0 → S' k = 0) ∧ (¬ U' k = 0 → S' k = nI (b % 256))) ∧ H' k = nI (b / 256)) ∧
    (¬ za_in b k → S' k = S k ∧ H' k = H k)
theorem za_mk1_out {h : Bool} {b k : Nat} {U S H U' S' H' : Nat → Int32} (hi : ¬ za_in b k) (e : U' k = U k ∧ S' k = S k ∧ H' k = H k) : za_mk1 h b k U S H U' S' H' := by
  refine ⟨fun i _ => ?_, fun h => absurd h hi, fun _ => e.2⟩
  have nc : ¬ (i < 8 ∧ za_cov b (8 * k + i)) := fun c => hi (za_cov_in c.1 c.2)
  rw [e.1]
  cases h <;> simp [nc]
def za_mkp (h : Bool) (b kc : Nat) (U S H U' S' H' : Nat → Int32) : Prop :=
  ∀ k, k < 16 → (k < kc → za_mk1 h b k U S H U' S' H') ∧ (kc ≤ k → U' k = U k ∧ S' k = S k ∧ H' k = H k)
section
variable {fc fs fl pe lk dn rl : Int32} {cur sta lst sb ow cS cU cH ha ct tk ll ob : Nat → Int32} {me ms en : Nat → Int64}
theorem zx_mark_97 {post : SX → Prop} {J : Int32 → (Nat → Int32) → (Nat → Int32) → (Nat → Int32) → (Nat → Int64) → (Nat → Int64) → (Nat → Int32) → (Nat → Int32) → (Nat → Int32) → (Nat → Int32) → (Nat → Int32) → (Nat → Int32) → (Nat → Int32) → (Nat → Int32) → (Nat → Int32) → (Nat → Int64) → (Nat → Int32) → Prop} {x2 x3 x4 x5 : Int32} {k : Nat} (hk : k < 16) (z0 : Int32)
    (hJ : J (nI (k + 1)) cur sta lst me ms sb ow (upd cS k (if z0 = 0 then 0 else x4)) (upd cU k z0) (upd cH k x3) ha ct tk ll en ob) :
    wX_mark_97 post J x2 x3 x4 x5 (nI k) z0 (nI k) fc fs fl pe lk dn rl cur sta lst me ms sb ow cS cU cH ha ct tk ll en ob := by
  have hc : (nI k).toNatClampNeg = k := nI_clamp (by omega)
  have hi : vp_in (nI k) 16 := vp_in_nI hk (by omega)
  refine And.intro hi ?_
  intro U eU
  rw [hc] at eU
  subst eU
  refine And.intro hi ?_
  rw [hc, pk_us]
  by_cases z : z0 = 0
  · refine br_t z (And.intro hi ?_)
    intro S eS
    rw [hc] at eS
    subst eS
    refine And.intro hi ?_
    intro H eH
    rw [hc] at eH
    subst eH
    intro y ey
    rw [nI_1] at ey
    subst ey
    rw [if_pos z] at hJ
    exact hJ
  · refine br_f z (And.intro hi ?_)
    intro S eS
    rw [hc] at eS
    subst eS
    refine And.intro hi ?_
    intro H eH
    rw [hc] at eH
    subst eH
    intro y ey
    rw [nI_1] at ey
    subst ey
    rw [if_neg z] at hJ
    exact hJ
theorem zx_mark_l {post : SX → Prop} (h : Bool) {b : Nat} {x5 : Int32} (hb : b < 32768)
    (hm : ∀ k, k < 16 → za_in b k → ∀ i, i < 32 → (bt x5 i = true ↔ i < 8 ∧ za_cov b (8 * k + i)))
    (H : ∀ U' S' H', (∀ k, k < 16 → za_mk1 h b k cU cS cH U' S' H') → post (fc, fs, fl, pe, lk, dn, rl, cur, sta, lst, me, ms, sb, ow, S', U', H', ha, ct, tk, ll, en, ob)) :
    ∀ d k U' S' H', k + d = 16 → b / 256 / 8 ≤ k → za_mkp h b k cU cS cH U' S' H' → ∀ m, d < m →
      wX_mark_43 post (if h = true then 1 else 0) (nI (b / 256)) (nI (b % 256)) x5 fc fs fl pe lk dn rl m (nI k) cur sta lst me ms sb ow S' U' H' ha ct tk ll en ob := by
  intro d
  induction d with
  | zero =>
    intro k U' S' H' hk hge inv m hmm
    obtain ⟨m, rfl⟩ : ∃ m', m = m' + 1 := ⟨m - 1, by omega⟩
    exact pk_le 16 k (fun _ => H _ _ _ (fun j hj => (inv j hj).1 (by omega))) (fun z => absurd z (by omega))
  | succ d ih =>
    intro k U' S' H' hk hge inv m hmm
    obtain ⟨m, rfl⟩ : ∃ m', m = m' + 1 := ⟨m - 1, by omega⟩
    refine pk_le 16 k (fun z => absurd z (by omega)) (fun _ => ?_)
    refine pk_le (b / 256 + b % 256) (8 * k) (fun hle => ?_) (fun hlt => ?_) (nI_add _ _) (zn_8 k)
    · refine H _ _ _ (fun j hj => ?_)
      by_cases jk : j < k
      · exact (inv j hj).1 jk
      · exact za_mk1_out (fun z => by unfold za_in at z; omega) ((inv j hj).2 (by omega))
    · have hin : za_in b k := ⟨by omega, by omega⟩
      have hk16 : k < 16 := by omega
      have hc : (nI k).toNatClampNeg = k := nI_clamp (by omega)
      obtain ⟨eU, eS, eH⟩ := (inv k hk16).2 (by omega)
      have key : ∀ z0 : Int32, (∀ i, i < 32 → (bt z0 i = true ↔ (h = true ∧ (bt (cU k) i = true ∨ (i < 8 ∧ za_cov b (8 * k + i)))) ∨ (h = false ∧ bt (cU k) i = true ∧ ¬ (i < 8 ∧ za_cov b (8 * k + i))))) →
          za_mkp h b (k + 1) cU cS cH (upd U' k z0) (upd S' k (if z0 = 0 then 0 else nI (b % 256))) (upd H' k (nI (b / 256))) := by
        intro z0 hz j hj
        by_cases e : j = k
        · subst e
          refine ⟨fun _ => ⟨fun i hi => ?_, fun _ => ⟨⟨fun hu => ?_, fun hu => ?_⟩, pk_us⟩, fun z => absurd hin z⟩, fun z => absurd z (by omega)⟩
          · rw [pk_us]; exact hz i hi
          · rw [pk_us] at hu ⊢; exact if_pos hu
          · rw [pk_us] at hu ⊢; exact if_neg hu
        · have u1 : upd U' k z0 j = U' j := pk_un e
          have u2 : upd S' k (if z0 = 0 then 0 else nI (b % 256)) j = S' j := pk_un e
          have u3 : upd H' k (nI (b / 256)) j = H' j := pk_un e
          refine ⟨fun z => ?_, fun z => ?_⟩
          · have := (inv j hj).1 (by omega)
            unfold za_mk1 at this ⊢
            rw [u1, u2, u3]; exact this
          · rw [u1, u2, u3]; exact (inv j hj).2 (by omega)
      cases h with
      | false =>
        refine br_t rfl (And.intro (vp_in_nI hk16 (by omega)) ?_)
        rw [hc]
        refine zx_mark_97 hk16 _ (ih (k + 1) _ _ _ (by omega) (by omega) (key _ (fun i hi => ?_)) m (by omega))
        have hx := hm k hk16 hin i hi
        rw [b_and, zb_nt _ i hi, eU]
        cases hb1 : bt (cU k) i <;> cases hb2 : bt x5 i <;> rw [hb2] at hx <;> simp_all
      | true =>
        refine br_f (by decide) (And.intro (vp_in_nI hk16 (by omega)) ?_)
        rw [hc]
        refine zx_mark_97 hk16 _ (ih (k + 1) _ _ _ (by omega) (by omega) (key _ (fun i hi => ?_)) m (by omega))
        have hx := hm k hk16 hin i hi
        rw [b_or, eU]
        cases hb1 : bt (cU k) i <;> cases hb2 : bt x5 i <;> rw [hb2] at hx <;> simp_all
theorem zx_mark {post : SX → Prop} (h : Bool) {b : Nat} {q : Int32} (hq : q = if h = true then 1 else 0) (hb : b = 0 ∨ za_wf 16 b)
    (H : ∀ U' S' H', za_mk h b cU cS cH U' S' H' → post (fc, fs, fl, pe, lk, dn, rl, cur, sta, lst, me, ms, sb, ow, S', U', H', ha, ct, tk, ll, en, ob)) :
    wpX_mark post (fc, fs, fl, pe, lk, dn, rl, cur, sta, lst, me, ms, sb, ow, cS, cU, cH, ha, ct, tk, ll, en, ob) (nI b) q := by
  subst hq
  have hlt : b < 32768 := by
    rcases hb with e | e
    · omega
    · exact (za_wf_lt (by omega) e).1
  have i0 : za_mkp h b (b / 256 / 8) cU cS cH cU cS cH := fun k hk => ⟨fun z => za_mk1_out (fun y => by unfold za_in at y; omega) ⟨rfl, rfl, rfl⟩, fun _ => ⟨rfl, rfl, rfl⟩⟩
  refine nm_r (zn_hi (by omega)) (nm_r (zn_lo (by omega)) ?_)
  have e3 : nI (b / 256) >>> ((3 : Int32) &&& 31) = nI (b / 256 / 8) := pk_shrN (by omega) _ 3 (by decide)
  refine pk_le 8 (b % 256) (fun h8 => ?_) (fun h8 => ?_)
  · refine nm_r e3 ?_
    have wb : za_wf 16 b := hb.resolve_left (fun e => by omega)
    refine Exists.intro 17 (zx_mark_l h hlt (fun k hk hin i hi => ?_) H (16 - b / 256 / 8) _ _ _ _ (by omega) (by omega) i0 17 (by omega))
    rw [b_255]
    constructor
    · intro z
      have z := of_decide_eq_true z
      exact ⟨z, za_big wb h8 hin z⟩
    · intro z; exact decide_eq_true z.1
  · have e7 : nI (b / 256) &&& 7 = nI (b / 256 % 8) := pk_andN (by omega) 3 (by decide)
    refine nm_e (nm_r e3 ?_)
    rw [e7]
    refine Exists.intro 17 (zx_mark_l h hlt (fun k hk hin i hi => ?_) H (16 - b / 256 / 8) _ _ _ _ (by omega) (by omega) i0 17 (by omega))
    have wb : za_wf 16 b := hb.resolve_left (fun e => by rw [e] at hin; unfold za_in at hin; omega)
    have hs : b % 256 = 1 ∨ b % 256 = 2 ∨ b % 256 = 4 := by
      obtain ⟨w1, _⟩ := wb; omega
    rw [zb_mk (b % 256) (by omega) hs (b / 256 % 8) (by omega) i hi]
    have hk8 : k = b / 256 / 8 := by
      obtain ⟨w1, _⟩ := wb; unfold za_in at hin; omega
    have wb1 := wb.1
    unfold za_cov
    constructor
    · intro z
      have z := of_decide_eq_true z
      omega
    · intro z
      exact decide_eq_true (by omega)
/-! persistent lines -/
def zp_ext (pe : Int32) (me : Nat → Int64) (pe' : Int32) (me' : Nat → Int64) : Prop := ∀ j, j < 32 → bt pe' j = false → bt pe j = false ∧ me' j = me j
theorem zp_st {j : Nat} {v : Int64} (hj : j < 32) : zp_ext pe me (pe ||| ((1 : Int32) <<< (nI j &&& 31))) (vp_updL me j v) := by
  intro i hi h
  rw [b_or, zb_sh j hj i hi] at h
  by_cases e : i = j
  · simp [e] at h
  · rw [pk_uLn e]
    simp [e] at h
    exact ⟨h, rfl⟩
theorem zp_tr {pe1 pe2 pe3 : Int32} {m1 m2 m3 : Nat → Int64} (a : zp_ext pe1 m1 pe2 m2) (b : zp_ext pe2 m2 pe3 m3) : zp_ext pe1 m1 pe3 m3 := by
  intro j hj h
  obtain ⟨b1, b2⟩ := b j hj h
  obtain ⟨a1, a2⟩ := a j hj b1
  exact ⟨a1, b2.trans a2⟩
theorem zx_store {post : SX → Prop} {j : Nat} {v : Int64} (hj : j < 32) (H : post (fc, fs, fl, pe ||| ((1 : Int32) <<< (nI j &&& 31)), lk, dn, rl, cur, sta, lst, vp_updL me j v, ms, sb, ow, cS, cU, cH, ha, ct, tk, ll, en, ob)) : wpX_store post (fc, fs, fl, pe, lk, dn, rl, cur, sta, lst, me, ms, sb, ow, cS, cU, cH, ha, ct, tk, ll, en, ob) (nI j) v := by
  refine And.intro (vp_in_nI hj (by omega)) ?_
  intro m em f ef
  rw [nI_clamp (by omega)] at em
  subst em; subst ef
  exact H
theorem zx_store' {post : SX → Prop} {q : Int32} (j : Nat) {v : Int64} (hj : j < 32) (hq : q = nI j) (H : ∀ pe' me', zp_ext pe me pe' me' → (∀ i, me' i = if i = j then v else me i) → post (fc, fs, fl, pe', lk, dn, rl, cur, sta, lst, me', ms, sb, ow, cS, cU, cH, ha, ct, tk, ll, en, ob)) : wpX_store post (fc, fs, fl, pe, lk, dn, rl, cur, sta, lst, me, ms, sb, ow, cS, cU, cH, ha, ct, tk, ll, en, ob) q v := by
  subst hq
  exact zx_store hj (H _ _ (zp_st hj) (fun i => rfl))
theorem zx_persist_l {post : SX → Prop} {x1 x2 : Int32}
    (H : ∀ ms' : Nat → Int64, (∀ j, j < 32 → ms' j = if bt x2 j = true then me j else ms j) → post (fc, fs, fl, pe &&& (x1 ^^^ (-1)), lk, dn, rl, cur, sta, lst, me, ms', sb, ow, cS, cU, cH, ha, ct, tk, ll, en, ob)) :
    ∀ d k (ms' : Nat → Int64), k + d = 32 → (∀ j, j < 32 → ms' j = if j < k ∧ bt x2 j = true then me j else ms j) → ∀ m, d < m →
      wX_persist_9 post x1 x2 fc fs fl pe lk dn rl m (nI k) cur sta lst me ms' sb ow cS cU cH ha ct tk ll en ob := by
  intro d
  induction d with
  | zero =>
    intro k ms' hk inv m hmm
    obtain ⟨m, rfl⟩ : ∃ m', m = m' + 1 := ⟨m - 1, by omega⟩
    refine pk_le 32 k (fun _ => nm_e (H _ (fun j hj => ?_))) (fun z => absurd z (by omega))
    have hjk : j < k := by omega
    rw [inv j hj]; simp [hjk]
  | succ d ih =>
    intro k ms' hk inv m hmm
    obtain ⟨m, rfl⟩ : ∃ m', m = m' + 1 := ⟨m - 1, by omega⟩
    refine pk_le 32 k (fun z => absurd z (by omega)) (fun _ => ?_)
    refine br_c (fun hz => ?_) (fun hz => ?_)
    · rw [zb_us x2 k (by omega)] at hz
      refine nm_r (nI_1 k) (ih (k + 1) ms' (by omega) (fun j hj => ?_) m (by omega))
      rw [inv j hj]
      by_cases e : j = k
      · subst e; simp [hz]
      · have : j < k + 1 ↔ j < k := by omega
        simp [this]
    · rw [zb_us x2 k (by omega)] at hz
      have hz := ts_nf hz
      have hi : vp_in (nI k) 32 := vp_in_nI (by omega) (by omega)
      refine And.intro hi (And.intro hi ?_)
      intro M eM
      rw [nI_clamp (by omega)] at eM
      subst eM
      refine nm_r (nI_1 k) (ih (k + 1) _ (by omega) (fun j hj => ?_) m (by omega))
      by_cases e : j = k
      · subst e; rw [pk_uLs]; simp [hz]
      · rw [pk_uLn e, inv j hj]
        have : j < k + 1 ↔ j < k := by omega
        simp [this]
theorem zx_persist {post : SX → Prop} {q : Int32}
    (H : ∀ ms' : Nat → Int64, (∀ j, j < 32 → ms' j = if bt (pe &&& q) j = true then me j else ms j) → post (fc, fs, fl, pe &&& (q ^^^ (-1)), lk, dn, rl, cur, sta, lst, me, ms', sb, ow, cS, cU, cH, ha, ct, tk, ll, en, ob)) :
    wpX_persist post (fc, fs, fl, pe, lk, dn, rl, cur, sta, lst, me, ms, sb, ow, cS, cU, cH, ha, ct, tk, ll, en, ob) q := by
  refine nm_e (Exists.intro 33 (zx_persist_l H 32 0 ms (by omega) (fun j hj => ?_) 33 (by omega)))
  simp
/-- with 'not pending: equal' a persist copies exactly the lines of its mask -/
theorem zx_persist' {post : SX → Prop} {q : Int32} (hp : ∀ j, j < 32 → bt pe j = false → me j = ms j)
    (H : ∀ pe' (ms' : Nat → Int64), (∀ j, j < 32 → ms' j = if bt q j = true then me j else ms j) → (∀ j, j < 32 → bt pe' j = false → me j = ms' j) → post (fc, fs, fl, pe', lk, dn, rl, cur, sta, lst, me, ms', sb, ow, cS, cU, cH, ha, ct, tk, ll, en, ob)) :
    wpX_persist post (fc, fs, fl, pe, lk, dn, rl, cur, sta, lst, me, ms, sb, ow, cS, cU, cH, ha, ct, tk, ll, en, ob) q := by
  refine zx_persist (fun ms' h => ?_)
  have h' : ∀ j, j < 32 → ms' j = if bt q j = true then me j else ms j := by
    intro j hj
    rw [h j hj, b_and]
    cases b1 : bt pe j
    · rw [hp j hj b1]; simp
    · simp
  refine H _ ms' h' (fun j hj hz => ?_)
  rw [h' j hj]
  rw [b_and, zb_nt _ j hj] at hz
  cases b2 : bt q j
  · rw [b2] at hz
    rw [if_neg (by decide)]
    exact hp j hj (by simpa using hz)
  · rw [if_pos rfl]
theorem zx_erase_l {post : SX → Prop} {l : Nat} (hl : l < 4)
    (H : ∀ pe' (me' : Nat → Int64), zp_ext pe me pe' me' → (∀ j, me' j = if 16 + 4 * l ≤ j ∧ j < 20 + 4 * l then 0 else me j) → post (fc, fs, fl, pe', lk, dn, rl, cur, sta, lst, me', ms, sb, ow, cS, cU, cH, ha, ct, tk, ll, en, ob)) :
    ∀ d k (pe' : Int32) (me' : Nat → Int64), k + d = 4 → zp_ext pe me pe' me' → (∀ j, me' j = if 16 + 4 * l ≤ j ∧ j < 16 + 4 * l + k then 0 else me j) → ∀ m, d < m →
      wX_erase_2 post (nI (16 + 4 * l)) m (nI k) fc fs fl pe' lk dn rl cur sta lst me' ms sb ow cS cU cH ha ct tk ll en ob := by
  intro d
  induction d with
  | zero =>
    intro k pe' me' hk hx inv m hmm
    obtain ⟨m, rfl⟩ : ∃ m', m = m' + 1 := ⟨m - 1, by omega⟩
    refine pk_le 4 k (fun _ => H _ _ hx (fun j => ?_)) (fun z => absurd z (by omega))
    have : (16 + 4 * l ≤ j ∧ j < 20 + 4 * l) ↔ (16 + 4 * l ≤ j ∧ j < 16 + 4 * l + k) := by omega
    rw [inv j]; simp only [this]
  | succ d ih =>
    intro k pe' me' hk hx inv m hmm
    obtain ⟨m, rfl⟩ : ∃ m', m = m' + 1 := ⟨m - 1, by omega⟩
    refine pk_le 4 k (fun z => absurd z (by omega)) (fun _ => ?_)
    rw [nI_add]
    refine zx_store (by omega) ?_
    refine nm_r (nI_1 k) (ih (k + 1) _ _ (by omega) (zp_tr hx (zp_st (by omega))) (fun j => ?_) m (by omega))
    by_cases e : j = 16 + 4 * l + k
    · subst e; rw [pk_uLs, if_pos (by omega)]
    · rw [pk_uLn e, inv j]
      have : (16 + 4 * l ≤ j ∧ j < 16 + 4 * l + (k + 1)) ↔ (16 + 4 * l ≤ j ∧ j < 16 + 4 * l + k) := by omega
      simp only [this]
theorem zx_erase {post : SX → Prop} {l : Nat} {q : Int32} (hl : l < 4) (hq : q = nI (16 + 4 * l))
    (H : ∀ pe' (me' : Nat → Int64), zp_ext pe me pe' me' → (∀ j, me' j = if 16 + 4 * l ≤ j ∧ j < 20 + 4 * l then 0 else me j) → post (fc, fs, fl, pe', lk, dn, rl, cur, sta, lst, me', ms, sb, ow, cS, cU, cH, ha, ct, tk, ll, en, ob)) :
    wpX_erase post (fc, fs, fl, pe, lk, dn, rl, cur, sta, lst, me, ms, sb, ow, cS, cU, cH, ha, ct, tk, ll, en, ob) q := by
  subst hq
  refine Exists.intro 5 (zx_erase_l hl H 4 0 pe me (by omega) (fun j _ h => ⟨h, rfl⟩) (fun j => ?_) 5 (by omega))
  have : ¬ (16 + 4 * l ≤ j ∧ j < 16 + 4 * l + 0) := by omega
  rw [if_neg this]
theorem zx_carry {post : SX → Prop} {q : Int32} {j0 k a b x y : Nat} (hj : j0 < 32) (hj16 : 16 ≤ j0) (hq : q = nI j0) (ok : ze_ok k a b x y) (hm : me j0 = lN (ze_v k a b x y))
    (H : ∀ pe' (me' : Nat → Int64), zp_ext pe me pe' me' → (∀ j, me' j = if k = 3 ∧ j = b then lN y else if j = a then lN x else me j) → post (fc, fs, fl, pe', lk, dn, rl, cur, sta, lst, me', ms, sb, ow, cS, cU, cH, ha, ct, tk, ll, en, ob)) :
    wpX_carry post (fc, fs, fl, pe, lk, dn, rl, cur, sta, lst, me, ms, sb, ow, cS, cU, cH, ha, ct, tk, ll, en, ob) q := by
  subst hq
  have hc : (nI j0).toNatClampNeg = j0 := nI_clamp (by omega)
  have hi : vp_in (nI j0) 32 := vp_in_nI hj (by omega)
  obtain ⟨k1, k2, k3, k4, k5⟩ := ok
  have ok : ze_ok k a b x y := ⟨k1, k2, k3, k4, k5⟩
  refine And.intro hi ?_
  rw [hc, hm]
  refine nm_r (ze_c ok) (And.intro hi ?_)
  rw [ze_a k1 k2 k3, ze_xL ok]
  refine zx_store (by omega) ?_
  dsimp only
  rw [ze_kk k1 k2 k3]
  refine pk_eq k 3 (fun e => And.intro hi ?_) (fun e => ?_)
  · have hne : j0 ≠ a := by omega
    rw [pk_uLn hne, hm, ze_yL ok, ze_b k1 k2 k3]
    refine zx_store (by omega) ?_
    dsimp only
    refine H _ _ (zp_tr (zp_st (by omega)) (zp_st (by omega))) (fun j => ?_)
    show (if j = b then _ else if j = a then _ else _) = _
    simp [e]
  · refine H _ _ (zp_st (by omega)) (fun j => ?_)
    show (if j = a then _ else _) = _
    simp [e]
theorem zx_name {post : SX → Prop} {q q' : Int32} {s b : Nat} (hs : s < 16) (hb : b < 32768) (hq : q = nI s) (hq' : q' = nI b)
    (H : post (fc, fs, fl, pe, lk, dn, rl, cur, sta, lst, me, ms, upd sb s (nI b), if b = 0 then ow else upd ow (b / 256) (nI s), cS, cU, cH, ha, ct, tk, ll, en, ob)) :
    wpX_name post (fc, fs, fl, pe, lk, dn, rl, cur, sta, lst, me, ms, sb, ow, cS, cU, cH, ha, ct, tk, ll, en, ob) q q' := by
  subst hq; subst hq'
  refine And.intro (vp_in_nI hs (by omega)) ?_
  intro M eM
  rw [nI_clamp (by omega)] at eM
  subst eM
  refine pk_eq b 0 (fun e => ?_) (fun e => ?_)
  · rw [if_pos e] at H; exact H
  · rw [zn_hi (by omega)]
    refine And.intro (vp_in_nI (by omega) (by omega)) ?_
    intro O eO
    rw [nI_clamp (by omega)] at eO
    subst eO
    rw [if_neg e] at H; exact H
theorem zx_idle {post : SX → Prop} {q : Int32} {l : Nat} (hl : l < 4) (hq : q = nI l)
    (H : post (fc, fs, fl, pe, lk &&& (ll l ^^^ (-1)), dn, rl, cur, sta, lst, me, ms, sb, ow, cS, cU, cH, upd ha l 0, upd ct l 0, upd tk l 0, upd ll l 0, en, ob)) :
    wpX_makeIdle post (fc, fs, fl, pe, lk, dn, rl, cur, sta, lst, me, ms, sb, ow, cS, cU, cH, ha, ct, tk, ll, en, ob) q := by
  subst hq
  have hc : (nI l).toNatClampNeg = l := nI_clamp (by omega)
  have hi : vp_in (nI l) 4 := vp_in_nI hl (by omega)
  refine And.intro hi ?_
  rw [hc]
  refine nm_e (And.intro hi (nm_e (And.intro hi (nm_e (And.intro hi (nm_e (And.intro hi (nm_e H))))))))
theorem zx_add {post : Int32 → SX → Prop} {q c0 q2 q3 m4 : Int32} {l m k a b x y : Nat} (hl : l < 4) (hm : m < 3) (hn : ct l = nI m) (ok : ze_ok k a b x y)
    (hq : q = nI l) (hc0 : c0 = nI (256 * k + 16 * a + b)) (hq2 : q2 = nI x) (hq3 : q3 = nI y)
    (H : post 0 (fc, fs, fl, pe, lk ||| m4, dn, rl, cur, sta, lst, me, ms, sb, ow, cS, cU, cH, ha, upd ct l (nI (m + 1)), tk, upd ll l (ll l ||| m4), vp_updL en (4 * l + m) (lN (ze_v k a b x y)), ob)) :
    wpX_add post (fc, fs, fl, pe, lk, dn, rl, cur, sta, lst, me, ms, sb, ow, cS, cU, cH, ha, ct, tk, ll, en, ob) q c0 q2 q3 m4 := by
  subst hq; subst hc0; subst hq2; subst hq3
  have hc : (nI l).toNatClampNeg = l := nI_clamp (by omega)
  have hi : vp_in (nI l) 4 := vp_in_nI hl (by omega)
  refine And.intro hi ?_
  rw [hc, hn, zn_4, nI_add, nI_clamp (by omega), ze_mk ok, nI_1]
  refine And.intro (vp_in_nI (by omega) (by omega)) (nm_e (And.intro hi (And.intro hi (nm_e (And.intro hi (And.intro hi (nm_e (nm_e H))))))))
end
end
section
/-! the reference's search, against the map of blocks B -/
def zr_YB (st sz : Nat → Int32) (i b : Nat) : Prop := sz i = nI (b % 256) ∧ (b ≠ 0 → st i = nI (b / 256))
def zr_ab (S L : Nat) (B cd n p : Nat → Nat) (kd fa : Nat → Nat → Nat) (ss sz hs hz ct tk kn fi nS nZ oS oZ : Nat → Int32) : Prop :=
  (S ≤ 16 ∧ L ≤ 4) ∧ (∀ κ, κ < 44 → B κ = 0 ∨ (0 < B κ % 256 ∧ B κ < 32768)) ∧
  (∀ s, s < S → zr_YB ss sz s (B s)) ∧ (∀ s, s < 16 → (S ≤ s → B s = 0) ∧ cd s = s) ∧
  (∀ l, l < L → zr_YB hs hz l (B (28 + l))) ∧ (∀ l, l < 4 → (L ≤ l → B (28 + l) = 0) ∧ cd (28 + l) = 64 + l) ∧
  (∀ l, l < 4 → ct l = nI (n l) ∧ tk l = nI (p l) ∧ n l ≤ 3 ∧ p l ≤ 10 ∧ (L ≤ l → n l = 0)) ∧
  (∀ l, l < 4 → ∀ i, i < n l → kn (3 * l + i) = nI (kd l i) ∧ kd l i ≤ 3 ∧ (kd l i = 1 → p l < n l + 2 → zr_YB nS nZ (3 * l + i) (B (16 + 3 * l + i)) ∧ fi (3 * l + i) = nI (fa l i) ∧ cd (16 + 3 * l + i) = 32 + fa l i)) ∧
  (∀ l, l < 4 → ∀ i, i < 3 → ¬ (i < n l ∧ kd l i = 1 ∧ p l < n l + 2) → B (16 + 3 * l + i) = 0) ∧
  (∀ l, l < 4 → ∀ i, i < n l → n l + 2 ≤ p l → zr_YB oS oZ (3 * l + i) (B (32 + 3 * l + i)) ∧ cd (32 + 3 * l + i) = 96 + l) ∧
  (∀ l, l < 4 → ∀ i, i < 3 → ¬ (i < n l ∧ n l + 2 ≤ p l) → B (32 + 3 * l + i) = 0)
/-- what about answers at key κ -/
def zr_pv (B cd : Nat → Nat) (what κ : Nat) : Nat := if what = 0 then cd κ else if what = 1 then B κ % 256 else B κ / 256
section
variable {fc fs fl lf : Int32} {cur sta lst ss sz hs hz ct tk kn fi se nS nZ oS oZ : Nat → Int32}
theorem zy_cov {post : Int32 → Prop} {x y : Int32} {b w : Nat} (hb : b = 0 ∨ (0 < b % 256 ∧ b < 32768)) (hw : w < 128) (hy : y = nI (b % 256)) (hx : b ≠ 0 → x = nI (b / 256))
    (h1 : za_cov b w → post 1) (h0 : ¬ za_cov b w → post 0) : wpY_covers post (fc, fs, fl, lf, cur, sta, lst, ss, sz, hs, hz, ct, tk, kn, fi, se, nS, nZ, oS, oZ) x y (nI w) := by
  subst hy
  rcases hb with e | ⟨e1, e2⟩
  · subst e
    exact br_t (by decide) (h0 za_c0)
  · have ex := hx (by omega)
    subst ex
    refine pk_le (b % 256) 0 (fun z => absurd z (by omega)) (fun _ => ?_)
    refine pk_lt w (b / 256) (fun z => h0 (fun c => by unfold za_cov at c; omega)) (fun z => ?_)
    exact pk_le (b / 256 + b % 256) w (fun y => h0 (fun c => by unfold za_cov at c; omega)) (fun y => h1 ⟨z, y⟩) (nI_add _ _)
theorem zy_pick {post : Int32 → Prop} {what c z s : Nat} (hw : what ≤ 2) (H : post (nI (if what = 0 then c else if what = 1 then z else s))) : wpY_pick post (fc, fs, fl, lf, cur, sta, lst, ss, sz, hs, hz, ct, tk, kn, fi, se, nS, nZ, oS, oZ) (nI what) (nI c) (nI z) (nI s) := by
  refine pk_eq what 0 (fun e => ?_) (fun e => ?_)
  · rw [if_pos e] at H; exact H
  · rw [if_neg e] at H
    refine pk_eq what 1 (fun e => ?_) (fun e => ?_)
    · rw [if_pos e] at H; exact H
    · rw [if_neg e] at H; exact H
theorem zy_ineff {post : Int32 → Prop} {l n p : Nat} (hl : l < 4) (hn : ct l = nI n) (hp : tk l = nI p) (bn : n ≤ 3) (bp : p ≤ 10)
    (h1 : n + 2 ≤ p → post 1) (h0 : p < n + 2 → post 0) : wpY_inEffect post (fc, fs, fl, lf, cur, sta, lst, ss, sz, hs, hz, ct, tk, kn, fi, se, nS, nZ, oS, oZ) (nI l) := by
  have hc : (nI l).toNatClampNeg = l := nI_clamp (by omega)
  have hi : vp_in (nI l) 4 := vp_in_nI hl (by omega)
  refine And.intro hi (And.intro hi ?_)
  rw [hc, hn, hp]
  refine pk_lt p (n + 2) h0 (fun z => And.intro hi ?_) rfl (nI_add n 2)
  exact pk_le p 0 (fun y => absurd y (by omega)) (fun _ => h1 z)
end
section
variable {fc fs fl lf : Int32} {cur sta lst ss sz hs hz ct tk kn fi se nS nZ oS oZ : Nat → Int32} {S L : Nat} {B cd n p : Nat → Nat} {kd fa : Nat → Nat → Nat} {post : Int32 → Prop} {w what : Nat}
theorem zy_ab241 {J : Int32 → Prop} {l : Nat} (A : zr_ab S L B cd n p kd fa ss sz hs hz ct tk kn fi nS nZ oS oZ) (hw : w < 128) (hwh : what ≤ 2) (hl : l < 4)
    (H : ∀ κ, κ < 44 → za_cov (B κ) w → post (nI (zr_pv B cd what κ)))
    (hJ : (∀ i, i < 3 → ¬ za_cov (B (32 + 3 * l + i)) w) → J (nI (l + 1))) :
    ∀ d i, i + d = n l → (∀ j, j < i → ¬ za_cov (B (32 + 3 * l + j)) w) → ∀ m, d < m → wY_about_241 post J (nI w) (nI what) (nI l) fc fs fl lf cur sta lst ss sz hs hz ct tk kn fi se nS nZ oS oZ m (nI i) := by
  obtain ⟨A0, A1, A2, A3, A4, A5, A6, A7, A8, A9, A10⟩ := A
  obtain ⟨e1, e2, e3, e4, e5⟩ := A6 l hl
  have hc : (nI l).toNatClampNeg = l := nI_clamp (by omega)
  have hi4 : vp_in (nI l) 4 := vp_in_nI hl (by omega)
  intro d
  induction d with
  | zero =>
    intro i hi inv m hm
    obtain ⟨m, rfl⟩ : ∃ m', m = m' + 1 := ⟨m - 1, by omega⟩
    refine And.intro hi4 ?_
    rw [hc, e1]
    refine pk_le (n l) i (fun _ => nm_r (nI_1 l) (hJ (fun j hj => ?_))) (fun z => absurd z (by omega))
    by_cases jn : j < n l
    · exact inv j (by omega)
    · rw [A10 l hl j hj (fun z => jn z.1)]; exact za_c0
  | succ d ih =>
    intro i hi inv m hm
    obtain ⟨m, rfl⟩ : ∃ m', m = m' + 1 := ⟨m - 1, by omega⟩
    refine And.intro hi4 ?_
    rw [hc, e1]
    refine pk_le (n l) i (fun z => absurd z (by omega)) (fun _ => ?_)
    have ex : (3 : Int32) * nI l + nI i = nI (3 * l + i) := by rw [zn_3, nI_add]
    have hx : (nI (3 * l + i)).toNatClampNeg = 3 * l + i := nI_clamp (by omega)
    have hi12 : vp_in (nI (3 * l + i)) 12 := vp_in_nI (by omega) (by omega)
    refine nm_r ex ?_
    have next : ¬ za_cov (B (32 + 3 * l + i)) w → wY_about_241 post J (nI w) (nI what) (nI l) fc fs fl lf cur sta lst ss sz hs hz ct tk kn fi se nS nZ oS oZ m (nI (i + 1)) := fun nc =>
      ih (i + 1) (by omega) (fun j hj => by
        by_cases e : j = i
        · rw [e]; exact nc
        · exact inv j (by omega)) m (by omega)
    refine zy_ineff hl e1 e2 e3 e4 (fun hE => ?_) (fun hE => ?_)
    · refine br_f (by decide) (And.intro hi12 (And.intro hi12 ?_))
      rw [hx]
      obtain ⟨⟨y1, y2⟩, y3⟩ := A9 l hl i (by omega) hE
      refine zy_cov (A1 _ (by omega)) hw y1 y2 (fun c => ?_) (fun c => ?_)
      · refine br_f (by decide) (And.intro hi12 (And.intro hi12 ?_))
        have nz : B (32 + 3 * l + i) ≠ 0 := fun e => by rw [e] at c; exact za_c0 c
        rw [y1, y2 nz, show (96 : Int32) + nI l = nI (96 + l) from nI_add 96 l]
        refine zy_pick hwh ?_
        have := H (32 + 3 * l + i) (by omega) c
        unfold zr_pv at this
        rw [y3] at this
        exact this
      · exact br_t rfl (nm_r (nI_1 i) (next c))
    · refine br_t rfl (nm_r (nI_1 i) (next ?_))
      rw [A10 l hl i (by omega) (fun z => by omega)]; exact za_c0
theorem zy_ab230 (A : zr_ab S L B cd n p kd fa ss sz hs hz ct tk kn fi nS nZ oS oZ) (hw : w < 128) (hwh : what ≤ 2)
    (H : ∀ κ, κ < 44 → za_cov (B κ) w → post (nI (zr_pv B cd what κ)))
    (H0 : (∀ κ, 32 ≤ κ → κ < 44 → ¬ za_cov (B κ) w) → post (if what = 1 then 0 else (-10))) :
    ∀ d l, l + d = L → (∀ l', l' < l → ∀ i, i < 3 → ¬ za_cov (B (32 + 3 * l' + i)) w) → ∀ m, d < m → wY_about_230 post (nI w) (nI what) fc fs (nI L) lf cur sta lst ss sz hs hz ct tk kn fi se nS nZ oS oZ m (nI l) := by
  have A' := A
  obtain ⟨⟨A0, A0'⟩, A1, A2, A3, A4, A5, A6, A7, A8, A9, A10⟩ := A'
  intro d
  induction d with
  | zero =>
    intro l hl inv m hm
    obtain ⟨m, rfl⟩ : ∃ m', m = m' + 1 := ⟨m - 1, by omega⟩
    refine pk_le L l (fun _ => ?_) (fun z => absurd z (by omega))
    have H1 := H0 (fun κ h1 h2 => by
      have e : κ = 32 + 3 * ((κ - 32) / 3) + (κ - 32) % 3 := by omega
      rw [e]
      by_cases hq : (κ - 32) / 3 < l
      · exact inv _ hq _ (by omega)
      · have hz := A10 ((κ - 32) / 3) (by omega) ((κ - 32) % 3) (by omega) (fun z => by
          have := (A6 ((κ - 32) / 3) (by omega)).2.2.2.2 (by omega)
          omega)
        rw [hz]; exact za_c0)
    refine pk_eq what 1 (fun e => ?_) (fun e => ?_)
    · rw [if_pos e] at H1; exact H1
    · rw [if_neg e] at H1; exact H1
  | succ d ih =>
    intro l hl inv m hm
    obtain ⟨m, rfl⟩ : ∃ m', m = m' + 1 := ⟨m - 1, by omega⟩
    refine pk_le L l (fun z => absurd z (by omega)) (fun _ => ?_)
    have hn := (A6 l (by omega)).2.2.1
    refine Exists.intro 4 (zy_ab241 A hw hwh (by omega) H (fun hc => ih (l + 1) (by omega) (fun l' hl' => ?_) m (by omega)) (n l) 0 (by omega) (fun j hj => absurd hj (by omega)) 4 (by omega))
    by_cases e : l' = l
    · rw [e]; exact hc
    · exact inv l' (by omega)
theorem zy_ab172 (A : zr_ab S L B cd n p kd fa ss sz hs hz ct tk kn fi nS nZ oS oZ) (hw : w < 128) (hwh : what ≤ 2)
    (H : ∀ κ, κ < 44 → za_cov (B κ) w → post (nI (zr_pv B cd what κ)))
    (H0 : (∀ κ, 28 ≤ κ → κ < 44 → ¬ za_cov (B κ) w) → post (if what = 1 then 0 else (-10))) :
    ∀ d l, l + d = L → (∀ l', l' < l → ¬ za_cov (B (28 + l')) w) → ∀ m, d < m → wY_about_172 post (nI w) (nI what) fc fs (nI L) lf cur sta lst ss sz hs hz ct tk kn fi se nS nZ oS oZ m (nI l) := by
  have A' := A
  obtain ⟨⟨A0, A0'⟩, A1, A2, A3, A4, A5, A6, A7, A8, A9, A10⟩ := A'
  intro d
  induction d with
  | zero =>
    intro l hl inv m hm
    obtain ⟨m, rfl⟩ : ∃ m', m = m' + 1 := ⟨m - 1, by omega⟩
    refine pk_le L l (fun _ => Exists.intro 5 ?_) (fun z => absurd z (by omega))
    refine zy_ab230 A hw hwh H (fun h => H0 (fun κ h1 h2 => ?_)) L 0 (by omega) (fun l' hl' => absurd hl' (by omega)) 5 (by omega)
    by_cases h3 : 32 ≤ κ
    · exact h κ h3 h2
    · have e : κ = 28 + (κ - 28) := by omega
      rw [e]
      by_cases hq : κ - 28 < l
      · exact inv _ hq
      · rw [(A5 (κ - 28) (by omega)).1 (by omega)]; exact za_c0
  | succ d ih =>
    intro l hl inv m hm
    obtain ⟨m, rfl⟩ : ∃ m', m = m' + 1 := ⟨m - 1, by omega⟩
    refine pk_le L l (fun z => absurd z (by omega)) (fun _ => ?_)
    have hc : (nI l).toNatClampNeg = l := nI_clamp (by omega)
    have hi4 : vp_in (nI l) 4 := vp_in_nI (by omega) (by omega)
    refine And.intro hi4 (And.intro hi4 ?_)
    rw [hc]
    obtain ⟨y1, y2⟩ := A4 l (by omega)
    refine zy_cov (A1 _ (by omega)) hw y1 y2 (fun c => ?_) (fun c => ?_)
    · refine br_f (by decide) (And.intro hi4 (And.intro hi4 ?_))
      have nz : B (28 + l) ≠ 0 := fun e => by rw [e] at c; exact za_c0 c
      rw [y1, y2 nz, show (64 : Int32) + nI l = nI (64 + l) from nI_add 64 l]
      refine zy_pick hwh ?_
      have := H (28 + l) (by omega) c
      unfold zr_pv at this
      rw [(A5 l (by omega)).2] at this
      exact this
    · refine br_t rfl (nm_r (nI_1 l) (ih (l + 1) (by omega) (fun l' hl' => ?_) m (by omega)))
      by_cases e : l' = l
      · rw [e]; exact c
      · exact inv l' (by omega)
theorem zy_ab68 {J : Int32 → Prop} {l : Nat} (A : zr_ab S L B cd n p kd fa ss sz hs hz ct tk kn fi nS nZ oS oZ) (hw : w < 128) (hwh : what ≤ 2) (hl : l < 4)
    (H : ∀ κ, κ < 44 → za_cov (B κ) w → post (nI (zr_pv B cd what κ)))
    (hJ : (∀ i, i < 3 → ¬ za_cov (B (16 + 3 * l + i)) w) → J (nI (l + 1))) :
    ∀ d i, i + d = n l → (∀ j, j < i → ¬ za_cov (B (16 + 3 * l + j)) w) → ∀ m, d < m → wY_about_68 post J (nI w) (nI what) (nI l) fc fs fl lf cur sta lst ss sz hs hz ct tk kn fi se nS nZ oS oZ m (nI i) := by
  obtain ⟨A0, A1, A2, A3, A4, A5, A6, A7, A8, A9, A10⟩ := A
  obtain ⟨e1, e2, e3, e4, e5⟩ := A6 l hl
  have hc : (nI l).toNatClampNeg = l := nI_clamp (by omega)
  have hi4 : vp_in (nI l) 4 := vp_in_nI hl (by omega)
  intro d
  induction d with
  | zero =>
    intro i hi inv m hm
    obtain ⟨m, rfl⟩ : ∃ m', m = m' + 1 := ⟨m - 1, by omega⟩
    refine And.intro hi4 ?_
    rw [hc, e1]
    refine pk_le (n l) i (fun _ => nm_r (nI_1 l) (hJ (fun j hj => ?_))) (fun z => absurd z (by omega))
    by_cases jn : j < n l
    · exact inv j (by omega)
    · rw [A8 l hl j hj (fun z => jn z.1)]; exact za_c0
  | succ d ih =>
    intro i hi inv m hm
    obtain ⟨m, rfl⟩ : ∃ m', m = m' + 1 := ⟨m - 1, by omega⟩
    refine And.intro hi4 ?_
    rw [hc, e1]
    refine pk_le (n l) i (fun z => absurd z (by omega)) (fun _ => ?_)
    have ex : (3 : Int32) * nI l + nI i = nI (3 * l + i) := by rw [zn_3, nI_add]
    have hx : (nI (3 * l + i)).toNatClampNeg = 3 * l + i := nI_clamp (by omega)
    have hi12 : vp_in (nI (3 * l + i)) 12 := vp_in_nI (by omega) (by omega)
    refine nm_r ex (And.intro hi12 ?_)
    have next : ¬ za_cov (B (16 + 3 * l + i)) w → wY_about_68 post J (nI w) (nI what) (nI l) fc fs fl lf cur sta lst ss sz hs hz ct tk kn fi se nS nZ oS oZ m (nI (i + 1)) := fun nc =>
      ih (i + 1) (by omega) (fun j hj => by
        by_cases e : j = i
        · rw [e]; exact nc
        · exact inv j (by omega)) m (by omega)
    obtain ⟨k1, k2, k3⟩ := A7 l hl i (by omega)
    rw [hx, k1]
    refine pk_eq (kd l i) 1 (fun hk => ?_) (fun hk => ?_)
    · refine zy_ineff hl e1 e2 e3 e4 (fun hE => ?_) (fun hE => ?_)
      · refine br_f (by decide) (nm_r (nI_1 i) (next ?_))
        rw [A8 l hl i (by omega) (fun z => by omega)]; exact za_c0
      · obtain ⟨⟨y1, y2⟩, y3, y4⟩ := k3 hk hE
        refine br_t rfl (And.intro hi12 (And.intro hi12 ?_))
        refine zy_cov (A1 _ (by omega)) hw y1 y2 (fun c => ?_) (fun c => ?_)
        · refine br_f (by decide) (And.intro hi12 (And.intro hi12 (And.intro hi12 ?_)))
          have nz : B (16 + 3 * l + i) ≠ 0 := fun e => by rw [e] at c; exact za_c0 c
          rw [y1, y2 nz, y3, show (32 : Int32) + nI (fa l i) = nI (32 + fa l i) from nI_add 32 _]
          refine zy_pick hwh ?_
          have := H (16 + 3 * l + i) (by omega) c
          unfold zr_pv at this
          rw [y4] at this
          exact this
        · exact br_t rfl (nm_r (nI_1 i) (next c))
    · refine nm_r (nI_1 i) (next ?_)
      rw [A8 l hl i (by omega) (fun z => hk z.2.1)]; exact za_c0
theorem zy_ab57 (A : zr_ab S L B cd n p kd fa ss sz hs hz ct tk kn fi nS nZ oS oZ) (hw : w < 128) (hwh : what ≤ 2)
    (H : ∀ κ, κ < 44 → za_cov (B κ) w → post (nI (zr_pv B cd what κ)))
    (H0 : (∀ κ, 16 ≤ κ → κ < 44 → ¬ za_cov (B κ) w) → post (if what = 1 then 0 else (-10))) :
    ∀ d l, l + d = L → (∀ l', l' < l → ∀ i, i < 3 → ¬ za_cov (B (16 + 3 * l' + i)) w) → ∀ m, d < m → wY_about_57 post (nI w) (nI what) fc fs (nI L) lf cur sta lst ss sz hs hz ct tk kn fi se nS nZ oS oZ m (nI l) := by
  have A' := A
  obtain ⟨⟨A0, A0'⟩, A1, A2, A3, A4, A5, A6, A7, A8, A9, A10⟩ := A'
  intro d
  induction d with
  | zero =>
    intro l hl inv m hm
    obtain ⟨m, rfl⟩ : ∃ m', m = m' + 1 := ⟨m - 1, by omega⟩
    refine pk_le L l (fun _ => Exists.intro 5 ?_) (fun z => absurd z (by omega))
    refine zy_ab172 A hw hwh H (fun h => H0 (fun κ h1 h2 => ?_)) L 0 (by omega) (fun l' hl' => absurd hl' (by omega)) 5 (by omega)
    by_cases h3 : 28 ≤ κ
    · exact h κ h3 h2
    · have e : κ = 16 + 3 * ((κ - 16) / 3) + (κ - 16) % 3 := by omega
      rw [e]
      by_cases hq : (κ - 16) / 3 < l
      · exact inv _ hq _ (by omega)
      · have hz := A8 ((κ - 16) / 3) (by omega) ((κ - 16) % 3) (by omega) (fun z => by
          have := (A6 ((κ - 16) / 3) (by omega)).2.2.2.2 (by omega)
          omega)
        rw [hz]; exact za_c0
  | succ d ih =>
    intro l hl inv m hm
    obtain ⟨m, rfl⟩ : ∃ m', m = m' + 1 := ⟨m - 1, by omega⟩
    refine pk_le L l (fun z => absurd z (by omega)) (fun _ => ?_)
    have hn := (A6 l (by omega)).2.2.1
    refine Exists.intro 4 (zy_ab68 A hw hwh (by omega) H (fun hc => ih (l + 1) (by omega) (fun l' hl' => ?_) m (by omega)) (n l) 0 (by omega) (fun j hj => absurd hj (by omega)) 4 (by omega))
    by_cases e : l' = l
    · rw [e]; exact hc
    · exact inv l' (by omega)
theorem zy_ab2 (A : zr_ab S L B cd n p kd fa ss sz hs hz ct tk kn fi nS nZ oS oZ) (hw : w < 128) (hwh : what ≤ 2)
    (H : ∀ κ, κ < 44 → za_cov (B κ) w → post (nI (zr_pv B cd what κ)))
    (H0 : (∀ κ, κ < 44 → ¬ za_cov (B κ) w) → post (if what = 1 then 0 else (-10))) :
    ∀ d s, s + d = S → (∀ s', s' < s → ¬ za_cov (B s') w) → ∀ m, d < m → wY_about_2 post (nI w) (nI what) fc (nI S) (nI L) lf cur sta lst ss sz hs hz ct tk kn fi se nS nZ oS oZ m (nI s) := by
  have A' := A
  obtain ⟨⟨A0, A0'⟩, A1, A2, A3, A4, A5, A6, A7, A8, A9, A10⟩ := A'
  intro d
  induction d with
  | zero =>
    intro s hs' inv m hm
    obtain ⟨m, rfl⟩ : ∃ m', m = m' + 1 := ⟨m - 1, by omega⟩
    refine pk_le S s (fun _ => Exists.intro 5 ?_) (fun z => absurd z (by omega))
    refine zy_ab57 A hw hwh H (fun h => H0 (fun κ h2 => ?_)) L 0 (by omega) (fun l' hl' => absurd hl' (by omega)) 5 (by omega)
    by_cases h3 : 16 ≤ κ
    · exact h κ h3 h2
    · by_cases hq : κ < s
      · exact inv _ hq
      · rw [(A3 κ (by omega)).1 (by omega)]; exact za_c0
  | succ d ih =>
    intro s hs' inv m hm
    obtain ⟨m, rfl⟩ : ∃ m', m = m' + 1 := ⟨m - 1, by omega⟩
    refine pk_le S s (fun z => absurd z (by omega)) (fun _ => ?_)
    have hc : (nI s).toNatClampNeg = s := nI_clamp (by omega)
    have hi4 : vp_in (nI s) 16 := vp_in_nI (by omega) (by omega)
    refine And.intro hi4 (And.intro hi4 ?_)
    rw [hc]
    obtain ⟨y1, y2⟩ := A2 s (by omega)
    refine zy_cov (A1 _ (by omega)) hw y1 y2 (fun c => ?_) (fun c => ?_)
    · refine br_f (by decide) (And.intro hi4 (And.intro hi4 ?_))
      have nz : B s ≠ 0 := fun e => by rw [e] at c; exact za_c0 c
      rw [y1, y2 nz]
      refine zy_pick hwh ?_
      have := H s (by omega) c
      unfold zr_pv at this
      rw [(A3 s (by omega)).2] at this
      exact this
    · refine br_t rfl (nm_r (nI_1 s) (ih (s + 1) (by omega) (fun l' hl' => ?_) m (by omega)))
      by_cases e : l' = s
      · rw [e]; exact c
      · exact inv l' (by omega)
theorem zy_about (A : zr_ab S L B cd n p kd fa ss sz hs hz ct tk kn fi nS nZ oS oZ) (hw : w < 128) (hwh : what ≤ 2)
    (H : ∀ κ, κ < 44 → za_cov (B κ) w → post (nI (zr_pv B cd what κ)))
    (H0 : (∀ κ, κ < 44 → ¬ za_cov (B κ) w) → post (if what = 1 then 0 else (-10))) :
    wpY_about post (fc, nI S, nI L, lf, cur, sta, lst, ss, sz, hs, hz, ct, tk, kn, fi, se, nS, nZ, oS, oZ) (nI w) (nI what) := by
  have hS := A.1.1
  exact Exists.intro 17 (zy_ab2 A hw hwh H H0 S 0 (by omega) (fun s' hs' => absurd hs' (by omega)) 17 (by omega))
end
end
section
/-! covering, chunkSize, place -/
section
variable {fc fs fl pe lk dn rl : Int32} {cur sta lst sb ow cS cU cH ha ct tk ll ob : Nat → Int32} {me ms en : Nat → Int64} {C : Nat} {B cd : Nat → Nat}
theorem zx_cov {post : Int32 → Prop} {w : Nat} (hC : C ≤ 16) (P : za_PB C B) (X : za_IX B cd cU cS cH ow) (hw : w < 128)
    (H : ∀ κ, κ < 44 → za_cov (B κ) w → post (nI (B κ))) (H0 : (∀ κ, κ < 44 → ¬ za_cov (B κ) w) → post 0) :
    wpX_covering post (fc, fs, fl, pe, lk, dn, rl, cur, sta, lst, me, ms, sb, ow, cS, cU, cH, ha, ct, tk, ll, en, ob) (nI w) := by
  obtain ⟨X1, X2, X3, X4⟩ := X
  have e3 : nI w >>> ((3 : Int32) &&& 31) = nI (w / 8) := pk_shrN (by omega) _ 3 (by decide)
  have hi : vp_in (nI (w / 8)) 16 := vp_in_nI (by omega) (by omega)
  have hc : (nI (w / 8)).toNatClampNeg = w / 8 := nI_clamp (by omega)
  have e7 : nI w &&& 7 = nI (w % 8) := pk_andN (by omega) 3 (by decide)
  have ew : 8 * (w / 8) + w % 8 = w := by omega
  refine nm_r e3 (And.intro hi ?_)
  rw [hc, e7]
  have b1 := X1 (w / 8) (by omega) (w % 8) (by omega)
  rw [ew] at b1
  refine br_c (fun hz => ?_) (fun hz => ?_)
  · rw [zb_ss _ _ (by omega)] at hz
    refine H0 (fun κ hκ c => ?_)
    have := b1.mpr ⟨by omega, κ, hκ, c⟩
    rw [hz] at this; exact absurd this (by decide)
  · rw [zb_ss _ _ (by omega)] at hz
    obtain ⟨_, κ, hκ, c⟩ := b1.mp (ts_nf hz)
    have hr := H κ hκ c
    have wk : za_wf C (B κ) := (P.1 κ hκ).resolve_left (fun e => by rw [e] at c; exact za_c0 c)
    have wl := za_wf_lt hC wk
    obtain ⟨s1, s2⟩ := X2 (w / 8) (by omega) κ hκ (w % 8) (by omega) (by rw [ew]; exact c)
    refine And.intro hi (nm_r s1 ?_)
    refine pk_le 8 (B κ % 256) (fun h8 => And.intro hi (nm_r (s2 h8) ?_)) (fun h8 => ?_)
    · rw [zn_pk, show 256 * (B κ / 256) + B κ % 256 = B κ by omega]; exact hr
    · have hs : B κ % 256 = 1 ∨ B κ % 256 = 2 ∨ B κ % 256 = 4 := by
        obtain ⟨w1, _⟩ := wk; omega
      refine nm_r (zb_rnd (B κ % 256) (by omega) hs w hw) ?_
      rw [zn_pk]
      have e : 256 * (w - w % (B κ % 256)) + B κ % 256 = B κ := by
        obtain ⟨w1, w2⟩ := wk
        unfold za_cov at c
        have : w - w % (B κ % 256) = B κ / 256 := by
          rcases hs with e | e | e
          · rw [e] at c w1 ⊢; omega
          · rw [e] at c w1 ⊢; omega
          · rw [e] at c w1 ⊢; omega
        rw [this]; omega
      rw [e]; exact hr
end
section
variable {fc fs fl lf : Int32} {cur sta lst ss sz hs hz ct tk kn fi se nS nZ oS oZ : Nat → Int32} {C S L : Nat} {B cd n p : Nat → Nat} {kd fa : Nat → Nat → Nat} {cU cS cH ow : Nat → Int32}
theorem zy_chunk_l {post : Int32 → Prop} {k : Nat} (hC : C ≤ 16) (P : za_PB C B) (X : za_IX B cd cU cS cH ow) (A : zr_ab S L B cd n p kd fa ss sz hs hz ct tk kn fi nS nZ oS oZ) (hk : k < 16)
    (H : post (cS k)) :
    ∀ d i, i + d = 8 → (∀ j, j < i → ∀ κ, κ < 44 → ¬ za_cov (B κ) (8 * k + j)) → ∀ m, d < m → wY_chunkSize_2 post (nI k) fc (nI S) (nI L) lf cur sta lst ss sz hs hz ct tk kn fi se nS nZ oS oZ m (nI i) := by
  obtain ⟨X1, X2, X3, X4⟩ := X
  intro d
  induction d with
  | zero =>
    intro i hi inv m hm
    obtain ⟨m, rfl⟩ : ∃ m', m = m' + 1 := ⟨m - 1, by omega⟩
    refine pk_le 8 i (fun _ => ?_) (fun z => absurd z (by omega))
    rw [X3 k hk (fun κ hκ j hj => inv j (by omega) κ hκ)] at H
    exact H
  | succ d ih =>
    intro i hi inv m hm
    obtain ⟨m, rfl⟩ : ∃ m', m = m' + 1 := ⟨m - 1, by omega⟩
    refine pk_le 8 i (fun z => absurd z (by omega)) (fun _ => ?_)
    rw [zn_8, nI_add]
    refine zy_about A (by omega) (what := 1) (by omega) (fun κ hκ c => ?_) (fun hn => ?_)
    · have wk : za_wf C (B κ) := (P.1 κ hκ).resolve_left (fun e => by rw [e] at c; exact za_c0 c)
      have wl := za_wf_lt hC wk
      have s1 := (X2 k hk κ hκ i (by omega) c).1
      have e : zr_pv B cd 1 κ = B κ % 256 := rfl
      rw [e]
      refine br_f (nI_ne0 wl.2.2.2 (by omega)) ?_
      rw [← s1]; exact H
    · refine br_t rfl (nm_r (nI_1 i) (ih (i + 1) (by omega) (fun j hj => ?_) m (by omega)))
      by_cases e : j = i
      · rw [e]; exact hn
      · exact inv j (by omega)
theorem zy_chunk {post : Int32 → Prop} {k : Nat} (hC : C ≤ 16) (P : za_PB C B) (X : za_IX B cd cU cS cH ow) (A : zr_ab S L B cd n p kd fa ss sz hs hz ct tk kn fi nS nZ oS oZ) (hk : k < 16)
    (H : post (cS k)) : wpY_chunkSize post (fc, nI S, nI L, lf, cur, sta, lst, ss, sz, hs, hz, ct, tk, kn, fi, se, nS, nZ, oS, oZ) (nI k) :=
  Exists.intro 9 (zy_chunk_l hC P X A hk H 8 0 (by omega) (fun j hj => absurd hj (by omega)) 9 (by omega))
/-! shared places -/
def zl_sh (C c : Nat) (cS cU : Nat → Int32) (k i : Nat) : Prop := k < C ∧ i < 8 ∧ cS k = nI c ∧ i % c = 0 ∧ bt (cU k) i = false
def zl_shm (C c : Nat) (cS cU : Nat → Int32) (k i : Nat) : Prop := zl_sh C c cS cU k i ∧ ∀ k' i', zl_sh C c cS cU k' i' → k < k' ∨ (k = k' ∧ i ≤ i')
theorem zl_md : ∀ c, c < 5 → (c = 1 ∨ c = 2 ∨ c = 4) → ∀ i, i < 8 → nI i &&& (nI c - 1) = nI (i % c) := by decide +kernel
theorem zl_sz : ∀ c, c < 5 → (c = 1 ∨ c = 2 ∨ c = 4) → 0 < c := by omega
end
section
variable {fc fs fl pe lk dn rl : Int32} {cur sta lst sb ow cS cU cH ha ct tk ll ob : Nat → Int32} {me ms en : Nat → Int64} {C c : Nat}
theorem zx_sh12 {post : Int32 → Prop} {J : Int32 → Prop} {k : Nat} (hC : C ≤ 16) (hc5 : c < 5) (hc : c = 1 ∨ c = 2 ∨ c = 4) (hk : k < C)
    (hlow : ∀ k' i', zl_sh C c cS cU k' i' → k ≤ k')
    (H : ∀ i, zl_shm C c cS cU k i → post (nI (8 * k + i))) (hJ : (∀ i, ¬ zl_sh C c cS cU k i) → J (nI (k + 1))) :
    ∀ d i, i + d = 8 → (∀ j, j < i → ¬ zl_sh C c cS cU k j) → ∀ m, d < m → wX_placeShared_12 post J (nI c) (nI k) fc fs fl pe lk dn rl cur sta lst me ms sb ow cS cU cH ha ct tk ll en ob m (nI i) := by
  have hck : (nI k).toNatClampNeg = k := nI_clamp (by omega)
  have hi16 : vp_in (nI k) 16 := vp_in_nI (by omega) (by omega)
  intro d
  induction d with
  | zero =>
    intro i hi inv m hm
    obtain ⟨m, rfl⟩ : ∃ m', m = m' + 1 := ⟨m - 1, by omega⟩
    refine pk_le 8 i (fun _ => nm_r (nI_1 k) (hJ (fun j z => inv j (by have := z.2.1; omega) z))) (fun z => absurd z (by omega))
  | succ d ih =>
    intro i hi inv m hm
    obtain ⟨m, rfl⟩ : ∃ m', m = m' + 1 := ⟨m - 1, by omega⟩
    refine pk_le 8 i (fun z => absurd z (by omega)) (fun _ => And.intro hi16 ?_)
    have next : ¬ zl_sh C c cS cU k i → wX_placeShared_12 post J (nI c) (nI k) fc fs fl pe lk dn rl cur sta lst me ms sb ow cS cU cH ha ct tk ll en ob m (nI (i + 1)) := fun nc =>
      ih (i + 1) (by omega) (fun j hj => by
        by_cases e : j = i
        · rw [e]; exact nc
        · exact inv j (by omega)) m (by omega)
    rw [hck]
    refine br_c (fun hs => ?_) (fun hs => nm_r (nI_1 k) (hJ (fun j z => hs z.2.2.1)))
    rw [zl_md c hc5 hc i (by omega)]
    refine pk_eq (i % c) 0 (fun hz => And.intro hi16 ?_) (fun hz => nm_r (nI_1 i) (next (fun z => hz z.2.2.2.1))) rfl rfl (by have := Nat.mod_le i c; omega)
    refine br_c (fun hb => ?_) (fun hb => ?_)
    · rw [zb_ss _ _ (by omega)] at hb
      rw [zn_8, nI_add]
      refine H i ⟨⟨hk, by omega, hs, hz, hb⟩, fun k' i' z => ?_⟩
      have h1 := hlow k' i' z
      by_cases e : k = k'
      · refine Or.inr ⟨e, ?_⟩
        by_cases y : i' < i
        · exact absurd (by rw [e]; exact z) (inv i' y)
        · omega
      · exact Or.inl (by omega)
    · rw [zb_ss _ _ (by omega)] at hb
      exact nm_r (nI_1 i) (next (fun z => hb z.2.2.2.2))
theorem zx_sh2 {post : Int32 → Prop} (hC : C ≤ 16) (hc5 : c < 5) (hc : c = 1 ∨ c = 2 ∨ c = 4)
    (H : ∀ k i, zl_shm C c cS cU k i → post (nI (8 * k + i))) (H0 : (∀ k i, ¬ zl_sh C c cS cU k i) → post (-10)) :
    ∀ d k, k + d = C → (∀ k', k' < k → ∀ i, ¬ zl_sh C c cS cU k' i) → ∀ m, d < m → wX_placeShared_2 post (nI c) (nI C) fs fl pe lk dn rl cur sta lst me ms sb ow cS cU cH ha ct tk ll en ob m (nI k) := by
  intro d
  induction d with
  | zero =>
    intro k hk inv m hm
    obtain ⟨m, rfl⟩ : ∃ m', m = m' + 1 := ⟨m - 1, by omega⟩
    exact pk_le C k (fun _ => H0 (fun k' i z => inv k' (by have := z.1; omega) i z)) (fun z => absurd z (by omega))
  | succ d ih =>
    intro k hk inv m hm
    obtain ⟨m, rfl⟩ : ∃ m', m = m' + 1 := ⟨m - 1, by omega⟩
    refine pk_le C k (fun z => absurd z (by omega)) (fun _ => ?_)
    refine Exists.intro 9 (zx_sh12 hC hc5 hc (by omega) (fun k' i' z => ?_) (fun i z => H k i z) (fun hn => ih (k + 1) (by omega) (fun k' hk' => ?_) m (by omega)) 8 0 (by omega) (fun j hj => absurd hj (by omega)) 9 (by omega))
    · by_cases y : k' < k
      · exact absurd z (inv k' y i')
      · omega
    · by_cases e : k' = k
      · rw [e]; exact hn
      · exact inv k' (by omega)
theorem zx_shared {post : Int32 → Prop} (hC : C ≤ 16) (hc5 : c < 5) (hc : c = 1 ∨ c = 2 ∨ c = 4)
    (H : ∀ k i, zl_shm C c cS cU k i → post (nI (8 * k + i))) (H0 : (∀ k i, ¬ zl_sh C c cS cU k i) → post (-10)) :
    wpX_placeShared post (nI C, fs, fl, pe, lk, dn, rl, cur, sta, lst, me, ms, sb, ow, cS, cU, cH, ha, ct, tk, ll, en, ob) (nI c) :=
  Exists.intro 17 (zx_sh2 hC hc5 hc H H0 C 0 (by omega) (fun k' hk' => absurd hk' (by omega)) 17 (by omega))
/-! whole chunks -/
def zl_ch (C m : Nat) (cS : Nat → Int32) (k : Nat) : Prop := k + m ≤ C ∧ ∀ j, j < m → cS (k + j) = 0
def zl_chm (C m : Nat) (cS : Nat → Int32) (k : Nat) : Prop := zl_ch C m cS k ∧ ∀ k', zl_ch C m cS k' → k ≤ k'
theorem zl_sub {k m : Nat} (h : m ≤ k + 1) : (nI k - nI m) + 1 = nI (k + 1 - m) := by
  rw [← pk_sub h, ← nI_1]; grind
theorem zx_ch4 {post : Int32 → Prop} {w : Nat} (hC : C ≤ 16) (hw : 1 ≤ w) (hw16 : w ≤ 16)
    (H : ∀ k, zl_chm C w cS k → post (nI (8 * k))) (H0 : (∀ k, ¬ zl_ch C w cS k) → post (-10)) :
    ∀ d k v, k + d = C → v ≤ k → v < w → (∀ j, j < k → k ≤ j + v → cS j = 0) → (v < k → cS (k - v - 1) ≠ 0) → (∀ k', k' + w ≤ k → ¬ zl_ch C w cS k') → ∀ m, d < m →
      wX_placeChunks_4 post (nI w) (nI C) fs fl pe lk dn rl cur sta lst me ms sb ow cS cU cH ha ct tk ll en ob m (nI v) (nI k) := by
  intro d
  induction d with
  | zero =>
    intro k v hk hv hvw h1 h2 h3 m hm
    obtain ⟨m, rfl⟩ : ∃ m', m = m' + 1 := ⟨m - 1, by omega⟩
    exact pk_le C k (fun _ => H0 (fun k' z => h3 k' (by have := z.1; omega) z)) (fun z => absurd z (by omega))
  | succ d ih =>
    intro k v hk hv hvw h1 h2 h3 m hm
    obtain ⟨m, rfl⟩ : ∃ m', m = m' + 1 := ⟨m - 1, by omega⟩
    refine pk_le C k (fun z => absurd z (by omega)) (fun _ => ?_)
    have hck : (nI k).toNatClampNeg = k := nI_clamp (by omega)
    refine And.intro (vp_in_nI (by omega) (by omega)) ?_
    rw [hck]
    refine br_c (fun hz => ?_) (fun hz => ?_)
    · rw [nI_1]
      refine pk_eq (v + 1) w (fun e => ?_) (fun e => nm_r (nI_1 k) (ih (k + 1) (v + 1) (by omega) (by omega) (by omega) (fun j hj hjv => ?_) (fun y => ?_) (fun k' hk' z => ?_) m (by omega)))
      · rw [zl_sub (by omega), zn_8]
        refine H (k + 1 - w) ⟨⟨by omega, fun j hj => ?_⟩, fun k' z => ?_⟩
        · by_cases y : k + 1 - w + j = k
          · rw [y]; exact hz
          · exact h1 _ (by omega) (by omega)
        · by_cases y : k' + w ≤ k
          · exact absurd z (h3 k' y)
          · omega
      · by_cases y : j = k
        · rw [y]; exact hz
        · exact h1 j (by omega) (by omega)
      · have := h2 (by omega)
        rw [show k + 1 - (v + 1) - 1 = k - v - 1 by omega]; exact this
      · by_cases y : k' + w ≤ k
        · exact h3 k' y z
        · have hvk : v < k := by omega
          have := z.2 (k - v - 1 - k') (by omega)
          rw [show k' + (k - v - 1 - k') = k - v - 1 by omega] at this
          exact h2 hvk this
    · refine br_f (fun e => ?_) (nm_r (nI_1 k) (ih (k + 1) 0 (by omega) (by omega) (by omega) (fun j hj hjv => absurd hj (by omega)) (fun _ => ?_) (fun k' hk' z => ?_) m (by omega)))
      · have : (0 : Nat) = w := (nI_eq (a := 0) (b := w) (by omega) (by omega)).mp e
        omega
      · exact hz
      · by_cases y : k' + w ≤ k
        · exact h3 k' y z
        · have := z.2 (k - k') (by omega)
          rw [show k' + (k - k') = k by omega] at this
          exact hz this
theorem zx_chunks {post : Int32 → Prop} {w : Nat} {q : Int32} (hq : q = nI w) (hC : C ≤ 16) (hw : 1 ≤ w) (hw16 : w ≤ 16)
    (H : ∀ k, zl_chm C w cS k → post (nI (8 * k))) (H0 : (∀ k, ¬ zl_ch C w cS k) → post (-10)) :
    wpX_placeChunks post (nI C, fs, fl, pe, lk, dn, rl, cur, sta, lst, me, ms, sb, ow, cS, cU, cH, ha, ct, tk, ll, en, ob) q := by
  subst hq
  exact Exists.intro 17 (zx_ch4 hC hw hw16 H H0 C 0 0 (by omega) (by omega) (by omega) (fun j hj => absurd hj (by omega)) (fun z => absurd z (by omega)) (fun k' hk' => absurd hk' (by omega)) 17 (by omega))
end
section
variable {fc fs fl lf : Int32} {cur sta lst ss sz hs hz ct tk kn fi se nS nZ oS oZ : Nat → Int32} {C S L c : Nat} {B cd n p : Nat → Nat} {kd fa : Nat → Nat → Nat} {cU cS cH ow : Nat → Int32}
theorem zy_pl118 {post : Int32 → Prop} {J : Int32 → Prop} {w k : Nat} (hC : C ≤ 16) (P : za_PB C B) (X : za_IX B cd cU cS cH ow) (A : zr_ab S L B cd n p kd fa ss sz hs hz ct tk kn fi nS nZ oS oZ)
    (hkw : k + w ≤ C) (H1 : (∀ j, j < w → cS (k + j) = 0) → post (nI (8 * k))) (hJ : ¬ (∀ j, j < w → cS (k + j) = 0) → J (nI (k + 1))) :
    ∀ d i (f : Nat), i + d = w → f < 2 → (f = 1 ↔ ∀ j, j < i → cS (k + j) = 0) → ∀ m, d < m → wY_place_118 post J (nI w) (nI k) fc (nI S) (nI L) lf cur sta lst ss sz hs hz ct tk kn fi se nS nZ oS oZ m (nI f) (nI i) := by
  intro d
  induction d with
  | zero =>
    intro i f hi hf inv m hm
    obtain ⟨m, rfl⟩ : ∃ m', m = m' + 1 := ⟨m - 1, by omega⟩
    have ei : i = w := by omega
    rw [ei] at inv
    refine pk_le w i (fun _ => ?_) (fun z => absurd z (by omega))
    refine pk_eq f 0 (fun e => nm_r (nI_1 k) (hJ (fun z => by have := inv.mpr z; omega))) (fun e => ?_)
    rw [zn_8]; exact H1 (inv.mp (by omega))
  | succ d ih =>
    intro i f hi hf inv m hm
    obtain ⟨m, rfl⟩ : ∃ m', m = m' + 1 := ⟨m - 1, by omega⟩
    refine pk_le w i (fun z => absurd z (by omega)) (fun _ => ?_)
    rw [nI_add]
    refine zy_chunk hC P X A (by omega) ?_
    refine br_c (fun hz => nm_r (nI_1 i) (ih (i + 1) f (by omega) hf ?_ m (by omega))) (fun hz => nm_r (nI_1 i) (ih (i + 1) 0 (by omega) (by omega) ?_ m (by omega)))
    · rw [inv]
      constructor
      · intro h j hj
        by_cases e : j = i
        · rw [e]; exact hz
        · exact h j (by omega)
      · intro h j hj; exact h j (by omega)
    · constructor
      · intro h; exact absurd h (by omega)
      · intro h; exact absurd (h i (by omega)) hz
theorem zy_pl102 {post : Int32 → Prop} {w : Nat} (hC : C ≤ 16) (P : za_PB C B) (X : za_IX B cd cU cS cH ow) (A : zr_ab S L B cd n p kd fa ss sz hs hz ct tk kn fi nS nZ oS oZ)
    (hw : 1 ≤ w) (hw16 : w ≤ 16)
    (H : ∀ k, zl_chm C w cS k → post (nI (8 * k))) (H0 : (∀ k, ¬ zl_ch C w cS k) → post (-8)) :
    ∀ d k, k + d = 17 → (∀ k', k' < k → ¬ zl_ch C w cS k') → ∀ m, d < m → wY_place_102 post (nI w) (nI C) (nI S) (nI L) lf cur sta lst ss sz hs hz ct tk kn fi se nS nZ oS oZ m (nI k) := by
  intro d
  induction d with
  | zero =>
    intro k hk inv m hm
    obtain ⟨m, rfl⟩ : ∃ m', m = m' + 1 := ⟨m - 1, by omega⟩
    exact pk_lt C (k + w) (fun _ => H0 (fun k' z => inv k' (by have := z.1; omega) z)) (fun z => absurd z (by omega)) rfl (nI_add _ _)
  | succ d ih =>
    intro k hk inv m hm
    obtain ⟨m, rfl⟩ : ∃ m', m = m' + 1 := ⟨m - 1, by omega⟩
    refine pk_lt C (k + w) (fun z => H0 (fun k' y => ?_)) (fun z => ?_) rfl (nI_add _ _)
    · by_cases e : k' < k
      · exact inv k' e y
      · have := y.1; omega
    · refine Exists.intro 17 (zy_pl118 hC P X A z (fun h => H k ⟨⟨z, h⟩, fun k' y => ?_⟩) (fun h => ih (k + 1) (by omega) (fun k' hk' y => ?_) m (by omega)) w 0 1 (by omega) (by omega) ?_ 17 (by omega))
      · by_cases e : k' < k
        · exact absurd y (inv k' e)
        · omega
      · by_cases e : k' = k
        · rw [e] at y; exact h y.2
        · exact inv k' (by omega) y
      · exact ⟨fun _ j hj => absurd hj (by omega), fun _ => rfl⟩
theorem zy_pl25 {post : Int32 → Prop} {J : Int32 → Prop} {k : Nat} (hC : C ≤ 16) (P : za_PB C B) (X : za_IX B cd cU cS cH ow) (A : zr_ab S L B cd n p kd fa ss sz hs hz ct tk kn fi nS nZ oS oZ)
    (hc5 : c < 5) (hc : c = 1 ∨ c = 2 ∨ c = 4) (hk : k < C)
    (hlow : ∀ k' i', zl_sh C c cS cU k' i' → k ≤ k')
    (H : ∀ i, zl_shm C c cS cU k i → post (nI (8 * k + i))) (hJ : (∀ i, ¬ zl_sh C c cS cU k i) → J (nI (k + 1))) :
    ∀ d i, i + d = 8 → (∀ j, j < i * c → ¬ zl_sh C c cS cU k j) → ∀ m, d < m → wY_place_25 post J (nI c) (nI k) (cS k) (nI C) (nI S) (nI L) lf cur sta lst ss sz hs hz ct tk kn fi se nS nZ oS oZ m (nI i) := by
  have X' := X
  obtain ⟨X1, X2, X3, X4⟩ := X'
  intro d
  induction d with
  | zero =>
    intro i hi inv m hm
    obtain ⟨m, rfl⟩ : ∃ m', m = m' + 1 := ⟨m - 1, by omega⟩
    refine pk_le 8 i (fun _ => nm_r (nI_1 k) (hJ (fun j z => inv j ?_ z))) (fun z => absurd z (by omega))
    have := z.2.1
    rcases hc with e | e | e <;> rw [e] <;> omega
  | succ d ih =>
    intro i hi inv m hm
    obtain ⟨m, rfl⟩ : ∃ m', m = m' + 1 := ⟨m - 1, by omega⟩
    refine pk_le 8 i (fun z => absurd z (by omega)) (fun _ => ?_)
    have next : ¬ zl_sh C c cS cU k (i * c) → wY_place_25 post J (nI c) (nI k) (cS k) (nI C) (nI S) (nI L) lf cur sta lst ss sz hs hz ct tk kn fi se nS nZ oS oZ m (nI (i + 1)) := fun nc =>
      ih (i + 1) (by omega) (fun j hj z => by
        by_cases e : j < i * c
        · exact inv j e z
        · have h4 := z.2.2.2.1
          have : j = i * c := by
            rcases hc with q | q | q <;> rw [q] at hj e h4 ⊢ <;> omega
          rw [this] at z; exact nc z) m (by omega)
    refine br_c (fun hs => ?_) (fun hs => nm_r (nI_1 k) (hJ (fun j z => hs z.2.2.1)))
    have es : (8 : Int32) * nI k + nI i * nI c = nI (8 * k + i * c) := by rw [zn_8, pk_mul, nI_add]
    have hic : i * c < 32 := by rcases hc with q | q | q <;> rw [q] <;> omega
    have e8 : (8 : Int32) * nI k + 8 = nI (8 * k + 8) := by rw [zn_8]; exact nI_add _ 8
    refine nm_r es ?_
    refine pk_le (8 * k + 8) (8 * k + i * c) (fun hge => nm_r (nI_1 i) (next (fun z => by have := z.2.1; omega))) (fun hlt => ?_) e8
    have b1 := X1 k (by omega) (i * c) (by omega)
    refine zy_about A (by omega) (what := 1) (by omega) (fun κ hκ cv => ?_) (fun hn => ?_)
    · have wk : za_wf C (B κ) := (P.1 κ hκ).resolve_left (fun e => by rw [e] at cv; exact za_c0 cv)
      have wl := za_wf_lt hC wk
      have e : zr_pv B cd 1 κ = B κ % 256 := rfl
      rw [e]
      refine br_f (nI_ne0 wl.2.2.2 (by omega)) (nm_r (nI_1 i) (next (fun z => ?_)))
      have := b1.mpr ⟨by omega, κ, hκ, cv⟩
      rw [z.2.2.2.2] at this; exact absurd this (by decide)
    · refine br_t rfl (H (i * c) ⟨⟨hk, by omega, hs, by rcases hc with q | q | q <;> rw [q] <;> omega, ?_⟩, fun k' i' z => ?_⟩)
      · cases hb : bt (cU k) (i * c)
        · rfl
        · obtain ⟨_, κ, hκ, cv⟩ := b1.mp hb
          exact absurd cv (hn κ hκ)
      · have h1 := hlow k' i' z
        by_cases e : k = k'
        · refine Or.inr ⟨e, ?_⟩
          by_cases y : i' < i * c
          · exact absurd (by rw [e]; exact z) (inv i' y)
          · omega
        · exact Or.inl (by omega)
theorem zy_pl2 {post : Int32 → Prop} (hC : C ≤ 16) (P : za_PB C B) (X : za_IX B cd cU cS cH ow) (A : zr_ab S L B cd n p kd fa ss sz hs hz ct tk kn fi nS nZ oS oZ)
    (hc5 : c < 5) (hc : c = 1 ∨ c = 2 ∨ c = 4)
    (H : ∀ k i, zl_shm C c cS cU k i → post (nI (8 * k + i))) (H0 : (∀ k i, ¬ zl_sh C c cS cU k i) → wY_place_85 post (nI c) (nI C) (nI S) (nI L) lf cur sta lst ss sz hs hz ct tk kn fi se nS nZ oS oZ) :
    ∀ d k, k + d = C → (∀ k', k' < k → ∀ i, ¬ zl_sh C c cS cU k' i) → ∀ m, d < m → wY_place_2 post (nI c) (nI C) (nI S) (nI L) lf cur sta lst ss sz hs hz ct tk kn fi se nS nZ oS oZ m (nI k) := by
  intro d
  induction d with
  | zero =>
    intro k hk inv m hm
    obtain ⟨m, rfl⟩ : ∃ m', m = m' + 1 := ⟨m - 1, by omega⟩
    exact pk_le C k (fun _ => H0 (fun k' i z => inv k' (by have := z.1; omega) i z)) (fun z => absurd z (by omega))
  | succ d ih =>
    intro k hk inv m hm
    obtain ⟨m, rfl⟩ : ∃ m', m = m' + 1 := ⟨m - 1, by omega⟩
    refine pk_le C k (fun z => absurd z (by omega)) (fun _ => ?_)
    refine pk_le 8 c (fun z => absurd z (by omega)) (fun _ => ?_)
    refine zy_chunk hC P X A (by omega) ?_
    refine Exists.intro 9 (zy_pl25 hC P X A hc5 hc (by omega) (fun k' i' z => ?_) (fun i z => H k i z) (fun hn => ih (k + 1) (by omega) (fun k' hk' => ?_) m (by omega)) 8 0 (by omega) (fun j hj => absurd hj (by omega)) 9 (by omega))
    · by_cases y : k' < k
      · exact absurd z (inv k' y i')
      · omega
    · by_cases e : k' = k
      · rw [e]; exact hn
      · exact inv k' (by omega)
end
section
variable {fc fs fl pe lk dn rl lf : Int32} {cur sta lst sb ow cS cU cH ha ct tk ll ob ss sz hs hz kn fi se nS nZ oS oZ : Nat → Int32} {me ms en : Nat → Int64} {C S L c : Nat} {B cd n p : Nat → Nat} {kd fa : Nat → Nat → Nat}
/-- a place for a block of rounded size c -/
def zl_good (C : Nat) (B : Nat → Nat) (st c : Nat) : Prop :=
  za_wf C (256 * st + c) ∧ (∀ κ w, κ < 44 → za_cov (256 * st + c) w → ¬ za_cov (B κ) w) ∧
  (∀ κ w w', κ < 44 → w / 8 = w' / 8 → za_cov (256 * st + c) w → za_cov (B κ) w' → B κ % 256 = c)
theorem zl_gsh {cU cS cH ow : Nat → Int32} {k i : Nat} (hC : C ≤ 16) (P : za_PB C B) (X : za_IX B cd cU cS cH ow) (hc5 : c < 5) (hc : c = 1 ∨ c = 2 ∨ c = 4) (h : zl_sh C c cS cU k i) : zl_good C B (8 * k + i) c := by
  obtain ⟨h1, h2, h3, h4, h5⟩ := h
  obtain ⟨X1, X2, X3, X4⟩ := X
  have ed : (256 * (8 * k + i) + c) / 256 = 8 * k + i := by omega
  have em : (256 * (8 * k + i) + c) % 256 = c := by omega
  have hal : i + c ≤ 8 := by rcases hc with q | q | q <;> rw [q] at h4 ⊢ <;> omega
  have szc : ∀ κ w, κ < 44 → w / 8 = k → za_cov (B κ) w → B κ % 256 = c := by
    intro κ w hκ hw cw
    have s1 := (X2 k (by omega) κ hκ (w % 8) (by omega) (by rw [← hw, show 8 * (w / 8) + w % 8 = w by omega]; exact cw)).1
    rw [h3] at s1
    have := (nI_eq (a := c) (b := B κ % 256) (by omega) (by omega)).mp s1
    exact this.symm
  refine ⟨⟨?_, ?_⟩, ?_, ?_⟩
  · rw [ed, em]; rcases hc with q | q | q <;> rw [q] at h4 ⊢ <;> omega
  · rw [ed, em]; omega
  · intro κ w hκ c1 c2
    unfold za_cov at c1
    rw [ed, em] at c1
    have wk : za_wf C (B κ) := (P.1 κ hκ).resolve_left (fun e => by rw [e] at c2; exact za_c0 c2)
    have sz := szc κ w hκ (by omega) c2
    have cv : za_cov (B κ) (8 * k + i) := by
      obtain ⟨w1, w2⟩ := wk
      unfold za_cov at c2 ⊢
      rcases hc with q | q | q <;> rw [q] at sz c1 h4 <;> rw [sz] at c2 w1 ⊢ <;> omega
    have := (X1 k (by omega) i (by omega)).mpr ⟨h2, κ, hκ, cv⟩
    rw [h5] at this; exact absurd this (by decide)
  · intro κ w w' hκ hw c1 c2
    unfold za_cov at c1
    rw [ed, em] at c1
    exact szc κ w' hκ (by omega) c2
theorem zl_gch {cU cS cH ow : Nat → Int32} {k m : Nat} (hC : C ≤ 16) (P : za_PB C B) (X : za_IX B cd cU cS cH ow) (hm : 1 ≤ m) (hcm : c = 8 * m ∨ (m = 1 ∧ (c = 1 ∨ c = 2 ∨ c = 4))) (h : zl_ch C m cS k) : zl_good C B (8 * k) c := by
  obtain ⟨h1, h2⟩ := h
  obtain ⟨X1, X2, X3, X4⟩ := X
  have hc8 : c ≤ 128 ∧ c ≤ 8 * m ∧ 0 < c := by omega
  have ed : (256 * (8 * k) + c) / 256 = 8 * k := by omega
  have em : (256 * (8 * k) + c) % 256 = c := by omega
  have vac : ∀ κ w, κ < 44 → k ≤ w / 8 → w / 8 < k + m → ¬ za_cov (B κ) w := by
    intro κ w hκ w1 w2 cw
    have wk : za_wf C (B κ) := (P.1 κ hκ).resolve_left (fun e => by rw [e] at cw; exact za_c0 cw)
    have wl := za_wf_lt hC wk
    have s1 := (X2 (w / 8) (by omega) κ hκ (w % 8) (by omega) (by rw [show 8 * (w / 8) + w % 8 = w by omega]; exact cw)).1
    have z := h2 (w / 8 - k) (by omega)
    rw [show k + (w / 8 - k) = w / 8 by omega, s1] at z
    exact nI_ne0 wl.2.2.2 (by omega) z
  refine ⟨⟨?_, ?_⟩, ?_, ?_⟩
  · rw [ed, em]; omega
  · rw [ed, em]; omega
  · intro κ w hκ c1 c2
    unfold za_cov at c1
    rw [ed, em] at c1
    exact vac κ w hκ (by omega) (by omega) c2
  · intro κ w w' hκ hw c1 c2
    unfold za_cov at c1
    rw [ed, em] at c1
    exact absurd c2 (vac κ w' hκ (by omega) (by omega))
theorem zl_exch (C m : Nat) (cS : Nat → Int32) : (∃ k, zl_chm C m cS k) ∨ (∀ k, ¬ zl_ch C m cS k) := by
  by_cases h : ∃ k, zl_ch C m cS k
  · obtain ⟨k, hk, hl⟩ := pk_least _ h
    exact Or.inl ⟨k, hk, fun k' z => by
      by_cases y : k' < k
      · exact absurd z (hl k' y)
      · omega⟩
  · exact Or.inr (fun k z => h ⟨k, z⟩)
theorem zl_exsh (C c : Nat) (cS cU : Nat → Int32) : (∃ k i, zl_shm C c cS cU k i) ∨ (∀ k i, ¬ zl_sh C c cS cU k i) := by
  by_cases h : ∃ k, ∃ i, zl_sh C c cS cU k i
  · obtain ⟨k, hk, hl⟩ := pk_least _ h
    obtain ⟨i, hi, hm⟩ := pk_least _ hk
    refine Or.inl ⟨k, i, hi, fun k' i' z => ?_⟩
    by_cases y : k' < k
    · exact absurd ⟨i', z⟩ (hl k' y)
    · by_cases e : k = k'
      · refine Or.inr ⟨e, ?_⟩
        by_cases q : i' < i
        · exact absurd (by rw [e]; exact z) (hm i' q)
        · omega
      · exact Or.inl (by omega)
  · exact Or.inr (fun k i z => h ⟨k, i, z⟩)
theorem zl_shu {cS cU : Nat → Int32} {k i k' i' : Nat} (a : zl_shm C c cS cU k i) (b : zl_shm C c cS cU k' i') : k' = k ∧ i' = i := by
  have h1 := a.2 _ _ b.1
  have h2 := b.2 _ _ a.1
  omega
theorem zl_chu {cS : Nat → Int32} {m k k' : Nat} (a : zl_chm C m cS k) (b : zl_chm C m cS k') : k' = k := by
  have h1 := a.2 _ b.1
  have h2 := b.2 _ a.1
  omega
theorem zl_place (hC : C ≤ 16) (P : za_PB C B) (X : za_IX B cd cU cS cH ow) (A : zr_ab S L B cd n p kd fa ss sz hs hz ct tk kn fi nS nZ oS oZ)
    (hc : (c = 1 ∨ c = 2 ∨ c = 4) ∨ (8 ≤ c ∧ c % 8 = 0 ∧ c ≤ 128)) :
    ((∀ post : Int32 → Prop, post (-10) → wpX_place post (nI C, nI S, nI L, pe, lk, dn, rl, cur, sta, lst, me, ms, sb, ow, cS, cU, cH, ha, ct, tk, ll, en, ob) (nI c)) ∧ (∀ post : Int32 → Prop, post (-8) → wpY_place post (nI C, nI S, nI L, lf, cur, sta, lst, ss, sz, hs, hz, ct, tk, kn, fi, se, nS, nZ, oS, oZ) (nI c))) ∨
    (∃ st, zl_good C B st c ∧ (∀ post : Int32 → Prop, post (nI st) → wpX_place post (nI C, nI S, nI L, pe, lk, dn, rl, cur, sta, lst, me, ms, sb, ow, cS, cU, cH, ha, ct, tk, ll, en, ob) (nI c)) ∧ (∀ post : Int32 → Prop, post (nI st) → wpY_place post (nI C, nI S, nI L, lf, cur, sta, lst, ss, sz, hs, hz, ct, tk, kn, fi, se, nS, nZ, oS, oZ) (nI c))) := by
  rcases hc with hc | ⟨c1, c2, c3⟩
  · have hc5 : c < 5 := by omega
    rcases zl_exsh C c cS cU with ⟨k, i, hki⟩ | hno
    · refine Or.inr ⟨8 * k + i, zl_gsh hC P X hc5 hc hki.1, fun post hp => ?_, fun post hp => ?_⟩
      · refine pk_lt c 8 (fun _ => ?_) (fun z => absurd z (by omega))
        refine zx_shared hC hc5 hc (fun k' i' z => ?_) (fun z => absurd hki.1 (z k i))
        obtain ⟨e1, e2⟩ := zl_shu hki z
        rw [e1, e2]
        have := hki.1.1
        have := hki.1.2.1
        exact br_f (nI_pos (by omega)) hp
      · refine Exists.intro 17 (zy_pl2 hC P X A hc5 hc (fun k' i' z => ?_) (fun z => absurd hki.1 (z k i)) C 0 (by omega) (fun k' hk' => absurd hk' (by omega)) 17 (by omega))
        obtain ⟨e1, e2⟩ := zl_shu hki z
        rw [e1, e2]; exact hp
    · rcases zl_exch C 1 cS with ⟨k, hk⟩ | hno2
      · refine Or.inr ⟨8 * k, zl_gch hC P X (m := 1) (by omega) (Or.inr ⟨rfl, hc⟩) hk.1, fun post hp => ?_, fun post hp => ?_⟩
        · refine pk_lt c 8 (fun _ => ?_) (fun z => absurd z (by omega))
          refine zx_shared hC hc5 hc (fun k' i' z => absurd z.1 (hno k' i')) (fun _ => ?_)
          refine br_t (by decide) ?_
          refine zx_chunks (w := 1) rfl hC (by omega) (by omega) (fun k' z => ?_) (fun z => absurd hk.1 (z k))
          rw [zl_chu hk z]; exact hp
        · refine Exists.intro 17 (zy_pl2 hC P X A hc5 hc (fun k' i' z => absurd z.1 (hno k' i')) (fun _ => ?_) C 0 (by omega) (fun k' hk' => absurd hk' (by omega)) 17 (by omega))
          refine pk_le 8 c (fun z => absurd z (by omega)) (fun _ => ?_)
          refine Exists.intro 18 (zy_pl102 (w := 1) hC P X A (by omega) (by omega) (fun k' z => ?_) (fun z => absurd hk.1 (z k)) 17 0 (by omega) (fun k' hk' => absurd hk' (by omega)) 18 (by omega))
          rw [zl_chu hk z]; exact hp
      · refine Or.inl ⟨fun post hp => ?_, fun post hp => ?_⟩
        · refine pk_lt c 8 (fun _ => ?_) (fun z => absurd z (by omega))
          refine zx_shared hC hc5 hc (fun k' i' z => absurd z.1 (hno k' i')) (fun _ => ?_)
          refine br_t (by decide) ?_
          exact zx_chunks (w := 1) rfl hC (by omega) (by omega) (fun k' z => absurd z.1 (hno2 k')) (fun _ => hp)
        · refine Exists.intro 17 (zy_pl2 hC P X A hc5 hc (fun k' i' z => absurd z.1 (hno k' i')) (fun _ => ?_) C 0 (by omega) (fun k' hk' => absurd hk' (by omega)) 17 (by omega))
          refine pk_le 8 c (fun z => absurd z (by omega)) (fun _ => ?_)
          exact Exists.intro 18 (zy_pl102 (w := 1) hC P X A (by omega) (by omega) (fun k' z => absurd z.1 (hno2 k')) (fun _ => hp) 17 0 (by omega) (fun k' hk' => absurd hk' (by omega)) 18 (by omega))
  · have e3 : nI c >>> ((3 : Int32) &&& 31) = nI (c / 8) := pk_shrN (by omega) _ 3 (by decide)
    have ed : nI c / 8 = nI (c / 8) := pk_div (d := 8) (by omega) (by omega) (by omega)
    have ypl : ∀ post : Int32 → Prop, wY_place_85 post (nI c) (nI C) (nI S) (nI L) lf cur sta lst ss sz hs hz ct tk kn fi se nS nZ oS oZ → wpY_place post (nI C, nI S, nI L, lf, cur, sta, lst, ss, sz, hs, hz, ct, tk, kn, fi, se, nS, nZ, oS, oZ) (nI c) := by
      intro post hp
      refine Exists.intro 1 (br_c (fun _ => hp) (fun _ => ?_))
      exact pk_le 8 c (fun _ => hp) (fun z => absurd z (by omega))
    rcases zl_exch C (c / 8) cS with ⟨k, hk⟩ | hno2
    · refine Or.inr ⟨8 * k, zl_gch hC P X (m := c / 8) (by omega) (Or.inl (by omega)) hk.1, fun post hp => ?_, fun post hp => ypl post ?_⟩
      · refine pk_lt c 8 (fun z => absurd z (by omega)) (fun _ => ?_)
        refine zx_chunks (w := c / 8) e3 hC (by omega) (by omega) (fun k' z => ?_) (fun z => absurd hk.1 (z k))
        rw [zl_chu hk z]; exact hp
      · refine pk_le 8 c (fun _ => And.intro (by decide) (nm_r ed ?_)) (fun z => absurd z (by omega))
        refine Exists.intro 18 (zy_pl102 (w := c / 8) hC P X A (by omega) (by omega) (fun k' z => ?_) (fun z => absurd hk.1 (z k)) 17 0 (by omega) (fun k' hk' => absurd hk' (by omega)) 18 (by omega))
        rw [zl_chu hk z]; exact hp
    · refine Or.inl ⟨fun post hp => ?_, fun post hp => ypl post ?_⟩
      · refine pk_lt c 8 (fun z => absurd z (by omega)) (fun _ => ?_)
        exact zx_chunks (w := c / 8) e3 hC (by omega) (by omega) (fun k' z => absurd z.1 (hno2 k')) (fun _ => hp)
      · refine pk_le 8 c (fun _ => And.intro (by decide) (nm_r ed ?_)) (fun z => absurd z (by omega))
        exact Exists.intro 18 (zy_pl102 (w := c / 8) hC P X A (by omega) (by omega) (fun k' z => absurd z.1 (hno2 k')) (fun _ => hp) 17 0 (by omega) (fun k' hk' => absurd hk' (by omega)) 18 (by omega))
end
end
section
/-! the relation -/
def zr_cfg (C S L : Nat) : Prop := 2 ≤ C ∧ C ≤ 16 ∧ 2 ≤ S ∧ S ≤ 16 ∧ 1 ≤ L ∧ L ≤ 4
def zr_LN (L : Nat) (n p : Nat → Nat) (ct tk : Nat → Int32) : Prop :=
  ∀ l, l < 4 → ct l = nI (n l) ∧ tk l = nI (p l) ∧ n l ≤ 3 ∧ p l ≤ 2 * n l + 4 ∧ (n l = 0 → p l = 0) ∧ (L ≤ l → n l = 0)
def zr_SY (S : Nat) (B : Nat → Nat) (ss sz : Nat → Int32) : Prop := ∀ s, s < 16 → zr_YB ss sz s (B s) ∧ (S ≤ s → B s = 0)
def zr_SX (S : Nat) (B : Nat → Nat) (sb : Nat → Int32) : Prop := ∀ s, s < S → sb s = nI (B s)
def zr_HX (B : Nat → Nat) (ha : Nat → Int32) : Prop := ∀ l, l < 4 → ha l = nI (B (28 + l))
def zr_HY (L : Nat) (B p : Nat → Nat) (hs hz : Nat → Int32) : Prop := ∀ l, l < 4 → zr_YB hs hz l (B (28 + l)) ∧ (L ≤ l → B (28 + l) = 0) ∧ (0 < p l → B (28 + l) = 0)
def zr_CD (cd : Nat → Nat) : Prop := (∀ s, s < 16 → cd s = s) ∧ (∀ l, l < 4 → cd (28 + l) = 64 + l) ∧ (∀ l, l < 4 → ∀ i, i < 3 → cd (32 + 3 * l + i) = 96 + l)
def zr_AP (S : Nat) (n : Nat → Nat) (kd fa fb va vb : Nat → Nat → Nat) : Prop :=
  ∀ l, l < 4 → ∀ i, i < n l → 1 ≤ kd l i ∧ kd l i ≤ 3 ∧ fa l i < S ∧ fb l i < S ∧ (kd l i ≠ 3 → fb l i = 0 ∧ vb l i = 0) ∧ (kd l i = 2 → va l i = 0) ∧ (kd l i = 3 → fa l i ≠ fb l i) ∧ va l i < 32768 ∧ vb l i < 32768
def zr_AX (n : Nat → Nat) (kd fa fb va vb : Nat → Nat → Nat) (en : Nat → Int64) : Prop :=
  ∀ l, l < 4 → ∀ i, i < n l → en (4 * l + i) = lN (ze_v (kd l i) (fa l i) (fb l i) (va l i) (vb l i))
def zr_AY (n : Nat → Nat) (kd fa fb va : Nat → Nat → Nat) (kn fi se nS nZ : Nat → Int32) : Prop :=
  ∀ l, l < 4 → ∀ i, i < n l → kn (3 * l + i) = nI (kd l i) ∧ fi (3 * l + i) = nI (fa l i) ∧ se (3 * l + i) = nI (fb l i) ∧ (kd l i ≠ 3 → zr_YB nS nZ (3 * l + i) (va l i))
/-- keys of actions, E: which actions are in effect -/
def zr_KE (E : Nat → Nat → Prop) (n : Nat → Nat) (kd fa fb va vb : Nat → Nat → Nat) (B cd : Nat → Nat) : Prop :=
  ∀ l, l < 4 → ∀ i, i < 3 →
    (i < n l → ¬ E l i → kd l i = 1 → B (16 + 3 * l + i) = va l i) ∧
    (i < n l → ¬ E l i → kd l i = 3 → va l i = B (fb l i) ∧ vb l i = B (fa l i)) ∧
    (i < n l → E l i → B (fa l i) = va l i ∧ (kd l i = 3 → B (fb l i) = vb l i)) ∧
    (¬ (i < n l ∧ kd l i = 1 ∧ ¬ E l i) → B (16 + 3 * l + i) = 0) ∧
    (¬ (i < n l ∧ E l i) → B (32 + 3 * l + i) = 0) ∧
    (i < n l → cd (16 + 3 * l + i) = 32 + fa l i)
def zr_OX (E : Nat → Nat → Prop) (n : Nat → Nat) (B : Nat → Nat) (ob : Nat → Int32) : Prop :=
  ∀ l, l < 4 → ∀ i, i < n l → E l i → ob (4 * l + i) = nI (B (32 + 3 * l + i))
def zr_OY (E : Nat → Nat → Prop) (n : Nat → Nat) (kd : Nat → Nat → Nat) (B : Nat → Nat) (oS oZ : Nat → Int32) : Prop :=
  ∀ l, l < 4 → ∀ i, i < n l → (E l i → zr_YB oS oZ (3 * l + i) (B (32 + 3 * l + i))) ∧ (¬ E l i → kd l i = 3 → oZ (3 * l + i) = 0)
def zr_tc (kd fa fb : Nat → Nat → Nat) (l i s : Nat) : Prop := fa l i = s ∨ (kd l i = 3 ∧ fb l i = s)
def zr_LU (n : Nat → Nat) (kd fa fb : Nat → Nat → Nat) : Prop :=
  ∀ l l', l < 4 → l' < 4 → ∀ i i', i < n l → i' < n l' → ∀ s, zr_tc kd fa fb l i s → zr_tc kd fa fb l' i' s → l = l' ∧ i = i'
def zr_LX (n : Nat → Nat) (kd fa fb : Nat → Nat → Nat) (lk : Int32) (ll : Nat → Int32) : Prop :=
  (∀ l, l < 4 → ∀ j, j < 32 → (bt (ll l) j = true ↔ ∃ i, i < n l ∧ zr_tc kd fa fb l i j)) ∧
  (∀ j, j < 32 → (bt lk j = true ↔ ∃ l, l < 4 ∧ bt (ll l) j = true))
/-- persistence: not pending, so equal -/
def zr_PE (pe : Int32) (me ms : Nat → Int64) : Prop := ∀ j, j < 32 → bt pe j = false → me j = ms j
/-- the log lines of one lane, pool up -/
def zr_PL (l n p : Nat) (me ms en : Nat → Int64) : Prop :=
  (p ≤ n + 1 → (∀ i, i < 4 → ms (16 + 4 * l + i) = 0) ∧ (∀ i, i < 3 → me (16 + 4 * l + i) = if i < p ∧ i < n then en (4 * l + i) else 0) ∧ me (16 + 4 * l + 3) = if p = n + 1 then lN n else 0) ∧
  (n + 2 ≤ p → p ≤ 2 * n + 2 → (∀ i, i < n → me (16 + 4 * l + i) = en (4 * l + i) ∧ ms (16 + 4 * l + i) = en (4 * l + i)) ∧ me (16 + 4 * l + 3) = lN n ∧ ms (16 + 4 * l + 3) = lN n) ∧
  (2 * n + 3 ≤ p → (∀ i, i < n → (me (16 + 4 * l + i) = 0 ∨ me (16 + 4 * l + i) = en (4 * l + i)) ∧ (ms (16 + 4 * l + i) = 0 ∨ ms (16 + 4 * l + i) = en (4 * l + i))) ∧ (me (16 + 4 * l + 3) = 0 ∨ me (16 + 4 * l + 3) = lN n) ∧ (ms (16 + 4 * l + 3) = 0 ∨ ms (16 + 4 * l + 3) = lN n)) ∧
  (p = 2 * n + 4 → ∀ i, i < 4 → me (16 + 4 * l + i) = 0)
/-- the home lines, pool up -/
def zr_PH (n p : Nat → Nat) (kd fa fb : Nat → Nat → Nat) (B : Nat → Nat) (me ms : Nat → Int64) : Prop :=
  (∀ s, s < 16 → (∀ l, l < 4 → ∀ i, i < n l → zr_tc kd fa fb l i s → ¬ (n l + 2 ≤ p l ∧ p l ≤ 2 * n l + 2)) → me s = lN (B s) ∧ ms s = lN (B s)) ∧
  (∀ l, l < 4 → n l + 2 ≤ p l → p l ≤ 2 * n l + 2 → ∀ i, i < n l → i + n l + 2 < p l → ∀ s, zr_tc kd fa fb l i s → me s = lN (B s))
/-- one lane's log while the pool is down; st 0: broken, 1: alive, 2: dead -/
def zr_DL (st l n : Nat) (kd fa fb va vb : Nat → Nat → Nat) (T : Nat → Nat) (me ms : Nat → Int64) : Prop :=
  n ≤ 3 ∧
  (∀ i, i < n → (me (16 + 4 * l + i) = 0 ∨ me (16 + 4 * l + i) = lN (ze_v (kd l i) (fa l i) (fb l i) (va l i) (vb l i))) ∧ (ms (16 + 4 * l + i) = 0 ∨ ms (16 + 4 * l + i) = lN (ze_v (kd l i) (fa l i) (fb l i) (va l i) (vb l i)))) ∧
  (me (16 + 4 * l + 3) = 0 ∨ me (16 + 4 * l + 3) = lN n) ∧ (ms (16 + 4 * l + 3) = 0 ∨ ms (16 + 4 * l + 3) = lN n) ∧
  (st = 0 → ∃ j, (j = 3 ∨ j < n) ∧ me (16 + 4 * l + j) = 0 ∧ ms (16 + 4 * l + j) = 0) ∧
  (st = 1 → 1 ≤ n ∧ (∀ i, i < n → me (16 + 4 * l + i) = lN (ze_v (kd l i) (fa l i) (fb l i) (va l i) (vb l i)) ∧ ms (16 + 4 * l + i) = lN (ze_v (kd l i) (fa l i) (fb l i) (va l i) (vb l i))) ∧ me (16 + 4 * l + 3) = lN n ∧ ms (16 + 4 * l + 3) = lN n) ∧
  (st ≠ 0 → ∀ i, i < n → T (fa l i) = va l i ∧ (kd l i = 3 → T (fb l i) = vb l i))
def zr_DH (n st : Nat → Nat) (kd fa fb : Nat → Nat → Nat) (T : Nat → Nat) (me ms : Nat → Int64) : Prop :=
  ∀ s, s < 16 → (∀ l, l < 4 → st l = 1 → ∀ i, i < n l → ¬ zr_tc kd fa fb l i s) → me s = lN (T s) ∧ ms s = lN (T s)
/-- how far recovery is: a steps done -/
def zr_DP (a L : Nat) (n st : Nat → Nat) (kd fa fb : Nat → Nat → Nat) (T : Nat → Nat) (me ms : Nat → Int64) : Prop :=
  (∀ l, l < 4 → (4 * l + 4 ≤ a ∨ L ≤ l) → ∀ i, i < 4 → me (16 + 4 * l + i) = 0 ∧ ms (16 + 4 * l + i) = 0) ∧
  (∀ l, l < L → a = 4 * l + 1 → st l = 1 → ∀ i, i < n l → ∀ s, zr_tc kd fa fb l i s → me s = lN (T s)) ∧
  (∀ l, l < L → 4 * l + 2 ≤ a → st l ≠ 1) ∧
  (∀ l, l < L → a = 4 * l + 3 → ∀ i, i < 4 → me (16 + 4 * l + i) = 0)
def zr_E (n p : Nat → Nat) : Nat → Nat → Prop := fun l _ => n l + 2 ≤ p l
/-- pool up, with its ghosts -/
def zr_U (C S L : Nat) (B cd n p : Nat → Nat) (kd fa fb va vb : Nat → Nat → Nat) (fc fs fl pe lk dn rl lf : Int32) (cur sta lst : Nat → Int32) (me ms : Nat → Int64) (sb ow cS cU cH ha ct tk ll : Nat → Int32) (en : Nat → Int64) (ob ss sz hs hz kn fi se nS nZ oS oZ : Nat → Int32) : Prop :=
  (fc = nI C ∧ fs = nI S ∧ fl = nI L ∧ dn = 0 ∧ lf = 0) ∧ zr_cfg C S L ∧ (∀ j, 2 * C ≤ j → j < 32 → lst j = 0) ∧
  za_PB C B ∧ za_IX B cd cU cS cH ow ∧ zr_LN L n p ct tk ∧ (zr_SY S B ss sz ∧ zr_SX S B sb) ∧ (zr_HX B ha ∧ zr_HY L B p hs hz) ∧ zr_CD cd ∧
  (zr_AP S n kd fa fb va vb ∧ zr_AX n kd fa fb va vb en ∧ zr_AY n kd fa fb va kn fi se nS nZ) ∧
  (zr_KE (zr_E n p) n kd fa fb va vb B cd ∧ zr_OX (zr_E n p) n B ob ∧ zr_OY (zr_E n p) n kd B oS oZ) ∧
  (zr_LU n kd fa fb ∧ zr_LX n kd fa fb lk ll) ∧
  (zr_PE pe me ms ∧ (∀ l, l < 4 → zr_PL l (n l) (p l) me ms en) ∧ zr_PH n p kd fa fb B me ms)
/-- pool down, with its ghosts -/
def zr_D (C S L r : Nat) (T n st : Nat → Nat) (kd fa fb va vb : Nat → Nat → Nat) (fc fs fl pe lk dn rl lf : Int32) (cur sta lst : Nat → Int32) (me ms : Nat → Int64) (sb ow cS cU cH ha ct tk ll : Nat → Int32) (en : Nat → Int64) (ob ss sz hs hz kn fi se nS nZ oS oZ : Nat → Int32) : Prop :=
  (fc = nI C ∧ fs = nI S ∧ fl = nI L ∧ dn = 1 ∧ lf = nI r ∧ rl = nI r) ∧ zr_cfg C S L ∧ (1 ≤ r ∧ r ≤ 4 * L) ∧ (∀ j, j < 32 → lst j = 0) ∧
  za_PB C T ∧ (∀ κ, 16 ≤ κ → T κ = 0) ∧ zr_SY S T ss sz ∧
  ((∀ l, l < 4 → ct l = 0 ∧ tk l = 0 ∧ ha l = 0 ∧ hz l = 0 ∧ ll l = 0) ∧ lk = 0) ∧
  zr_AP S n kd fa fb va vb ∧
  (zr_PE pe me ms ∧ (∀ l, l < 4 → zr_DL (st l) l (n l) kd fa fb va vb T me ms) ∧ zr_DH n st kd fa fb T me ms ∧ zr_DP (4 * L - r) L n st kd fa fb T me ms)
def zr_R (fc fs fl pe lk dn rl lf : Int32) (cur sta lst : Nat → Int32) (me ms : Nat → Int64) (sb ow cS cU cH ha ct tk ll : Nat → Int32) (en : Nat → Int64) (ob ss sz hs hz kn fi se nS nZ oS oZ : Nat → Int32) : Prop :=
  (∃ C S L B cd n p kd fa fb va vb, zr_U C S L B cd n p kd fa fb va vb fc fs fl pe lk dn rl lf cur sta lst me ms sb ow cS cU cH ha ct tk ll en ob ss sz hs hz kn fi se nS nZ oS oZ) ∨ (∃ C S L r T n st kd fa fb va vb, zr_D C S L r T n st kd fa fb va vb fc fs fl pe lk dn rl lf cur sta lst me ms sb ow cS cU cH ha ct tk ll en ob ss sz hs hz kn fi se nS nZ oS oZ)
def i_Rel (k : Nat) (u : SX) (v : SY) : Prop :=
  k = k ∧ match u with
  | (fc, fs, fl, pe, lk, dn, rl, cur, sta, lst, me, ms, sb, ow, cS, cU, cH, ha, ct, tk, ll, en, ob) => match v with
    | (fc', fs', fl', lf, cur', sta', lst', ss, sz, hs, hz, ct', tk', kn, fi, se, nS, nZ, oS, oZ) =>
      (fc' = fc ∧ fs' = fs ∧ fl' = fl ∧ cur' = cur ∧ sta' = sta ∧ lst' = lst ∧ ct' = ct ∧ tk' = tk) ∧ zr_R fc fs fl pe lk dn rl lf cur sta lst me ms sb ow cS cU cH ha ct tk ll en ob ss sz hs hz kn fi se nS nZ oS oZ
theorem zz_mk {k : Nat} {fc fs fl pe lk dn rl lf : Int32} {cur sta lst sb ow cS cU cH ha ct tk ll ob ss sz hs hz kn fi se nS nZ oS oZ : Nat → Int32} {me ms en : Nat → Int64} (h : zr_R fc fs fl pe lk dn rl lf cur sta lst me ms sb ow cS cU cH ha ct tk ll en ob ss sz hs hz kn fi se nS nZ oS oZ) : i_Rel k (fc, fs, fl, pe, lk, dn, rl, cur, sta, lst, me, ms, sb, ow, cS, cU, cH, ha, ct, tk, ll, en, ob) (fc, fs, fl, lf, cur, sta, lst, ss, sz, hs, hz, ct, tk, kn, fi, se, nS, nZ, oS, oZ) := ⟨rfl, ⟨rfl, rfl, rfl, rfl, rfl, rfl, rfl, rfl⟩, h⟩
theorem zz_el {k : Nat} {u : SX} {v : SY} {P : SX → SY → Prop}
    (h : ∀ (fc fs fl pe lk dn rl lf : Int32) (cur sta lst : Nat → Int32) (me ms : Nat → Int64) (sb ow cS cU cH ha ct tk ll : Nat → Int32) (en : Nat → Int64) (ob ss sz hs hz kn fi se nS nZ oS oZ : Nat → Int32), zr_R fc fs fl pe lk dn rl lf cur sta lst me ms sb ow cS cU cH ha ct tk ll en ob ss sz hs hz kn fi se nS nZ oS oZ → P (fc, fs, fl, pe, lk, dn, rl, cur, sta, lst, me, ms, sb, ow, cS, cU, cH, ha, ct, tk, ll, en, ob) (fc, fs, fl, lf, cur, sta, lst, ss, sz, hs, hz, ct, tk, kn, fi, se, nS, nZ, oS, oZ)) (I : i_Rel k u v) : P u v := by
  obtain ⟨fc, fs, fl, pe, lk, dn, rl, cur, sta, lst, me, ms, sb, ow, cS, cU, cH, ha, ct, tk, ll, en, ob⟩ := u
  obtain ⟨fc', fs', fl', lf, cur', sta', lst', ss, sz, hs, hz, ct', tk', kn, fi, se, nS, nZ, oS, oZ⟩ := v
  obtain ⟨_, ⟨e1, e2, e3, e4, e5, e6, e7, e8⟩, hr⟩ := I
  subst e1; subst e2; subst e3; subst e4; subst e5; subst e6; subst e7; subst e8
  exact h _ _ _ _ _ _ _ _ _ _ _ _ _ _ _ _ _ _ _ _ _ _ _ _ _ _ _ _ _ _ _ _ _ _ _ hr
theorem i_up {k : Nat} {u : SX} {v : SY} (h : i_Rel k u v) : i_Rel (k + 4) u v := zz_el (P := fun u v => i_Rel (k + 4) u v) (fun _ _ _ _ _ _ _ _ _ _ _ _ _ _ _ _ _ _ _ _ _ _ _ _ _ _ _ _ _ _ _ _ _ _ _ hr => zz_mk hr) h
/-- the search's facts out of the relation -/
theorem zr_ab_of {fc fs fl pe lk dn rl lf : Int32} {cur sta lst sb ow cS cU cH ha ct tk ll ob ss sz hs hz kn fi se nS nZ oS oZ : Nat → Int32} {me ms en : Nat → Int64} {C S L : Nat} {B cd n p : Nat → Nat} {kd fa fb va vb : Nat → Nat → Nat} (h : zr_U C S L B cd n p kd fa fb va vb fc fs fl pe lk dn rl lf cur sta lst me ms sb ow cS cU cH ha ct tk ll en ob ss sz hs hz kn fi se nS nZ oS oZ) : zr_ab S L B cd n p kd fa ss sz hs hz ct tk kn fi nS nZ oS oZ := by
  obtain ⟨_, hcfg, _, hPB, _, hLN, ⟨hSY, _⟩, ⟨_, hHY⟩, ⟨d1, d2, d3⟩, ⟨hAP, _, hAY⟩, ⟨hKE, _, hOY⟩, _, _⟩ := h
  obtain ⟨c1, c2, c3, c4, c5, c6⟩ := hcfg
  refine ⟨⟨c4, c6⟩, fun κ hκ => ?_, fun s hs => (hSY s (by omega)).1, fun s hs => ⟨(hSY s hs).2, d1 s hs⟩, fun l hl => (hHY l (by omega)).1, fun l hl => ⟨(hHY l hl).2.1, d2 l hl⟩, fun l hl => ?_, fun l hl i hi => ?_, fun l hl i hi hn => ?_, fun l hl i hi hE => ?_, fun l hl i hi hn => ?_⟩
  · rcases hPB.1 κ hκ with e | e
    · exact Or.inl e
    · have := za_wf_lt c2 e
      exact Or.inr ⟨this.2.2.2, this.1⟩
  · obtain ⟨a1, a2, a3, a4, a5, a6⟩ := hLN l hl
    exact ⟨a1, a2, a3, by omega, a6⟩
  · have hn3 := (hLN l hl).2.2.1
    obtain ⟨a1, a2, a3, a4⟩ := hAY l hl i hi
    obtain ⟨b1, b2, b3, b4, b5, b6, b7, b8, b9⟩ := hAP l hl i hi
    obtain ⟨k1, k2, k3, k4, k5, k6⟩ := hKE l hl i (by omega)
    refine ⟨a1, b2, fun e hp => ⟨?_, a2, k6 hi⟩⟩
    have hE : ¬ zr_E n p l i := fun z => by unfold zr_E at z; omega
    rw [k1 hi hE e]; exact a4 (by omega)
  · obtain ⟨k1, k2, k3, k4, k5, k6⟩ := hKE l hl i hi
    refine k4 (fun z => hn ⟨z.1, z.2.1, ?_⟩)
    have := z.2.2
    unfold zr_E at this; omega
  · have hn3 := (hLN l hl).2.2.1
    exact ⟨(hOY l hl i hi).1 hE, d3 l hl i (by omega)⟩
  · obtain ⟨k1, k2, k3, k4, k5, k6⟩ := hKE l hl i hi
    exact k5 hn
end
section
/-! arguments out of range, settle, the methods that only read -/
def zs_c (q : Int32) (j e : Nat) (cur sta : Nat → Int32) : Nat → Int32 := fun w => if q = 0 ∧ 4 * j ≤ w ∧ w < e then sta w else cur w
def zs_s (q : Int32) (j e : Nat) (cur sta : Nat → Int32) : Nat → Int32 := fun w => if ¬ q = 0 ∧ 4 * j ≤ w ∧ w < e then cur w else sta w
theorem zs_c0 {q : Int32} {j : Nat} {cur sta : Nat → Int32} : zs_c q j (4 * j) cur sta = cur := by
  funext w; unfold zs_c; exact if_neg (by omega)
theorem zs_s0 {q : Int32} {j : Nat} {cur sta : Nat → Int32} : zs_s q j (4 * j) cur sta = sta := by
  funext w; unfold zs_s; exact if_neg (by omega)
theorem zs_t {q : Int32} {j e : Nat} {cur sta : Nat → Int32} (hq : q = 0) (h : 4 * j ≤ e) : zs_c q j (e + 1) cur sta = upd (zs_c q j e cur sta) e (zs_s q j e cur sta e) ∧ zs_s q j (e + 1) cur sta = zs_s q j e cur sta := by
  subst hq
  constructor
  · funext w
    unfold zs_c zs_s upd
    by_cases z : w = e
    · subst z; simp [h]
    · have : w < e + 1 ↔ w < e := by omega
      simp [z, this]
  · funext w
    unfold zs_s
    simp
theorem zs_f {q : Int32} {j e : Nat} {cur sta : Nat → Int32} (hq : ¬ q = 0) (h : 4 * j ≤ e) : zs_c q j (e + 1) cur sta = zs_c q j e cur sta ∧ zs_s q j (e + 1) cur sta = upd (zs_s q j e cur sta) e (zs_c q j e cur sta e) := by
  constructor
  · funext w
    unfold zs_c
    simp [hq]
  · funext w
    unfold zs_s zs_c upd
    by_cases z : w = e
    · subst z; simp [h, hq]
    · have : w < e + 1 ↔ w < e := by omega
      simp [z, this, hq]
section
variable {fc fs fl pe lk dn rl : Int32} {cur sta lst sb ow cS cU cH ha ct tk ll ob : Nat → Int32} {me ms en : Nat → Int64} {N : Nat}
theorem zx_bL0 {post : Int32 → Prop} {l : Nat} (h : l < N) (hN : N < 2 ^ 31) (H : post 0) : wpX_badLane post (fc, fs, nI N, pe, lk, dn, rl, cur, sta, lst, me, ms, sb, ow, cS, cU, cH, ha, ct, tk, ll, en, ob) (nI l) :=
  br_f (nI_pos (by omega)) (br_t (nI_lt h hN) H)
theorem zx_bL1 {post : Int32 → Prop} {x : Int32} (hx : x < 0 ∨ nI N ≤ x) (H : post 1) : wpX_badLane post (fc, fs, nI N, pe, lk, dn, rl, cur, sta, lst, me, ms, sb, ow, cS, cU, cH, ha, ct, tk, ll, en, ob) x := by
  by_cases z : x < 0
  · exact br_t z H
  · exact br_f z (br_f (Int32.not_lt.mpr (hx.resolve_left z)) H)
theorem zx_bS0 {post : Int32 → Prop} {l : Nat} (h : l < N) (hN : N < 2 ^ 31) (H : post 0) : wpX_badSlot post (fc, nI N, fl, pe, lk, dn, rl, cur, sta, lst, me, ms, sb, ow, cS, cU, cH, ha, ct, tk, ll, en, ob) (nI l) :=
  br_f (nI_pos (by omega)) (br_t (nI_lt h hN) H)
theorem zx_bS1 {post : Int32 → Prop} {x : Int32} (hx : x < 0 ∨ nI N ≤ x) (H : post 1) : wpX_badSlot post (fc, nI N, fl, pe, lk, dn, rl, cur, sta, lst, me, ms, sb, ow, cS, cU, cH, ha, ct, tk, ll, en, ob) x := by
  by_cases z : x < 0
  · exact br_t z H
  · exact br_f z (br_f (Int32.not_lt.mpr (hx.resolve_left z)) H)
theorem zx_bW0 {post : Int32 → Prop} {l : Nat} (h : l < 8 * N) (hN : N ≤ 16) (H : post 0) : wpX_badWord post (nI N, fs, fl, pe, lk, dn, rl, cur, sta, lst, me, ms, sb, ow, cS, cU, cH, ha, ct, tk, ll, en, ob) (nI l) :=
  br_f (nI_pos (by omega)) (br_t (by rw [zn_8]; exact nI_lt h (by omega)) H)
theorem zx_bW1 {post : Int32 → Prop} {x : Int32} (hx : x < 0 ∨ nI (8 * N) ≤ x) (H : post 1) : wpX_badWord post (nI N, fs, fl, pe, lk, dn, rl, cur, sta, lst, me, ms, sb, ow, cS, cU, cH, ha, ct, tk, ll, en, ob) x := by
  by_cases z : x < 0
  · exact br_t z H
  · exact br_f z (br_f (by rw [zn_8]; exact Int32.not_lt.mpr (hx.resolve_left z)) H)
end
section
variable {fc fs fl lf : Int32} {cur sta lst ss sz hs hz ct tk kn fi se nS nZ oS oZ : Nat → Int32} {N : Nat}
theorem zy_bL0 {post : Int32 → Prop} {l : Nat} (h : l < N) (hN : N < 2 ^ 31) (H : post 0) : wpY_badLane post (fc, fs, nI N, lf, cur, sta, lst, ss, sz, hs, hz, ct, tk, kn, fi, se, nS, nZ, oS, oZ) (nI l) :=
  br_f (nI_pos (by omega)) (br_t (nI_lt h hN) H)
theorem zy_bL1 {post : Int32 → Prop} {x : Int32} (hx : x < 0 ∨ nI N ≤ x) (H : post 1) : wpY_badLane post (fc, fs, nI N, lf, cur, sta, lst, ss, sz, hs, hz, ct, tk, kn, fi, se, nS, nZ, oS, oZ) x := by
  by_cases z : x < 0
  · exact br_t z H
  · exact br_f z (br_f (Int32.not_lt.mpr (hx.resolve_left z)) H)
theorem zy_bS0 {post : Int32 → Prop} {l : Nat} (h : l < N) (hN : N < 2 ^ 31) (H : post 0) : wpY_badSlot post (fc, nI N, fl, lf, cur, sta, lst, ss, sz, hs, hz, ct, tk, kn, fi, se, nS, nZ, oS, oZ) (nI l) :=
  br_f (nI_pos (by omega)) (br_t (nI_lt h hN) H)
theorem zy_bS1 {post : Int32 → Prop} {x : Int32} (hx : x < 0 ∨ nI N ≤ x) (H : post 1) : wpY_badSlot post (fc, nI N, fl, lf, cur, sta, lst, ss, sz, hs, hz, ct, tk, kn, fi, se, nS, nZ, oS, oZ) x := by
  by_cases z : x < 0
  · exact br_t z H
  · exact br_f z (br_f (Int32.not_lt.mpr (hx.resolve_left z)) H)
theorem zy_bW0 {post : Int32 → Prop} {l : Nat} (h : l < 8 * N) (hN : N ≤ 16) (H : post 0) : wpY_badWord post (nI N, fs, fl, lf, cur, sta, lst, ss, sz, hs, hz, ct, tk, kn, fi, se, nS, nZ, oS, oZ) (nI l) :=
  br_f (nI_pos (by omega)) (br_t (by rw [zn_8]; exact nI_lt h (by omega)) H)
theorem zy_bW1 {post : Int32 → Prop} {x : Int32} (hx : x < 0 ∨ nI (8 * N) ≤ x) (H : post 1) : wpY_badWord post (nI N, fs, fl, lf, cur, sta, lst, ss, sz, hs, hz, ct, tk, kn, fi, se, nS, nZ, oS, oZ) x := by
  by_cases z : x < 0
  · exact br_t z H
  · exact br_f z (br_f (by rw [zn_8]; exact Int32.not_lt.mpr (hx.resolve_left z)) H)
end
section
variable {fc fs fl pe lk dn rl : Int32} {cur sta lst sb ow cS cU cH ha ct tk ll ob : Nat → Int32} {me ms en : Nat → Int64}
theorem zx_settle_l {post : SX → Prop} {j : Nat} {q : Int32} (hj : j < 32) (H : post (fc, fs, fl, pe, lk, dn, rl, zs_c q j (4 * j + 4) cur sta, zs_s q j (4 * j + 4) cur sta, upd lst j 0, me, ms, sb, ow, cS, cU, cH, ha, ct, tk, ll, en, ob)) :
    ∀ d e, e + d = 4 * j + 4 → 4 * j ≤ e → ∀ m, d < m → wX_settle_4 post (nI j) q fc fs fl pe lk dn rl m (nI e) (zs_c q j e cur sta) (zs_s q j e cur sta) lst me ms sb ow cS cU cH ha ct tk ll en ob := by
  have e4 : (4 : Int32) * nI j + 4 = nI (4 * j + 4) := by rw [zn_4]; exact nI_add _ 4
  intro d
  induction d with
  | zero =>
    intro e he hge m hm
    obtain ⟨m, rfl⟩ : ∃ m', m = m' + 1 := ⟨m - 1, by omega⟩
    have ee : e = 4 * j + 4 := by omega
    subst ee
    refine pk_le (4 * j + 4) (4 * j + 4) (fun _ => And.intro (vp_in_nI hj (by omega)) ?_) (fun z => absurd z (by omega)) e4
    intro M eM
    rw [nI_clamp (by omega)] at eM
    subst eM
    exact H
  | succ d ih =>
    intro e he hge m hm
    obtain ⟨m, rfl⟩ : ∃ m', m = m' + 1 := ⟨m - 1, by omega⟩
    refine pk_le (4 * j + 4) e (fun z => absurd z (by omega)) (fun _ => ?_) e4
    have hi : vp_in (nI e) 128 := vp_in_nI (by omega) (by omega)
    have hc : (nI e).toNatClampNeg = e := nI_clamp (by omega)
    have nx := ih (e + 1) (by omega) (by omega) m (by omega)
    refine br_c (fun hq => And.intro hi (And.intro hi ?_)) (fun hq => And.intro hi (And.intro hi ?_))
    · rw [(zs_t hq hge).1, (zs_t hq hge).2] at nx
      intro M eM
      rw [hc] at eM
      subst eM
      exact nm_r (nI_1 e) nx
    · rw [(zs_f hq hge).1, (zs_f hq hge).2] at nx
      intro M eM
      rw [hc] at eM
      subst eM
      exact nm_r (nI_1 e) nx
theorem zx_settle {post : SX → Prop} {j : Nat} {q : Int32} (hj : j < 32) (H : post (fc, fs, fl, pe, lk, dn, rl, zs_c q j (4 * j + 4) cur sta, zs_s q j (4 * j + 4) cur sta, upd lst j 0, me, ms, sb, ow, cS, cU, cH, ha, ct, tk, ll, en, ob)) : wpX_settle post (fc, fs, fl, pe, lk, dn, rl, cur, sta, lst, me, ms, sb, ow, cS, cU, cH, ha, ct, tk, ll, en, ob) (nI j) q := by
  refine nm_r (zn_4 j) (Exists.intro 5 ?_)
  have h := zx_settle_l hj H 4 (4 * j) (by omega) (by omega) 5 (by omega)
  rw [zs_c0, zs_s0] at h
  exact h
end
section
variable {fc fs fl lf : Int32} {cur sta lst ss sz hs hz ct tk kn fi se nS nZ oS oZ : Nat → Int32}
theorem zy_settle_l {post : SY → Prop} {j : Nat} {q : Int32} (hj : j < 32) (H : post (fc, fs, fl, lf, zs_c q j (4 * j + 4) cur sta, zs_s q j (4 * j + 4) cur sta, upd lst j 0, ss, sz, hs, hz, ct, tk, kn, fi, se, nS, nZ, oS, oZ)) :
    ∀ d e, e + d = 4 * j + 4 → 4 * j ≤ e → ∀ m, d < m → wY_settle_4 post (nI j) q fc fs fl lf m (nI e) (zs_c q j e cur sta) (zs_s q j e cur sta) lst ss sz hs hz ct tk kn fi se nS nZ oS oZ := by
  have e4 : (4 : Int32) * nI j + 4 = nI (4 * j + 4) := by rw [zn_4]; exact nI_add _ 4
  intro d
  induction d with
  | zero =>
    intro e he hge m hm
    obtain ⟨m, rfl⟩ : ∃ m', m = m' + 1 := ⟨m - 1, by omega⟩
    have ee : e = 4 * j + 4 := by omega
    subst ee
    refine pk_le (4 * j + 4) (4 * j + 4) (fun _ => And.intro (vp_in_nI hj (by omega)) ?_) (fun z => absurd z (by omega)) e4
    intro M eM
    rw [nI_clamp (by omega)] at eM
    subst eM
    exact H
  | succ d ih =>
    intro e he hge m hm
    obtain ⟨m, rfl⟩ : ∃ m', m = m' + 1 := ⟨m - 1, by omega⟩
    refine pk_le (4 * j + 4) e (fun z => absurd z (by omega)) (fun _ => ?_) e4
    have hi : vp_in (nI e) 128 := vp_in_nI (by omega) (by omega)
    have hc : (nI e).toNatClampNeg = e := nI_clamp (by omega)
    have nx := ih (e + 1) (by omega) (by omega) m (by omega)
    refine br_c (fun hq => And.intro hi (And.intro hi ?_)) (fun hq => And.intro hi (And.intro hi ?_))
    · rw [(zs_t hq hge).1, (zs_t hq hge).2] at nx
      intro M eM
      rw [hc] at eM
      subst eM
      exact nm_r (nI_1 e) nx
    · rw [(zs_f hq hge).1, (zs_f hq hge).2] at nx
      intro M eM
      rw [hc] at eM
      subst eM
      exact nm_r (nI_1 e) nx
theorem zy_settle {post : SY → Prop} {j : Nat} {q : Int32} (hj : j < 32) (H : post (fc, fs, fl, lf, zs_c q j (4 * j + 4) cur sta, zs_s q j (4 * j + 4) cur sta, upd lst j 0, ss, sz, hs, hz, ct, tk, kn, fi, se, nS, nZ, oS, oZ)) : wpY_settle post (fc, fs, fl, lf, cur, sta, lst, ss, sz, hs, hz, ct, tk, kn, fi, se, nS, nZ, oS, oZ) (nI j) q := by
  refine nm_r (zn_4 j) (Exists.intro 5 ?_)
  have h := zy_settle_l hj H 4 (4 * j) (by omega) (by omega) 5 (by omega)
  rw [zs_c0, zs_s0] at h
  exact h
end
end
section
/-! the methods that only read -/
theorem zi_cl (x : Int32) {N : Nat} (hN : N < 2 ^ 31) : x < 0 ∨ (¬ x < 0 ∧ nI N ≤ x ∧ ¬ x < nI N) ∨ ∃ j, j < N ∧ x = nI j := by
  rcases pk_ix x hN with h | h | h
  · exact Or.inl h
  · by_cases z : x < 0
    · exact Or.inl z
    · exact Or.inr (Or.inl ⟨z, h, Int32.not_lt.mpr h⟩)
  · exact Or.inr (Or.inr h)
theorem zi_gt {x : Int32} {N : Nat} (hN : N + 1 < 2 ^ 31) (h : nI (N + 1) ≤ x) : ¬ x ≤ nI N := by
  rw [Int32.le_iff_toInt_le] at h ⊢
  rw [nI_toInt (by omega)] at h ⊢
  omega
theorem zi_r {r L : Nat} (h : 1 ≤ r ∧ r ≤ 4 * L) (hL : L ≤ 4) : (0 : Int32) < nI r ∧ ¬ nI r ≤ 0 ∧ ¬ nI r = 0 := by
  refine ⟨?_, ?_, ?_⟩
  · have := nI_lt (a := 0) (b := r) (by omega) (by omega)
    rw [nI_0] at this; exact this
  · exact nI_nle (by omega) (by omega)
  · exact nI_ne0 (by omega) (by omega)
theorem i_vc_read {k : Nat} {u : SX} {v : SY} (I : i_Rel k u v) (hk : k + 4 ≤ 2051) (v1 : Int32) : wpX_read (fun r => wpY_read (fun r' => r' = r ∧ i_Rel (k + 4) u v) v v1) u v1 := by
  refine zz_el (P := fun u v => wpX_read (fun r => wpY_read (fun r' => r' = r ∧ i_Rel (k + 4) u v) v v1) u v1) ?_ I
  intro fc fs fl pe lk dn rl lf cur sta lst me ms sb ow cS cU cH ha ct tk ll en ob ss sz hs hz kn fi se nS nZ oS oZ hr0
  have hI : i_Rel (k + 4) (fc, fs, fl, pe, lk, dn, rl, cur, sta, lst, me, ms, sb, ow, cS, cU, cH, ha, ct, tk, ll, en, ob) (fc, fs, fl, lf, cur, sta, lst, ss, sz, hs, hz, ct, tk, kn, fi, se, nS, nZ, oS, oZ) := zz_mk hr0
  rcases hr0 with ⟨C, S, L, B, cd, n, p, kd, fa, fb, va, vb, hU⟩ | ⟨C, S, L, r, T, n, st, kd, fa, fb, va, vb, hD⟩
  · obtain ⟨⟨rfl, rfl, rfl, rfl, rfl⟩, hcfg, hlst, hPB, hIX, hLN, ⟨hSY, hSX⟩, ⟨hHX, hHY⟩, hCD, ⟨hAP, hAX, hAY⟩, ⟨hKE, hOX, hOY⟩, ⟨hLU, hLX⟩, ⟨hPE, hPL, hPH⟩⟩ := hU
    have hC := hcfg.2.1
    refine br_t rfl ?_
    rcases pk_ix v1 (n := 8 * C) (by omega) with hb | hb | ⟨w, hw, rfl⟩
    · exact zx_bW1 (Or.inl hb) (br_f (by decide) (br_f (by decide) (zy_bW1 (Or.inl hb) (br_f (by decide) ⟨rfl, hI⟩))))
    · exact zx_bW1 (Or.inr hb) (br_f (by decide) (br_f (by decide) (zy_bW1 (Or.inr hb) (br_f (by decide) ⟨rfl, hI⟩))))
    · have hi : vp_in (nI w) 128 := vp_in_nI (by omega) (by omega)
      exact zx_bW0 hw hC (br_t rfl (And.intro hi (br_f (by decide) (zy_bW0 hw hC (br_t rfl (And.intro hi ⟨rfl, hI⟩))))))
  · obtain ⟨⟨rfl, rfl, rfl, rfl, rfl, rfl⟩, hcfg, hr, hlst, hPB, hT0, hSY, ⟨hid, hlk⟩, hAP, ⟨hPE, hDL, hDH, hDP⟩⟩ := hD
    have h0 := zi_r hr hcfg.2.2.2.2.2
    exact br_f (by decide) (br_t h0.1 ⟨rfl, hI⟩)
theorem i_vc_durable {k : Nat} {u : SX} {v : SY} (I : i_Rel k u v) (hk : k + 4 ≤ 2051) (v1 : Int32) : wpX_durable (fun r => wpY_durable (fun r' => r' = r ∧ i_Rel (k + 4) u v) v v1) u v1 := by
  refine zz_el (P := fun u v => wpX_durable (fun r => wpY_durable (fun r' => r' = r ∧ i_Rel (k + 4) u v) v v1) u v1) ?_ I
  intro fc fs fl pe lk dn rl lf cur sta lst me ms sb ow cS cU cH ha ct tk ll en ob ss sz hs hz kn fi se nS nZ oS oZ hr0
  have hI : i_Rel (k + 4) (fc, fs, fl, pe, lk, dn, rl, cur, sta, lst, me, ms, sb, ow, cS, cU, cH, ha, ct, tk, ll, en, ob) (fc, fs, fl, lf, cur, sta, lst, ss, sz, hs, hz, ct, tk, kn, fi, se, nS, nZ, oS, oZ) := zz_mk hr0
  rcases hr0 with ⟨C, S, L, B, cd, n, p, kd, fa, fb, va, vb, hU⟩ | ⟨C, S, L, r, T, n, st, kd, fa, fb, va, vb, hD⟩
  · obtain ⟨⟨rfl, rfl, rfl, rfl, rfl⟩, hcfg, hlst, hPB, hIX, hLN, ⟨hSY, hSX⟩, ⟨hHX, hHY⟩, hCD, ⟨hAP, hAX, hAY⟩, ⟨hKE, hOX, hOY⟩, ⟨hLU, hLX⟩, ⟨hPE, hPL, hPH⟩⟩ := hU
    have hC := hcfg.2.1
    refine br_t rfl ?_
    rcases pk_ix v1 (n := 8 * C) (by omega) with hb | hb | ⟨w, hw, rfl⟩
    · exact zx_bW1 (Or.inl hb) (br_f (by decide) (br_f (by decide) (zy_bW1 (Or.inl hb) (br_f (by decide) ⟨rfl, hI⟩))))
    · exact zx_bW1 (Or.inr hb) (br_f (by decide) (br_f (by decide) (zy_bW1 (Or.inr hb) (br_f (by decide) ⟨rfl, hI⟩))))
    · have hi : vp_in (nI w) 128 := vp_in_nI (by omega) (by omega)
      exact zx_bW0 hw hC (br_t rfl (And.intro hi (br_f (by decide) (zy_bW0 hw hC (br_t rfl (And.intro hi ⟨rfl, hI⟩))))))
  · obtain ⟨⟨rfl, rfl, rfl, rfl, rfl, rfl⟩, hcfg, hr, hlst, hPB, hT0, hSY, ⟨hid, hlk⟩, hAP, ⟨hPE, hDL, hDH, hDP⟩⟩ := hD
    have h0 := zi_r hr hcfg.2.2.2.2.2
    exact br_f (by decide) (br_t h0.1 ⟨rfl, hI⟩)
theorem i_vc_slotAddr {k : Nat} {u : SX} {v : SY} (I : i_Rel k u v) (hk : k + 4 ≤ 2051) (v1 : Int32) : wpX_slotAddr (fun r => wpY_slotAddr (fun r' => r' = r ∧ i_Rel (k + 4) u v) v v1) u v1 := by
  refine zz_el (P := fun u v => wpX_slotAddr (fun r => wpY_slotAddr (fun r' => r' = r ∧ i_Rel (k + 4) u v) v v1) u v1) ?_ I
  intro fc fs fl pe lk dn rl lf cur sta lst me ms sb ow cS cU cH ha ct tk ll en ob ss sz hs hz kn fi se nS nZ oS oZ hr0
  have hI : i_Rel (k + 4) (fc, fs, fl, pe, lk, dn, rl, cur, sta, lst, me, ms, sb, ow, cS, cU, cH, ha, ct, tk, ll, en, ob) (fc, fs, fl, lf, cur, sta, lst, ss, sz, hs, hz, ct, tk, kn, fi, se, nS, nZ, oS, oZ) := zz_mk hr0
  rcases hr0 with ⟨C, S, L, B, cd, n, p, kd, fa, fb, va, vb, hU⟩ | ⟨C, S, L, r, T, n, st, kd, fa, fb, va, vb, hD⟩
  · obtain ⟨⟨rfl, rfl, rfl, rfl, rfl⟩, hcfg, hlst, hPB, hIX, hLN, ⟨hSY, hSX⟩, ⟨hHX, hHY⟩, hCD, ⟨hAP, hAX, hAY⟩, ⟨hKE, hOX, hOY⟩, ⟨hLU, hLX⟩, ⟨hPE, hPL, hPH⟩⟩ := hU
    have hC := hcfg.2.1
    have hS := hcfg.2.2.2.1
    refine br_t rfl ?_
    rcases pk_ix v1 (n := S) (by omega) with hb | hb | ⟨s, h1, rfl⟩
    · exact zx_bS1 (Or.inl hb) (br_f (by decide) (br_t (by decide) (zy_bS1 (Or.inl hb) (br_f (by decide) ⟨rfl, hI⟩))))
    · exact zx_bS1 (Or.inr hb) (br_f (by decide) (br_t (by decide) (zy_bS1 (Or.inr hb) (br_f (by decide) ⟨rfl, hI⟩))))
    · have hi : vp_in (nI s) 16 := vp_in_nI (by omega) (by omega)
      have hc : (nI s).toNatClampNeg = s := nI_clamp (by omega)
      have hlt := za_PB_lt hC hPB (κ := s) (by omega)
      obtain ⟨y1, y2⟩ := (hSY s (by omega)).1
      refine zx_bS0 h1 (by omega) (br_t rfl (And.intro hi ?_))
      rw [hc, hSX s h1]
      rcases hPB.1 s (by omega) with e | e
      · rw [e] at y1
        refine br_t (by rw [e]; rfl) (br_t (by decide) (zy_bS0 h1 (by omega) (br_t rfl (And.intro hi ?_))))
        rw [hc, y1]
        exact br_t rfl ⟨rfl, hI⟩
      · have el := za_wf_lt hC e
        refine br_f (nI_ne0 (by omega) (by omega)) (And.intro hi (br_t (by decide) (zy_bS0 h1 (by omega) (br_t rfl (And.intro hi ?_)))))
        rw [hc, y1, y2 el.2.1, zn_hi (by omega)]
        exact br_f (nI_ne0 (by omega) (by omega)) (And.intro hi ⟨rfl, hI⟩)
  · obtain ⟨⟨rfl, rfl, rfl, rfl, rfl, rfl⟩, hcfg, hr, hlst, hPB, hT0, hSY, ⟨hid, hlk⟩, hAP, ⟨hPE, hDL, hDH, hDP⟩⟩ := hD
    have h0 := zi_r hr hcfg.2.2.2.2.2
    exact br_f (by decide) (br_f h0.2.1 ⟨rfl, hI⟩)
theorem i_vc_laneInfo {k : Nat} {u : SX} {v : SY} (I : i_Rel k u v) (hk : k + 4 ≤ 2051) (v1 : Int32) (v2 : Int32) : wpX_laneInfo (fun r => wpY_laneInfo (fun r' => r' = r ∧ i_Rel (k + 4) u v) v v1 v2) u v1 v2 := by
  refine zz_el (P := fun u v => wpX_laneInfo (fun r => wpY_laneInfo (fun r' => r' = r ∧ i_Rel (k + 4) u v) v v1 v2) u v1 v2) ?_ I
  intro fc fs fl pe lk dn rl lf cur sta lst me ms sb ow cS cU cH ha ct tk ll en ob ss sz hs hz kn fi se nS nZ oS oZ hr0
  have hI : i_Rel (k + 4) (fc, fs, fl, pe, lk, dn, rl, cur, sta, lst, me, ms, sb, ow, cS, cU, cH, ha, ct, tk, ll, en, ob) (fc, fs, fl, lf, cur, sta, lst, ss, sz, hs, hz, ct, tk, kn, fi, se, nS, nZ, oS, oZ) := zz_mk hr0
  rcases hr0 with ⟨C, S, L, B, cd, n, p, kd, fa, fb, va, vb, hU⟩ | ⟨C, S, L, r, T, n, st, kd, fa, fb, va, vb, hD⟩
  · obtain ⟨⟨rfl, rfl, rfl, rfl, rfl⟩, hcfg, hlst, hPB, hIX, hLN, ⟨hSY, hSX⟩, ⟨hHX, hHY⟩, hCD, ⟨hAP, hAX, hAY⟩, ⟨hKE, hOX, hOY⟩, ⟨hLU, hLX⟩, ⟨hPE, hPL, hPH⟩⟩ := hU
    have hC := hcfg.2.1
    have hS := hcfg.2.2.2.1
    have hL := hcfg.2.2.2.2.2
    refine br_t rfl ?_
    rcases pk_ix v1 (n := L) (by omega) with hb | hb | ⟨l, h1, rfl⟩
    · exact zx_bL1 (Or.inl hb) (br_f (by decide) (br_t (by decide) (zy_bL1 (Or.inl hb) (br_f (by decide) ⟨rfl, hI⟩))))
    · exact zx_bL1 (Or.inr hb) (br_f (by decide) (br_t (by decide) (zy_bL1 (Or.inr hb) (br_f (by decide) ⟨rfl, hI⟩))))
    · have hi : vp_in (nI l) 4 := vp_in_nI (by omega) (by omega)
      have hc : (nI l).toNatClampNeg = l := nI_clamp (by omega)
      obtain ⟨n1, n2, n3, n4, n5, n6⟩ := hLN l (by omega)
      refine zx_bL0 h1 (by omega) (br_t rfl ?_)
      rcases zi_cl v2 (N := 6) (by omega) with hng | ⟨hng, hng2, _⟩ | ⟨j, hj, rfl⟩
      · exact br_t hng (br_t (by decide) (zy_bL0 h1 (by omega) (br_t rfl (br_t hng ⟨rfl, hI⟩))))
      · have h5 := zi_gt (N := 5) (by omega) hng2
        exact br_f hng (br_f h5 (br_t (by decide) (zy_bL0 h1 (by omega) (br_t rfl (br_f hng (br_f h5 ⟨rfl, hI⟩))))))
      · have hng : ¬ nI j < 0 := nI_pos (by omega)
        have h5 : nI j ≤ 5 := nI_le (b := 5) (by omega) (by omega)
        refine br_f hng (br_t h5 ?_)
        have yy : ∀ {A : Prop}, A → A := fun a => a
        refine pk_eq j 3 (fun e => And.intro hi ?_) (fun e3 => ?_)
        · subst e
          exact br_t (by decide) (zy_bL0 h1 (by omega) (br_t rfl (br_f hng (br_t h5 (br_t rfl (And.intro hi ⟨rfl, hI⟩))))))
        · have q3 : ¬ nI j = 3 := fun e => e3 ((nI_eq (b := 3) (by omega) (by omega)).mp e)
          refine pk_eq j 4 (fun e => And.intro hi ?_) (fun e4 => ?_)
          · subst e
            exact br_t (by decide) (zy_bL0 h1 (by omega) (br_t rfl (br_f hng (br_t h5 (br_f q3 (br_t rfl (And.intro hi ⟨rfl, hI⟩)))))))
          · have q4 : ¬ nI j = 4 := fun e => e4 ((nI_eq (b := 4) (by omega) (by omega)).mp e)
            refine pk_eq j 5 (fun e => And.intro hi ?_) (fun e5 => And.intro hi ?_)
            · subst e
              obtain ⟨y1, y2⟩ := (hHY l (by omega)).1
              rw [hc, hHX l (by omega)]
              rcases hPB.1 (28 + l) (by omega) with e | e
              · rw [e] at y1
                refine br_t (by rw [e]; rfl) (br_t (by decide) (zy_bL0 h1 (by omega) (br_t rfl (br_f hng (br_t h5 (br_f q3 (br_f q4 (br_t rfl (And.intro hi ?_)))))))))
                rw [hc, y1]
                exact br_t rfl ⟨rfl, hI⟩
              · have el := za_wf_lt hC e
                refine br_f (nI_ne0 (by omega) (by omega)) (And.intro hi (br_t (by decide) (zy_bL0 h1 (by omega) (br_t rfl (br_f hng (br_t h5 (br_f q3 (br_f q4 (br_t rfl (And.intro hi ?_))))))))))
                rw [hc, y1, y2 el.2.1, zn_hi (by omega)]
                exact br_f (nI_ne0 (by omega) (by omega)) (And.intro hi ⟨rfl, hI⟩)
            · have q5 : ¬ nI j = 5 := fun e => e5 ((nI_eq (b := 5) (by omega) (by omega)).mp e)
              rw [hc, n1]
              refine pk_le (n l) j (fun hle => ?_) (fun hlt => ?_)
              · refine br_t (by decide) (zy_bL0 h1 (by omega) (br_t rfl (br_f hng (br_t h5 (br_f q3 (br_f q4 (br_f q5 (And.intro hi ?_))))))))
                rw [hc, n1]
                exact pk_lt j (n l) (fun z => absurd z (by omega)) (fun _ => ⟨rfl, hI⟩)
              · obtain ⟨b1, b2, b3, b4, b5, b6, b7, b8, b9⟩ := hAP l (by omega) j hlt
                obtain ⟨a1, a2, a3, a4⟩ := hAY l (by omega) j hlt
                have ok : ze_ok (kd l j) (fa l j) (fb l j) (va l j) (vb l j) := ⟨by omega, by omega, by omega, b8, b9⟩
                rw [zn_4, nI_add]
                refine And.intro (vp_in_nI (by omega) (by omega)) ?_
                rw [nI_clamp (by omega), hAX l (by omega) j hlt, ze_c ok]
                refine br_t (by decide) (zy_bL0 h1 (by omega) (br_t rfl (br_f hng (br_t h5 (br_f q3 (br_f q4 (br_f q5 (And.intro hi ?_))))))))
                rw [hc, n1]
                refine pk_lt j (n l) (fun _ => ?_) (fun z => absurd z (by omega))
                have ex : (3 : Int32) * nI l + nI j = nI (3 * l + j) := by rw [zn_3, nI_add]
                have hi12 : vp_in (nI (3 * l + j)) 12 := vp_in_nI (by omega) (by omega)
                refine nm_r ex (And.intro hi12 (And.intro hi12 (And.intro hi12 ?_)))
                rw [nI_clamp (by omega), a1, a2, a3]
                refine ⟨?_, hI⟩
                rw [zn_16, show (256 : Int32) * nI (kd l j) = nI (256 * kd l j) from pk_mul 256 _, nI_add, nI_add]
  · obtain ⟨⟨rfl, rfl, rfl, rfl, rfl, rfl⟩, hcfg, hr, hlst, hPB, hT0, hSY, ⟨hid, hlk⟩, hAP, ⟨hPE, hDL, hDH, hDP⟩⟩ := hD
    have h0 := zi_r hr hcfg.2.2.2.2.2
    exact br_f (by decide) (br_f h0.2.1 ⟨rfl, hI⟩)
theorem zr_cdlt {fc fs fl pe lk dn rl lf : Int32} {cur sta lst sb ow cS cU cH ha ct tk ll ob ss sz hs hz kn fi se nS nZ oS oZ : Nat → Int32} {me ms en : Nat → Int64} {C S L : Nat} {B cd n p : Nat → Nat} {kd fa fb va vb : Nat → Nat → Nat} (h : zr_U C S L B cd n p kd fa fb va vb fc fs fl pe lk dn rl lf cur sta lst me ms sb ow cS cU cH ha ct tk ll en ob ss sz hs hz kn fi se nS nZ oS oZ) {κ : Nat} (hκ : κ < 44) (hB : B κ ≠ 0) : cd κ < 128 := by
  obtain ⟨_, hcfg, _, hPB, _, hLN, _, _, ⟨d1, d2, d3⟩, ⟨hAP, _, hAY⟩, ⟨hKE, _, _⟩, _, _⟩ := h
  have hS := hcfg.2.2.2.1
  by_cases h1 : κ < 16
  · rw [d1 κ h1]; omega
  · by_cases h2 : κ < 28
    · have e : κ = 16 + 3 * ((κ - 16) / 3) + (κ - 16) % 3 := by omega
      obtain ⟨k1, k2, k3, k4, k5, k6⟩ := hKE ((κ - 16) / 3) (by omega) ((κ - 16) % 3) (by omega)
      have hn : (κ - 16) % 3 < n ((κ - 16) / 3) := by
        by_cases z : (κ - 16) % 3 < n ((κ - 16) / 3)
        · exact z
        · exact absurd (by rw [e]; exact k4 (fun y => z y.1)) hB
      rw [← e] at k6
      rw [k6 hn]
      have := (hAP ((κ - 16) / 3) (by omega) _ hn).2.2.1
      omega
    · by_cases h3 : κ < 32
      · have e : κ = 28 + (κ - 28) := by omega
        rw [e, d2 _ (by omega)]; omega
      · have e : κ = 32 + 3 * ((κ - 32) / 3) + (κ - 32) % 3 := by omega
        have := d3 ((κ - 32) / 3) (by omega) ((κ - 32) % 3) (by omega)
        rw [← e] at this
        rw [this]; omega
theorem i_vc_blockAt {k : Nat} {u : SX} {v : SY} (I : i_Rel k u v) (hk : k + 4 ≤ 2051) (v1 : Int32) (v2 : Int32) : wpX_blockAt (fun r => wpY_blockAt (fun r' => r' = r ∧ i_Rel (k + 4) u v) v v1 v2) u v1 v2 := by
  refine zz_el (P := fun u v => wpX_blockAt (fun r => wpY_blockAt (fun r' => r' = r ∧ i_Rel (k + 4) u v) v v1 v2) u v1 v2) ?_ I
  intro fc fs fl pe lk dn rl lf cur sta lst me ms sb ow cS cU cH ha ct tk ll en ob ss sz hs hz kn fi se nS nZ oS oZ hr0
  have hI : i_Rel (k + 4) (fc, fs, fl, pe, lk, dn, rl, cur, sta, lst, me, ms, sb, ow, cS, cU, cH, ha, ct, tk, ll, en, ob) (fc, fs, fl, lf, cur, sta, lst, ss, sz, hs, hz, ct, tk, kn, fi, se, nS, nZ, oS, oZ) := zz_mk hr0
  rcases hr0 with ⟨C, S, L, B, cd, n, p, kd, fa, fb, va, vb, hU⟩ | ⟨C, S, L, r, T, n, st, kd, fa, fb, va, vb, hD⟩
  · have hA := zr_ab_of hU
    obtain ⟨⟨rfl, rfl, rfl, rfl, rfl⟩, hcfg, hlst, hPB, hIX, hLN, ⟨hSY, hSX⟩, ⟨hHX, hHY⟩, hCD, ⟨hAP, hAX, hAY⟩, ⟨hKE, hOX, hOY⟩, ⟨hLU, hLX⟩, ⟨hPE, hPL, hPH⟩⟩ := hU
    have hC := hcfg.2.1
    refine br_t rfl ?_
    rcases pk_ix v1 (n := 8 * C) (by omega) with hb | hb | ⟨w, hw, rfl⟩
    · exact zx_bW1 (Or.inl hb) (br_f (by decide) (br_t (by decide) (zy_bW1 (Or.inl hb) (br_f (by decide) ⟨rfl, hI⟩))))
    · exact zx_bW1 (Or.inr hb) (br_f (by decide) (br_t (by decide) (zy_bW1 (Or.inr hb) (br_f (by decide) ⟨rfl, hI⟩))))
    · refine zx_bW0 hw hC (br_t rfl ?_)
      rcases zi_cl v2 (N := 4) (by omega) with hng | ⟨hng, hng2, _⟩ | ⟨j, hj, rfl⟩
      · exact br_t hng (br_t (by decide) (zy_bW0 hw hC (br_t rfl (br_t hng ⟨rfl, hI⟩))))
      · have h5 := zi_gt (N := 3) (by omega) hng2
        exact br_f hng (br_f h5 (br_t (by decide) (zy_bW0 hw hC (br_t rfl (br_f hng (br_f h5 ⟨rfl, hI⟩))))))
      · have hng : ¬ nI j < 0 := nI_pos (by omega)
        have h5 : nI j ≤ 3 := nI_le (b := 3) (by omega) (by omega)
        have e4 : nI w >>> ((2 : Int32) &&& 31) = nI (w / 4) := pk_shrN (by omega) _ 2 (by decide)
        have d4 : nI w / 4 = nI (w / 4) := pk_div (d := 4) (by omega) (by omega) (by omega)
        have hi32 : vp_in (nI (w / 4)) 32 := vp_in_nI (by omega) (by omega)
        refine br_f hng (br_t h5 ?_)
        refine pk_eq j 3 (fun e => ?_) (fun e3 => ?_)
        · subst e
          rw [e4]
          refine And.intro hi32 (br_t (by decide) (zy_bW0 hw hC (br_t rfl (br_f hng (br_t h5 (br_t rfl (And.intro (by decide) ?_)))))))
          rw [d4]
          exact And.intro hi32 ⟨rfl, hI⟩
        · have q3 : ¬ nI j = 3 := fun e => e3 ((nI_eq (b := 3) (by omega) (by omega)).mp e)
          refine zx_cov hC hPB hIX (by omega) (fun κ hκ c => ?_) (fun hn => ?_)
          · have hB : B κ ≠ 0 := fun e => by rw [e] at c; exact za_c0 c
            have el := za_wf_lt hC ((hPB.1 κ hκ).resolve_left hB)
            have fin : ∀ x : Int32, x = nI (zr_pv B cd j κ) → wpY_blockAt (fun r' => r' = x ∧ i_Rel (k + 4) (nI C, nI S, nI L, pe, lk, 0, rl, cur, sta, lst, me, ms, sb, ow, cS, cU, cH, ha, ct, tk, ll, en, ob) (nI C, nI S, nI L, 0, cur, sta, lst, ss, sz, hs, hz, ct, tk, kn, fi, se, nS, nZ, oS, oZ)) (nI C, nI S, nI L, 0, cur, sta, lst, ss, sz, hs, hz, ct, tk, kn, fi, se, nS, nZ, oS, oZ) (nI w) (nI j) := by
              intro x hx
              refine br_t (by decide) (zy_bW0 hw hC (br_t rfl (br_f hng (br_t h5 (br_f q3 ?_)))))
              refine zy_about hA (by omega) (by omega) (fun κ' hκ' c' => ?_) (fun hn => absurd c (hn κ hκ))
              rw [hPB.2.1 κ' κ w hκ' hκ c' c]
              exact ⟨hx.symm, hI⟩
            refine pk_eq j 1 (fun e => ?_) (fun e1 => ?_)
            · refine fin _ ?_
              rw [zn_lo (by omega), e]; rfl
            · refine br_f (nI_ne0 (by omega) (by omega)) ?_
              rw [zn_hi (by omega), nI_clamp (by omega)]
              refine pk_eq j 0 (fun e => And.intro (vp_in_nI el.2.2.1 (by omega)) (fin _ ?_)) (fun e0 => fin _ ?_)
              · rw [hIX.2.2.2 κ hκ hB, e]; rfl
              · unfold zr_pv; rw [if_neg e0, if_neg e1]
          · have fin : ∀ x : Int32, x = (if j = 1 then 0 else (-10)) → wpY_blockAt (fun r' => r' = x ∧ i_Rel (k + 4) (nI C, nI S, nI L, pe, lk, 0, rl, cur, sta, lst, me, ms, sb, ow, cS, cU, cH, ha, ct, tk, ll, en, ob) (nI C, nI S, nI L, 0, cur, sta, lst, ss, sz, hs, hz, ct, tk, kn, fi, se, nS, nZ, oS, oZ)) (nI C, nI S, nI L, 0, cur, sta, lst, ss, sz, hs, hz, ct, tk, kn, fi, se, nS, nZ, oS, oZ) (nI w) (nI j) := by
              intro x hx
              refine br_t (by decide) (zy_bW0 hw hC (br_t rfl (br_f hng (br_t h5 (br_f q3 ?_)))))
              refine zy_about hA (by omega) (by omega) (fun κ' hκ' c' => absurd c' (hn κ' hκ')) (fun _ => ?_)
              exact ⟨hx.symm, hI⟩
            refine pk_eq j 1 (fun e => fin _ ?_) (fun e1 => br_t rfl (fin _ ?_))
            · rw [if_pos e]; rfl
            · rw [if_neg e1]
  · obtain ⟨⟨rfl, rfl, rfl, rfl, rfl, rfl⟩, hcfg, hr, hlst, hPB, hT0, hSY, ⟨hid, hlk⟩, hAP, ⟨hPE, hDL, hDH, hDP⟩⟩ := hD
    have h0 := zi_r hr hcfg.2.2.2.2.2
    exact br_f (by decide) (br_f h0.2.1 ⟨rfl, hI⟩)
end
section
/-! write, writeBack, fence -/
theorem i_vc_writeBack {k : Nat} {u : SX} {v : SY} (I : i_Rel k u v) (hk : k + 4 ≤ 2051) (v1 : Int32) : wpX_writeBack (fun r u' => wpY_writeBack (fun r' v' => r' = r ∧ i_Rel (k + 4) u' v') v v1) u v1 := by
  refine zz_el (P := fun u v => wpX_writeBack (fun r u' => wpY_writeBack (fun r' v' => r' = r ∧ i_Rel (k + 4) u' v') v v1) u v1) ?_ I
  intro fc fs fl pe lk dn rl lf cur sta lst me ms sb ow cS cU cH ha ct tk ll en ob ss sz hs hz kn fi se nS nZ oS oZ hr0
  have hI : i_Rel (k + 4) (fc, fs, fl, pe, lk, dn, rl, cur, sta, lst, me, ms, sb, ow, cS, cU, cH, ha, ct, tk, ll, en, ob) (fc, fs, fl, lf, cur, sta, lst, ss, sz, hs, hz, ct, tk, kn, fi, se, nS, nZ, oS, oZ) := zz_mk hr0
  rcases hr0 with ⟨C, S, L, B, cd, n, p, kd, fa, fb, va, vb, hU⟩ | ⟨C, S, L, r, T, n, st, kd, fa, fb, va, vb, hD⟩
  · obtain ⟨⟨rfl, rfl, rfl, rfl, rfl⟩, hcfg, hlst, hPB, hIX, hLN, ⟨hSY, hSX⟩, ⟨hHX, hHY⟩, hCD, ⟨hAP, hAX, hAY⟩, ⟨hKE, hOX, hOY⟩, ⟨hLU, hLX⟩, ⟨hPE, hPL, hPH⟩⟩ := hU
    have hC := hcfg.2.1
    refine br_t rfl ?_
    rcases zi_cl v1 (N := 2 * C) (by omega) with hng | ⟨hng, hng2, hng3⟩ | ⟨j, hj, rfl⟩
    · exact br_t hng (br_t (by decide) (br_t hng ⟨rfl, hI⟩))
    · rw [← zn_2] at hng3
      exact br_f hng (br_f hng3 (br_t (by decide) (br_f hng (br_f hng3 ⟨rfl, hI⟩))))
    · have hng : ¬ nI j < 0 := nI_pos (by omega)
      have h2 : nI j < 2 * nI C := by rw [zn_2]; exact nI_lt hj (by omega)
      have hi : vp_in (nI j) 32 := vp_in_nI (by omega) (by omega)
      have hc : (nI j).toNatClampNeg = j := nI_clamp (by omega)
      refine br_f hng (br_t h2 (And.intro hi ?_))
      rw [hc]
      refine br_c (fun h1 => And.intro hi (nm_e (And.intro hi (br_t (by decide) (br_f hng (br_t h2 (And.intro hi ?_))))))) (fun h1 => And.intro hi (br_t (by decide) (br_f hng (br_t h2 (And.intro hi ?_)))))
      · rw [hc]
        refine br_t h1 (And.intro hi (nm_e (And.intro hi ⟨rfl, ?_⟩)))
        refine zz_mk (Or.inl ⟨C, S, L, B, cd, n, p, kd, fa, fb, va, vb, ⟨rfl, rfl, rfl, rfl, rfl⟩, hcfg, fun i a b => ?_, hPB, hIX, hLN, ⟨hSY, hSX⟩, ⟨hHX, hHY⟩, hCD, ⟨hAP, hAX, hAY⟩, ⟨hKE, hOX, hOY⟩, ⟨hLU, hLX⟩, hPE, hPL, hPH⟩)
        rw [pk_un (by omega)]; exact hlst i a b
      · rw [hc]
        exact br_f h1 (And.intro hi ⟨rfl, hI⟩)
  · obtain ⟨⟨rfl, rfl, rfl, rfl, rfl, rfl⟩, hcfg, hr, hlst, hPB, hT0, hSY, ⟨hid, hlk⟩, hAP, ⟨hPE, hDL, hDH, hDP⟩⟩ := hD
    have h0 := zi_r hr hcfg.2.2.2.2.2
    exact br_f (by decide) (br_f h0.2.1 ⟨rfl, hI⟩)
theorem i_vc_write {k : Nat} {u : SX} {v : SY} (I : i_Rel k u v) (hk : k + 4 ≤ 2051) (v1 : Int32) (v2 : Int32) : wpX_write (fun r u' => wpY_write (fun r' v' => r' = r ∧ i_Rel (k + 4) u' v') v v1 v2) u v1 v2 := by
  refine zz_el (P := fun u v => wpX_write (fun r u' => wpY_write (fun r' v' => r' = r ∧ i_Rel (k + 4) u' v') v v1 v2) u v1 v2) ?_ I
  intro fc fs fl pe lk dn rl lf cur sta lst me ms sb ow cS cU cH ha ct tk ll en ob ss sz hs hz kn fi se nS nZ oS oZ hr0
  have hI : i_Rel (k + 4) (fc, fs, fl, pe, lk, dn, rl, cur, sta, lst, me, ms, sb, ow, cS, cU, cH, ha, ct, tk, ll, en, ob) (fc, fs, fl, lf, cur, sta, lst, ss, sz, hs, hz, ct, tk, kn, fi, se, nS, nZ, oS, oZ) := zz_mk hr0
  rcases hr0 with ⟨C, S, L, B, cd, n, p, kd, fa, fb, va, vb, hU⟩ | ⟨C, S, L, r, T, n, st, kd, fa, fb, va, vb, hD⟩
  · have hA := zr_ab_of hU
    have hcl := fun κ hκ hB => zr_cdlt hU (κ := κ) hκ hB
    obtain ⟨⟨rfl, rfl, rfl, rfl, rfl⟩, hcfg, hlst, hPB, hIX, hLN, ⟨hSY, hSX⟩, ⟨hHX, hHY⟩, hCD, ⟨hAP, hAX, hAY⟩, ⟨hKE, hOX, hOY⟩, ⟨hLU, hLX⟩, ⟨hPE, hPL, hPH⟩⟩ := hU
    have hC := hcfg.2.1
    refine br_t rfl ?_
    rcases pk_ix v1 (n := 8 * C) (by omega) with hb | hb | ⟨w, hw, rfl⟩
    · exact zx_bW1 (Or.inl hb) (br_f (by decide) (br_t (by decide) (zy_bW1 (Or.inl hb) (br_f (by decide) ⟨rfl, hI⟩))))
    · exact zx_bW1 (Or.inr hb) (br_f (by decide) (br_t (by decide) (zy_bW1 (Or.inr hb) (br_f (by decide) ⟨rfl, hI⟩))))
    · refine zx_bW0 hw hC (br_t rfl ?_)
      have e4 : nI w >>> ((2 : Int32) &&& 31) = nI (w / 4) := pk_shrN (by omega) _ 2 (by decide)
      have d4 : nI w / 4 = nI (w / 4) := pk_div (d := 4) (by omega) (by omega) (by omega)
      have hi32 : vp_in (nI (w / 4)) 32 := vp_in_nI (by omega) (by omega)
      have hi128 : vp_in (nI w) 128 := vp_in_nI (by omega) (by omega)
      refine zx_cov hC hPB hIX (by omega) (fun κ hκ c => ?_) (fun hn => ?_)
      · have hB : B κ ≠ 0 := fun e => by rw [e] at c; exact za_c0 c
        have el := za_wf_lt hC ((hPB.1 κ hκ).resolve_left hB)
        have hcd := hcl κ hκ hB
        refine br_f (nI_ne0 (by omega) (by omega)) ?_
        rw [zn_hi (by omega), nI_clamp (by omega), hIX.2.2.2 κ hκ hB]
        refine And.intro (vp_in_nI el.2.2.1 (by omega)) ?_
        have n10 : ¬ nI (cd κ) = -10 := by
          intro e
          have := congrArg Int32.toInt e
          rw [nI_toInt (by omega), show ((-10 : Int32)).toInt = -10 by decide] at this
          omega
        refine pk_lt (cd κ) 96 (fun h96 => And.intro hi128 ?_) (fun h96 => ?_)
        · refine nm_e ?_
          rw [e4]
          refine And.intro hi32 (nm_e (br_t (by decide) (zy_bW0 hw hC (br_t rfl ?_))))
          refine zy_about (what := 0) hA (by omega) (by omega) (fun κ' hκ' c' => ?_) (fun hn => absurd c (hn κ hκ))
          rw [hPB.2.1 κ' κ w hκ' hκ c' c]
          refine br_f n10 (br_t (nI_lt (b := 96) h96 (by omega)) (And.intro hi128 (nm_e (And.intro (by decide) ?_))))
          rw [d4]
          refine And.intro hi32 (nm_e ⟨rfl, ?_⟩)
          refine zz_mk (Or.inl ⟨C, S, L, B, cd, n, p, kd, fa, fb, va, vb, ⟨rfl, rfl, rfl, rfl, rfl⟩, hcfg, fun i a b => ?_, hPB, hIX, hLN, ⟨hSY, hSX⟩, ⟨hHX, hHY⟩, hCD, ⟨hAP, hAX, hAY⟩, ⟨hKE, hOX, hOY⟩, ⟨hLU, hLX⟩, hPE, hPL, hPH⟩)
          rw [nI_clamp (by omega), pk_un (by omega)]; exact hlst i a b
        · refine br_t (by decide) (zy_bW0 hw hC (br_t rfl ?_))
          refine zy_about (what := 0) hA (by omega) (by omega) (fun κ' hκ' c' => ?_) (fun hn => absurd c (hn κ hκ))
          rw [hPB.2.1 κ' κ w hκ' hκ c' c]
          exact br_f n10 (br_f (nI_nlt (a := cd κ) (b := 96) h96 (by omega)) ⟨rfl, hI⟩)
      · refine br_t rfl (br_t (by decide) (zy_bW0 hw hC (br_t rfl ?_)))
        refine zy_about (what := 0) hA (by omega) (by omega) (fun κ' hκ' c' => absurd c' (hn κ' hκ')) (fun _ => ?_)
        exact br_t rfl ⟨rfl, hI⟩
  · obtain ⟨⟨rfl, rfl, rfl, rfl, rfl, rfl⟩, hcfg, hr, hlst, hPB, hT0, hSY, ⟨hid, hlk⟩, hAP, ⟨hPE, hDL, hDH, hDP⟩⟩ := hD
    have h0 := zi_r hr hcfg.2.2.2.2.2
    exact br_f (by decide) (br_f h0.2.1 ⟨rfl, hI⟩)
section
variable {fc fs fl pe lk dn rl lf : Int32} {cur sta lst sb ow cS cU cH ha ct tk ll ob ss sz hs hz kn fi se nS nZ oS oZ : Nat → Int32} {me ms en : Nat → Int64} {C : Nat}
theorem zf_l (hC : C ≤ 16) : ∀ (d i : Nat) (c : Int32) (cur sta lst : Nat → Int32), i + d = 2 * C → ∃ (r : Int32) (cur' sta' lst' : Nat → Int32), (∀ j, 2 * C ≤ j → lst' j = lst j) ∧
    (∀ (post : Int32 → SX → Prop) m, d < m → post r (nI C, fs, fl, pe, lk, dn, rl, cur', sta', lst', me, ms, sb, ow, cS, cU, cH, ha, ct, tk, ll, en, ob) → wX_fence_13 post m c (nI i) (nI C) fs fl pe lk dn rl cur sta lst me ms sb ow cS cU cH ha ct tk ll en ob) ∧
    (∀ (post : Int32 → SY → Prop) m, d < m → post r (nI C, fs, fl, lf, cur', sta', lst', ss, sz, hs, hz, ct, tk, kn, fi, se, nS, nZ, oS, oZ) → wY_fence_13 post m c (nI i) (nI C) fs fl lf cur sta lst ss sz hs hz ct tk kn fi se nS nZ oS oZ) := by
  intro d
  induction d with
  | zero =>
    intro i c cur sta lst hi
    refine ⟨c, cur, sta, lst, fun _ _ => rfl, fun post m hm hp => ?_, fun post m hm hp => ?_⟩
    · obtain ⟨m, rfl⟩ : ∃ m', m = m' + 1 := ⟨m - 1, by omega⟩
      exact pk_le (2 * C) i (fun _ => hp) (fun z => absurd z (by omega)) (zn_2 C)
    · obtain ⟨m, rfl⟩ : ∃ m', m = m' + 1 := ⟨m - 1, by omega⟩
      exact pk_le (2 * C) i (fun _ => hp) (fun z => absurd z (by omega)) (zn_2 C)
  | succ d ih =>
    intro i c cur sta lst hi
    have hin : vp_in (nI i) 32 := vp_in_nI (by omega) (by omega)
    have hc : (nI i).toNatClampNeg = i := nI_clamp (by omega)
    by_cases z : lst i = 2
    · obtain ⟨r, cur', sta', lst', h1, h2, h3⟩ := ih (i + 1) (c + 1) (zs_c 1 i (4 * i + 4) cur sta) (zs_s 1 i (4 * i + 4) cur sta) (upd lst i 0) (by omega)
      refine ⟨r, cur', sta', lst', fun j hj => ?_, fun post m hm hp => ?_, fun post m hm hp => ?_⟩
      · rw [h1 j hj, pk_un (by omega)]
      · obtain ⟨m, rfl⟩ : ∃ m', m = m' + 1 := ⟨m - 1, by omega⟩
        refine pk_le (2 * C) i (fun y => absurd y (by omega)) (fun _ => And.intro hin ?_) (zn_2 C)
        rw [hc]
        refine br_t z (zx_settle (by omega) (nm_e (nm_r (nI_1 i) (h2 post m (by omega) hp))))
      · obtain ⟨m, rfl⟩ : ∃ m', m = m' + 1 := ⟨m - 1, by omega⟩
        refine pk_le (2 * C) i (fun y => absurd y (by omega)) (fun _ => And.intro hin ?_) (zn_2 C)
        rw [hc]
        refine br_t z (zy_settle (by omega) (nm_e (nm_r (nI_1 i) (h3 post m (by omega) hp))))
    · obtain ⟨r, cur', sta', lst', h1, h2, h3⟩ := ih (i + 1) c cur sta lst (by omega)
      refine ⟨r, cur', sta', lst', h1, fun post m hm hp => ?_, fun post m hm hp => ?_⟩
      · obtain ⟨m, rfl⟩ : ∃ m', m = m' + 1 := ⟨m - 1, by omega⟩
        refine pk_le (2 * C) i (fun y => absurd y (by omega)) (fun _ => And.intro hin ?_) (zn_2 C)
        rw [hc]
        exact br_f z (nm_r (nI_1 i) (h2 post m (by omega) hp))
      · obtain ⟨m, rfl⟩ : ∃ m', m = m' + 1 := ⟨m - 1, by omega⟩
        refine pk_le (2 * C) i (fun y => absurd y (by omega)) (fun _ => And.intro hin ?_) (zn_2 C)
        rw [hc]
        exact br_f z (nm_r (nI_1 i) (h3 post m (by omega) hp))
end
theorem i_vc_fence {k : Nat} {u : SX} {v : SY} (I : i_Rel k u v) (hk : k + 4 ≤ 2051) : wpX_fence (fun r u' => wpY_fence (fun r' v' => r' = r ∧ i_Rel (k + 4) u' v') v) u := by
  refine zz_el (P := fun u v => wpX_fence (fun r u' => wpY_fence (fun r' v' => r' = r ∧ i_Rel (k + 4) u' v') v) u) ?_ I
  intro fc fs fl pe lk dn rl lf cur sta lst me ms sb ow cS cU cH ha ct tk ll en ob ss sz hs hz kn fi se nS nZ oS oZ hr0
  have hI : i_Rel (k + 4) (fc, fs, fl, pe, lk, dn, rl, cur, sta, lst, me, ms, sb, ow, cS, cU, cH, ha, ct, tk, ll, en, ob) (fc, fs, fl, lf, cur, sta, lst, ss, sz, hs, hz, ct, tk, kn, fi, se, nS, nZ, oS, oZ) := zz_mk hr0
  rcases hr0 with ⟨C, S, L, B, cd, n, p, kd, fa, fb, va, vb, hU⟩ | ⟨C, S, L, r, T, n, st, kd, fa, fb, va, vb, hD⟩
  · obtain ⟨⟨rfl, rfl, rfl, rfl, rfl⟩, hcfg, hlst, hPB, hIX, hLN, ⟨hSY, hSX⟩, ⟨hHX, hHY⟩, hCD, ⟨hAP, hAX, hAY⟩, ⟨hKE, hOX, hOY⟩, ⟨hLU, hLX⟩, ⟨hPE, hPL, hPH⟩⟩ := hU
    have hC := hcfg.2.1
    obtain ⟨r, cur', sta', lst', h1, h2, h3⟩ := zf_l (fs := nI S) (fl := nI L) (pe := pe) (lk := lk) (dn := 0) (rl := rl) (lf := 0) (sb := sb) (ow := ow) (cS := cS) (cU := cU) (cH := cH) (ha := ha) (ct := ct) (tk := tk) (ll := ll) (ob := ob) (ss := ss) (sz := sz) (hs := hs) (hz := hz) (kn := kn) (fi := fi) (se := se) (nS := nS) (nZ := nZ) (oS := oS) (oZ := oZ) (me := me) (ms := ms) (en := en) hC (2 * C) 0 0 cur sta lst (by omega)
    refine br_t rfl (Exists.intro 33 (h2 _ 33 (by omega) (br_t (by decide) (Exists.intro 33 (h3 _ 33 (by omega) ⟨rfl, ?_⟩)))))
    refine zz_mk (Or.inl ⟨C, S, L, B, cd, n, p, kd, fa, fb, va, vb, ⟨rfl, rfl, rfl, rfl, rfl⟩, hcfg, fun i a b => ?_, hPB, hIX, hLN, ⟨hSY, hSX⟩, ⟨hHX, hHY⟩, hCD, ⟨hAP, hAX, hAY⟩, ⟨hKE, hOX, hOY⟩, ⟨hLU, hLX⟩, hPE, hPL, hPH⟩)
    rw [h1 i a]; exact hlst i a b
  · obtain ⟨⟨rfl, rfl, rfl, rfl, rfl, rfl⟩, hcfg, hr, hlst, hPB, hT0, hSY, ⟨hid, hlk⟩, hAP, ⟨hPE, hDL, hDH, hDP⟩⟩ := hD
    have h0 := zi_r hr hcfg.2.2.2.2.2
    exact br_f (by decide) (br_f h0.2.1 ⟨rfl, hI⟩)
end
section
/-! the idle pool, the constructors -/
def zr_cd0 : Nat → Nat := fun κ => if κ < 16 then κ else if κ < 28 then 0 else if κ < 32 then 64 + (κ - 28) else 96 + (κ - 32) / 3
theorem zr_CD0 : zr_CD zr_cd0 := by
  refine ⟨fun s h => ?_, fun l h => ?_, fun l h i hi => ?_⟩
  · unfold zr_cd0; rw [if_pos h]
  · unfold zr_cd0; rw [if_neg (by omega), if_neg (by omega), if_pos (by omega)]; omega
  · unfold zr_cd0; rw [if_neg (by omega), if_neg (by omega), if_neg (by omega)]; omega
def zr_z2 : Nat → Nat → Nat := fun _ _ => 0
def zr_z1 : Nat → Nat := fun _ => 0
section
variable {fc fs fl pe lk dn rl lf : Int32} {cur sta lst sb ow cS cU cH ha ct tk ll ob ss sz hs hz kn fi se nS nZ oS oZ : Nat → Int32} {me ms en : Nat → Int64}
theorem zr_U0 {C S L : Nat} {B : Nat → Nat} (hcfg : zr_cfg C S L) (hlst : ∀ j, 2 * C ≤ j → j < 32 → lst j = 0)
    (hPB : za_PB C B) (hIX : za_IX B zr_cd0 cU cS cH ow) (hSY : zr_SY S B ss sz) (hSX : zr_SX S B sb) (h0 : ∀ κ, 16 ≤ κ → B κ = 0)
    (hid : ∀ l, l < 4 → ct l = 0 ∧ tk l = 0 ∧ ha l = 0 ∧ hz l = 0 ∧ ll l = 0) (hlk : lk = 0) (hPE : zr_PE pe me ms)
    (hlog : ∀ l, l < 4 → ∀ i, i < 4 → me (16 + 4 * l + i) = 0 ∧ ms (16 + 4 * l + i) = 0)
    (hh : ∀ s, s < 16 → me s = lN (B s) ∧ ms s = lN (B s)) :
    zr_U C S L B zr_cd0 zr_z1 zr_z1 zr_z2 zr_z2 zr_z2 zr_z2 zr_z2 (nI C) (nI S) (nI L) pe lk 0 rl 0 cur sta lst me ms sb ow cS cU cH ha ct tk ll en ob ss sz hs hz kn fi se nS nZ oS oZ := by
  have no : ∀ (l i : Nat), ¬ i < zr_z1 l := fun l i h => by unfold zr_z1 at h; omega
  refine ⟨⟨rfl, rfl, rfl, rfl, rfl⟩, hcfg, hlst, hPB, hIX, fun l hl => ?_, ⟨hSY, hSX⟩, ⟨fun l hl => ?_, fun l hl => ?_⟩, zr_CD0, ⟨fun l hl i hi => absurd hi (no l i), fun l hl i hi => absurd hi (no l i), fun l hl i hi => absurd hi (no l i)⟩,
    ⟨fun l hl i hi => ?_, fun l hl i hi => absurd hi (no l i), fun l hl i hi => absurd hi (no l i)⟩, ⟨fun l l' hl hl' i i' hi => absurd hi (no l i), fun l hl j hj => ?_, fun j hj => ?_⟩, hPE, fun l hl => ?_, fun s hs' _ => hh s hs', fun l hl h1 h2 i hi => absurd hi (no l i)⟩
  · obtain ⟨e1, e2, e3, e4, e5⟩ := hid l hl
    refine ⟨e1, e2, ?_, ?_, fun _ => rfl, fun _ => rfl⟩
    · unfold zr_z1; omega
    · unfold zr_z1; omega
  · rw [h0 (28 + l) (by omega)]; exact (hid l hl).2.2.1
  · rw [h0 (28 + l) (by omega)]
    exact ⟨⟨(hid l hl).2.2.2.1, fun z => absurd rfl z⟩, fun _ => rfl, fun _ => rfl⟩
  · refine ⟨fun z => absurd z (no l i), fun z => absurd z (no l i), fun z => absurd z (no l i), fun _ => h0 _ (by omega), fun _ => h0 _ (by omega), fun z => absurd z (no l i)⟩
  · rw [(hid l hl).2.2.2.2, b_0]
    exact ⟨fun z => absurd z (by decide), fun ⟨i, hi, _⟩ => absurd hi (no l i)⟩
  · rw [hlk, b_0]
    refine ⟨fun z => absurd z (by decide), fun ⟨l, hl, z⟩ => ?_⟩
    rw [(hid l hl).2.2.2.2, b_0] at z; exact absurd z (by decide)
  · refine ⟨fun _ => ⟨fun i hi => (hlog l hl i hi).2, fun i hi => ?_, ?_⟩, fun z => ?_, fun z => ?_, fun z => ?_⟩
    · rw [if_neg (fun z => no l i z.2)]; exact (hlog l hl i (by omega)).1
    · rw [if_neg (fun z => by unfold zr_z1 at z; omega)]; exact (hlog l hl 3 (by omega)).1
    · unfold zr_z1 at z; omega
    · unfold zr_z1 at z; omega
    · unfold zr_z1 at z; omega
end
theorem zc_cl (x : Int32) (a b : Nat) (hab : a ≤ b) (hb : b < 2 ^ 30) : ∃ c, a ≤ c ∧ c ≤ b ∧ ∀ F : Int32 → Prop, F (nI c) → ((nI a ≤ x → ((x ≤ nI b → F x) ∧ (¬ x ≤ nI b → F (nI b)))) ∧ (¬ nI a ≤ x → F (nI a))) := by
  by_cases h1 : nI a ≤ x
  · by_cases h2 : x ≤ nI b
    · have hx : ¬ x < 0 := by
        have := Int32.le_trans (nI_pos' (n := a) (by omega)) h1
        exact Int32.not_lt.mpr this
      obtain ⟨j, hj, rfl⟩ := nI_of hx
      rw [nI_leI (by omega) hj] at h1
      rw [nI_leI hj (by omega)] at h2
      refine ⟨j, h1, h2, fun F hF => ?_⟩
      exact br_t (nI_le h1 hj) (br_t (nI_le h2 (by omega)) hF)
    · exact ⟨b, hab, Nat.le_refl _, fun F hF => br_t h1 (br_f h2 hF)⟩
  · exact ⟨a, Nat.le_refl _, hab, fun F hF => br_f h1 hF⟩
theorem zx_cl {fc fs fl pe lk dn rl : Int32} {cur sta lst sb ow cS cU cH ha ct tk ll ob : Nat → Int32} {me ms en : Nat → Int64} {post : Int32 → Prop} {x y z : Int32} {a b c : Nat} (h : ∀ F : Int32 → Prop, F (nI c) → ((nI a ≤ x → ((x ≤ nI b → F x) ∧ (¬ x ≤ nI b → F (nI b)))) ∧ (¬ nI a ≤ x → F (nI a)))) (hy : y = nI a) (hz : z = nI b) (H : post (nI c)) : wpX_clamp post (fc, fs, fl, pe, lk, dn, rl, cur, sta, lst, me, ms, sb, ow, cS, cU, cH, ha, ct, tk, ll, en, ob) x y z := by
  subst hy; subst hz
  exact h post H
theorem zr_PB0 (C : Nat) : za_PB C (fun _ => 0) :=
  ⟨fun _ _ => Or.inl rfl, fun _ _ _ _ _ c => absurd c za_c0, fun _ _ _ _ _ _ _ c => absurd c za_c0⟩
theorem zr_IX0 (cd : Nat → Nat) (H O : Nat → Int32) {U S : Nat → Int32} (hU : ∀ k, k < 16 → U k = 0 ∧ S k = 0) : za_IX (fun _ => 0) cd U S H O := by
  refine ⟨fun k hk i hi => ?_, fun k hk κ hκ i hi c => absurd c za_c0, fun k hk _ => (hU k hk).2, fun κ hκ z => absurd rfl z⟩
  rw [(hU k hk).1, b_0]
  exact ⟨fun z => absurd z (by decide), fun ⟨_, κ, _, c⟩ => absurd c za_c0⟩
theorem i_vc0 (k0 : Int32) (k1 : Int32) (k2 : Int32) : wpX_init (fun u => wpY_init (fun v => i_Rel 3 u v) k0 k1 k2) k0 k1 k2 := by
  obtain ⟨C, c1, c2, hC⟩ := zc_cl k0 2 16 (by omega) (by omega)
  obtain ⟨S, s1, s2, hS⟩ := zc_cl k1 2 16 (by omega) (by omega)
  obtain ⟨L, l1, l2, hL⟩ := zc_cl k2 1 4 (by omega) (by omega)
  unfold wpX_init
  refine zx_cl hC rfl rfl ?_
  refine zx_cl hS rfl rfl ?_
  refine zx_cl hL rfl rfl ?_
  refine hC (fun q => wY_init_157 _ k1 k2 q 0 0 0 0 (fun _ => 0) (fun _ => 0) (fun _ => 0) (fun _ => 0) (fun _ => 0) (fun _ => 0) (fun _ => 0) (fun _ => 0) (fun _ => 0) (fun _ => 0) (fun _ => 0) (fun _ => 0) (fun _ => 0) (fun _ => 0) (fun _ => 0) (fun _ => 0)) ?_
  refine hS (fun q => wY_init_182 _ k2 q (nI C) 0 0 0 (fun _ => 0) (fun _ => 0) (fun _ => 0) (fun _ => 0) (fun _ => 0) (fun _ => 0) (fun _ => 0) (fun _ => 0) (fun _ => 0) (fun _ => 0) (fun _ => 0) (fun _ => 0) (fun _ => 0) (fun _ => 0) (fun _ => 0) (fun _ => 0)) ?_
  refine hL (fun q => i_Rel 3 _ (nI C, nI S, q, 0, (fun _ => 0), (fun _ => 0), (fun _ => 0), (fun _ => 0), (fun _ => 0), (fun _ => 0), (fun _ => 0), (fun _ => 0), (fun _ => 0), (fun _ => 0), (fun _ => 0), (fun _ => 0), (fun _ => 0), (fun _ => 0), (fun _ => 0), (fun _ => 0))) ?_
  refine zz_mk (Or.inl ⟨C, S, L, (fun _ => 0), zr_cd0, zr_z1, zr_z1, zr_z2, zr_z2, zr_z2, zr_z2, zr_z2, ?_⟩)
  exact zr_U0 ⟨c1, c2, s1, s2, l1, l2⟩ (fun _ _ _ => rfl) (zr_PB0 C) (zr_IX0 _ _ _ (fun _ _ => ⟨rfl, rfl⟩)) (fun s _ => ⟨⟨rfl, fun z => absurd rfl z⟩, fun _ => rfl⟩) (fun _ _ => rfl) (fun _ _ => rfl) (fun _ _ => ⟨rfl, rfl, rfl, rfl, rfl⟩) rfl (fun _ _ _ => rfl) (fun _ _ _ _ => ⟨rfl, rfl⟩) (fun _ _ => ⟨rfl, rfl⟩)
end
section
/-! blocks change hands -/
theorem za_start {C : Nat} {B : Nat → Nat} (P : za_PB C B) {κ κ' : Nat} (hκ : κ < 44) (hκ' : κ' < 44) (ne : κ ≠ κ') (h : B κ ≠ 0) (h' : B κ' ≠ 0) : B κ / 256 ≠ B κ' / 256 := by
  intro e
  have c := za_st ((P.1 κ hκ).resolve_left h)
  have c' := za_st ((P.1 κ' hκ').resolve_left h')
  rw [← e] at c'
  exact ne (P.2.1 κ κ' _ hκ hκ' c c')
theorem za_move {C : Nat} {B cd cd' : Nat → Nat} {U S H O : Nat → Int32} (P : za_PB C B) (X : za_IX B cd U S H O) {κ1 κ2 : Nat} (h1 : κ1 < 44) (h2 : κ2 < 44) (ne : κ1 ≠ κ2) (h0 : B κ2 = 0) (hcd : ∀ κ, κ < 44 → κ ≠ κ2 → cd' κ = cd κ) :
    za_PB C (zu (zu B κ1 0) κ2 (B κ1)) ∧ za_IX (zu (zu B κ1 0) κ2 (B κ1)) cd' U S H (if B κ1 = 0 then O else upd O (B κ1 / 256) (nI (cd' κ2))) := by
  have z2 : zu (zu B κ1 0) κ2 (B κ1) κ2 = B κ1 := zu_s
  have z1 : zu (zu B κ1 0) κ2 (B κ1) κ1 = 0 := by rw [zu_n ne]; exact zu_s
  have zn : ∀ κ, κ ≠ κ1 → κ ≠ κ2 → zu (zu B κ1 0) κ2 (B κ1) κ = B κ := fun κ a b => by rw [zu_n b, zu_n a]
  refine ⟨za_PB_map (fun κ => if κ = κ2 then κ1 else κ) P (fun κ hκ hn => ?_) (fun κ κ' hκ hκ' hn hn' e => ?_), za_IX_map X (fun κ hκ hn => ?_) (fun κ hκ hn => ?_) (fun κ hκ hn => ?_)⟩
  · by_cases a : κ = κ2
    · rw [a, z2, if_pos rfl]; exact ⟨h1, rfl⟩
    · by_cases b : κ = κ1
      · rw [b, z1] at hn; exact absurd rfl hn
      · rw [zn κ b a, if_neg a]; exact ⟨hκ, rfl⟩
  · by_cases a : κ = κ2
    · by_cases a' : κ' = κ2
      · rw [a, a']
      · rw [if_pos a, if_neg a'] at e
        rw [← e, z1] at hn'; exact absurd rfl hn'
    · by_cases a' : κ' = κ2
      · rw [if_neg a, if_pos a'] at e
        rw [e, z1] at hn; exact absurd rfl hn
      · rw [if_neg a, if_neg a'] at e; exact e
  · by_cases a : κ = κ2
    · rw [a, h0] at hn; exact absurd rfl hn
    · by_cases b : κ = κ1
      · exact ⟨κ2, h2, by rw [z2, b]⟩
      · exact ⟨κ, hκ, zn κ b a⟩
  · by_cases a : κ = κ2
    · exact ⟨κ1, h1, by rw [a, z2]⟩
    · by_cases b : κ = κ1
      · rw [b, z1] at hn; exact absurd rfl hn
      · exact ⟨κ, hκ, (zn κ b a).symm⟩
  · by_cases a : κ = κ2
    · rw [a, z2] at hn ⊢
      rw [if_neg hn]; exact pk_us
    · by_cases b : κ = κ1
      · rw [b, z1] at hn; exact absurd rfl hn
      · rw [zn κ b a] at hn ⊢
        rw [hcd κ hκ a, ← X.2.2.2 κ hκ hn]
        by_cases c : B κ1 = 0
        · rw [if_pos c]
        · rw [if_neg c, pk_un (za_start P hκ h1 b hn c)]
theorem za_swap {C : Nat} {B cd : Nat → Nat} {U S H O : Nat → Int32} (P : za_PB C B) (X : za_IX B cd U S H O) {a b : Nat} (h1 : a < 44) (h2 : b < 44) (ne : a ≠ b) {O1 O2 : Nat → Int32}
    (e1 : O1 = if B b = 0 then O else upd O (B b / 256) (nI (cd a))) (e2 : O2 = if B a = 0 then O1 else upd O1 (B a / 256) (nI (cd b))) :
    za_PB C (zu (zu B a (B b)) b (B a)) ∧ za_IX (zu (zu B a (B b)) b (B a)) cd U S H O2 := by
  have zb : zu (zu B a (B b)) b (B a) b = B a := zu_s
  have za : zu (zu B a (B b)) b (B a) a = B b := by rw [zu_n ne]; exact zu_s
  have zn : ∀ κ, κ ≠ a → κ ≠ b → zu (zu B a (B b)) b (B a) κ = B κ := fun κ x y => by rw [zu_n y, zu_n x]
  have o1 : ∀ κ, κ < 44 → κ ≠ b → B κ ≠ 0 → O1 (B κ / 256) = O (B κ / 256) := by
    intro κ hκ x hn
    rw [e1]
    by_cases c : B b = 0
    · rw [if_pos c]
    · rw [if_neg c, pk_un (za_start P hκ h2 x hn c)]
  have o2 : ∀ κ, κ < 44 → κ ≠ a → B κ ≠ 0 → O2 (B κ / 256) = O1 (B κ / 256) := by
    intro κ hκ x hn
    rw [e2]
    by_cases c : B a = 0
    · rw [if_pos c]
    · rw [if_neg c, pk_un (za_start P hκ h1 x hn c)]
  refine ⟨za_PB_map (fun κ => if κ = a then b else if κ = b then a else κ) P (fun κ hκ hn => ?_) (fun κ κ' hκ hκ' hn hn' e => ?_), za_IX_map X (fun κ hκ hn => ?_) (fun κ hκ hn => ?_) (fun κ hκ hn => ?_)⟩
  · by_cases x : κ = a
    · rw [x, za, if_pos rfl]; exact ⟨h2, rfl⟩
    · by_cases y : κ = b
      · rw [y, zb, if_neg ne.symm, if_pos rfl]; exact ⟨h1, rfl⟩
      · rw [zn κ x y, if_neg x, if_neg y]; exact ⟨hκ, rfl⟩
  · by_cases x : κ = a
    · by_cases x' : κ' = a
      · rw [x, x']
      · rw [if_pos x, if_neg x'] at e
        by_cases y' : κ' = b
        · rw [if_pos y'] at e; exact absurd e.symm ne
        · rw [if_neg y'] at e; exact absurd e.symm y'
    · rw [if_neg x] at e
      by_cases y : κ = b
      · rw [if_pos y] at e
        by_cases x' : κ' = a
        · rw [if_pos x'] at e; exact absurd e ne
        · rw [if_neg x'] at e
          by_cases y' : κ' = b
          · rw [y, y']
          · rw [if_neg y'] at e; exact absurd e.symm x'
      · rw [if_neg y] at e
        by_cases x' : κ' = a
        · rw [if_pos x'] at e; exact absurd e y
        · rw [if_neg x'] at e
          by_cases y' : κ' = b
          · rw [if_pos y'] at e; exact absurd e x
          · rw [if_neg y'] at e; exact e
  · by_cases x : κ = a
    · exact ⟨b, h2, by rw [zb, x]⟩
    · by_cases y : κ = b
      · exact ⟨a, h1, by rw [za, y]⟩
      · exact ⟨κ, hκ, zn κ x y⟩
  · by_cases x : κ = a
    · exact ⟨b, h2, by rw [x, za]⟩
    · by_cases y : κ = b
      · exact ⟨a, h1, by rw [y, zb]⟩
      · exact ⟨κ, hκ, (zn κ x y).symm⟩
  · by_cases x : κ = a
    · rw [x, za] at hn ⊢
      rw [o2 b h2 ne.symm hn, e1, if_neg hn]; exact pk_us
    · by_cases y : κ = b
      · rw [y, zb] at hn ⊢
        rw [e2, if_neg hn]; exact pk_us
      · rw [zn κ x y] at hn ⊢
        rw [o2 κ hκ x hn, o1 κ hκ y hn]; exact X.2.2.2 κ hκ hn
/-! Y.locked, Y.add -/
section
variable {fc fs fl lf : Int32} {cur sta lst ss sz hs hz ct tk kn fi se nS nZ oS oZ : Nat → Int32} {S L : Nat} {n p : Nat → Nat} {kd fa fb va vb : Nat → Nat → Nat} {post : Int32 → Prop} {s : Nat}
theorem zy_lk12 {J : Int32 → Prop} {l : Nat} (hS : S ≤ 16) (h1 : s < 16) (hl : l < 4) (hLN : zr_LN L n p ct tk) (hAP : zr_AP S n kd fa fb va vb) (hAY : zr_AY n kd fa fb va kn fi se nS nZ)
    (H1 : (∃ i, i < n l ∧ zr_tc kd fa fb l i s) → post 1) (hJ : (∀ i, i < n l → ¬ zr_tc kd fa fb l i s) → J (nI (l + 1))) :
    ∀ d i, i + d = n l → (∀ j, j < i → ¬ zr_tc kd fa fb l j s) → ∀ m, d < m → wY_locked_12 post J (nI s) (nI l) fc fs fl lf cur sta lst ss sz hs hz ct tk kn fi se nS nZ oS oZ m (nI i) := by
  obtain ⟨e1, e2, e3, e4, e5, e6⟩ := hLN l hl
  have hc : (nI l).toNatClampNeg = l := nI_clamp (by omega)
  have hi4 : vp_in (nI l) 4 := vp_in_nI hl (by omega)
  intro d
  induction d with
  | zero =>
    intro i hi inv m hm
    obtain ⟨m, rfl⟩ : ∃ m', m = m' + 1 := ⟨m - 1, by omega⟩
    refine And.intro hi4 ?_
    rw [hc, e1]
    exact pk_le (n l) i (fun _ => nm_r (nI_1 l) (hJ (fun j hj => inv j (by omega)))) (fun z => absurd z (by omega))
  | succ d ih =>
    intro i hi inv m hm
    obtain ⟨m, rfl⟩ : ∃ m', m = m' + 1 := ⟨m - 1, by omega⟩
    refine And.intro hi4 ?_
    rw [hc, e1]
    refine pk_le (n l) i (fun z => absurd z (by omega)) (fun _ => ?_)
    have ex : (3 : Int32) * nI l + nI i = nI (3 * l + i) := by rw [zn_3, nI_add]
    have hx : (nI (3 * l + i)).toNatClampNeg = 3 * l + i := nI_clamp (by omega)
    have hi12 : vp_in (nI (3 * l + i)) 12 := vp_in_nI (by omega) (by omega)
    obtain ⟨a1, a2, a3, a4⟩ := hAY l hl i (by omega)
    obtain ⟨b1, b2, b3, b4, b5, b6, b7, b8, b9⟩ := hAP l hl i (by omega)
    have next : ¬ zr_tc kd fa fb l i s → wY_locked_12 post J (nI s) (nI l) fc fs fl lf cur sta lst ss sz hs hz ct tk kn fi se nS nZ oS oZ m (nI (i + 1)) := fun nc =>
      ih (i + 1) (by omega) (fun j hj => by
        by_cases e : j = i
        · rw [e]; exact nc
        · exact inv j (by omega)) m (by omega)
    refine nm_r ex (And.intro hi12 ?_)
    rw [hx, a1, a2, a3]
    refine pk_eq (fa l i) s (fun e => H1 ⟨i, by omega, Or.inl e⟩) (fun e => And.intro hi12 ?_)
    refine pk_eq (kd l i) 3 (fun ek => And.intro hi12 ?_) (fun ek => nm_r (nI_1 i) (next (fun z => z.elim e (fun y => ek y.1))))
    exact pk_eq (fb l i) s (fun eb => H1 ⟨i, by omega, Or.inr ⟨ek, eb⟩⟩) (fun eb => nm_r (nI_1 i) (next (fun z => z.elim e (fun y => eb y.2))))
theorem zy_lk2 (hS : S ≤ 16) (h1 : s < 16) (hL : L ≤ 4) (hLN : zr_LN L n p ct tk) (hAP : zr_AP S n kd fa fb va vb) (hAY : zr_AY n kd fa fb va kn fi se nS nZ)
    (H1 : (∃ l, l < 4 ∧ ∃ i, i < n l ∧ zr_tc kd fa fb l i s) → post 1) (H0 : (∀ l, l < 4 → ∀ i, i < n l → ¬ zr_tc kd fa fb l i s) → post 0) :
    ∀ d l, l + d = L → (∀ l', l' < l → ∀ i, i < n l' → ¬ zr_tc kd fa fb l' i s) → ∀ m, d < m → wY_locked_2 post (nI s) fc fs (nI L) lf cur sta lst ss sz hs hz ct tk kn fi se nS nZ oS oZ m (nI l) := by
  intro d
  induction d with
  | zero =>
    intro l hl inv m hm
    obtain ⟨m, rfl⟩ : ∃ m', m = m' + 1 := ⟨m - 1, by omega⟩
    refine pk_le L l (fun _ => H0 (fun l' hl' i hi => ?_)) (fun z => absurd z (by omega))
    by_cases y : l' < l
    · exact inv l' y i hi
    · have := (hLN l' hl').2.2.2.2.2 (by omega)
      omega
  | succ d ih =>
    intro l hl inv m hm
    obtain ⟨m, rfl⟩ : ∃ m', m = m' + 1 := ⟨m - 1, by omega⟩
    refine pk_le L l (fun z => absurd z (by omega)) (fun _ => ?_)
    have hn := (hLN l (by omega)).2.2.1
    refine Exists.intro 4 (zy_lk12 hS h1 (by omega) hLN hAP hAY (fun z => H1 ⟨l, by omega, z⟩) (fun hc => ih (l + 1) (by omega) (fun l' hl' => ?_) m (by omega)) (n l) 0 (by omega) (fun j hj => absurd hj (by omega)) 4 (by omega))
    by_cases e : l' = l
    · rw [e]; exact hc
    · exact inv l' (by omega)
theorem zy_locked (hS : S ≤ 16) (h1 : s < 16) (hL : L ≤ 4) (hLN : zr_LN L n p ct tk) (hAP : zr_AP S n kd fa fb va vb) (hAY : zr_AY n kd fa fb va kn fi se nS nZ)
    (H1 : (∃ l, l < 4 ∧ ∃ i, i < n l ∧ zr_tc kd fa fb l i s) → post 1) (H0 : (∀ l, l < 4 → ∀ i, i < n l → ¬ zr_tc kd fa fb l i s) → post 0) :
    wpY_locked post (fc, fs, nI L, lf, cur, sta, lst, ss, sz, hs, hz, ct, tk, kn, fi, se, nS, nZ, oS, oZ) (nI s) :=
  Exists.intro 5 (zy_lk2 hS h1 hL hLN hAP hAY H1 H0 L 0 (by omega) (fun l' hl' => absurd hl' (by omega)) 5 (by omega))
end
section
variable {fc fs fl lf : Int32} {cur sta lst ss sz hs hz ct tk kn fi se nS nZ oS oZ : Nat → Int32}
theorem zy_add {post : Int32 → SY → Prop} {l m k a b : Nat} {q q1 : Int32} (hl : l < 4) (hm : m < 3) (hn : ct l = nI m) (hk : k < 4) (hq : q = nI k) (hq1 : q1 = nI b)
    (H : post 0 (fc, fs, fl, lf, cur, sta, lst, ss, sz, hs, if k = 1 then upd hz l 0 else hz, upd ct l (nI (m + 1)), tk, upd kn (3 * l + m) (nI k), upd fi (3 * l + m) (nI a), upd se (3 * l + m) (nI b), upd nS (3 * l + m) (hs l), upd nZ (3 * l + m) (if k = 1 then hz l else 0), oS, upd oZ (3 * l + m) 0)) :
    wpY_add post (fc, fs, fl, lf, cur, sta, lst, ss, sz, hs, hz, ct, tk, kn, fi, se, nS, nZ, oS, oZ) (nI l) q (nI a) q1 := by
  subst hq; subst hq1
  have hc : (nI l).toNatClampNeg = l := nI_clamp (by omega)
  have hi : vp_in (nI l) 4 := vp_in_nI hl (by omega)
  have ex : (3 : Int32) * nI l + nI m = nI (3 * l + m) := by rw [zn_3, nI_add]
  have hx : (nI (3 * l + m)).toNatClampNeg = 3 * l + m := nI_clamp (by omega)
  have hi12 : vp_in (nI (3 * l + m)) 12 := vp_in_nI (by omega) (by omega)
  refine And.intro hi ?_
  rw [hc, hn]
  refine nm_r ex (And.intro hi12 (nm_e (And.intro hi12 (nm_e (And.intro hi12 (nm_e (And.intro hi (And.intro hi12 (nm_e ?_)))))))))
  rw [hx]
  refine pk_eq k 1 (fun e => And.intro hi ?_) (fun e => ?_)
  · unfold wY_add_71
    refine And.intro hi12 (nm_e (And.intro hi12 (nm_e (br_t (by rw [e]; rfl) (And.intro hi (nm_e ?_))))))
    unfold wY_add_92
    refine And.intro hi (And.intro hi ?_)
    rw [if_pos e, if_pos e] at H
    rw [hx, hc, hn, nI_1]
    exact nm_e H
  · unfold wY_add_71
    refine And.intro hi12 (nm_e (And.intro hi12 (nm_e (br_f (fun z => e ((nI_eq (b := 1) (by omega) (by omega)).mp z)) ?_))))
    unfold wY_add_92
    refine And.intro hi (And.intro hi ?_)
    rw [if_neg e, if_neg e] at H
    rw [hx, hc, hn, nI_1]
    exact nm_e H
end
end
section
/-! a new action -/
def zw (f : Nat → Nat → Nat) (l i x : Nat) : Nat → Nat → Nat := fun l' i' => if l' = l ∧ i' = i then x else f l' i'
theorem zw_s {f : Nat → Nat → Nat} {l i x : Nat} : zw f l i x l i = x := if_pos ⟨rfl, rfl⟩
theorem zw_n {f : Nat → Nat → Nat} {l i x l' i' : Nat} (h : ¬ (l' = l ∧ i' = i)) : zw f l i x l' i' = f l' i' := if_neg h
theorem zr_lkd {n : Nat → Nat} {kd fa fb : Nat → Nat → Nat} {lk : Int32} {ll : Nat → Int32} (h : zr_LX n kd fa fb lk ll) {j : Nat} (hj : j < 32) : bt lk j = true ↔ ∃ l, l < 4 ∧ ∃ i, i < n l ∧ zr_tc kd fa fb l i j := by
  rw [h.2 j hj]
  constructor
  · rintro ⟨l, hl, z⟩; exact ⟨l, hl, (h.1 l hl j hj).mp z⟩
  · rintro ⟨l, hl, z⟩; exact ⟨l, hl, (h.1 l hl j hj).mpr z⟩
section
variable {fc fs fl pe lk dn rl lf : Int32} {cur sta lst sb ow cS cU cH ha ct tk ll ob ss sz hs hz kn fi se nS nZ oS oZ : Nat → Int32} {me ms en : Nat → Int64} {C S L : Nat} {B cd n p : Nat → Nat} {kd fa fb va vb : Nat → Nat → Nat}
theorem zr_add {B' : Nat → Nat} {ow' ha' hz' : Nat → Int32} {l m k a b x y : Nat} {mk z : Int32} (hU : zr_U C S L B cd n p kd fa fb va vb fc fs fl pe lk dn rl lf cur sta lst me ms sb ow cS cU cH ha ct tk ll en ob ss sz hs hz kn fi se nS nZ oS oZ) (hl : l < L) (hm : m < 3) (hn : n l = m) (hp : p l = 0)
    (k1 : 1 ≤ k) (k3 : k ≤ 3) (ha1 : a < S) (hb1 : b < S) (q1 : k ≠ 3 → b = 0 ∧ y = 0) (q2 : k = 2 → x = 0) (q3 : k = 3 → a ≠ b) (hx : x < 32768) (hy : y < 32768)
    (una : ∀ l', l' < 4 → ∀ i, i < n l' → ¬ zr_tc kd fa fb l' i a) (unb : k = 3 → ∀ l', l' < 4 → ∀ i, i < n l' → ¬ zr_tc kd fa fb l' i b)
    (hv : k = 3 → x = B b ∧ y = B a)
    (hmk : ∀ j, j < 32 → (bt mk j = true ↔ j = a ∨ (k = 3 ∧ j = b)))
    (hPB' : za_PB C B') (hIX' : za_IX B' (zu cd (16 + 3 * l + m) (32 + a)) cU cS cH ow') (hBs : ∀ s, s < 16 → B' s = B s)
    (hBo : ∀ κ, κ < 44 → 16 ≤ κ → κ ≠ 16 + 3 * l + m → (κ < 28 ∨ 32 ≤ κ) → B' κ = B κ) (hBn : B' (16 + 3 * l + m) = if k = 1 then x else 0)
    (hHX' : zr_HX B' ha') (hHY' : zr_HY L B' p hs hz')
    (hYB : k ≠ 3 → zr_YB (upd nS (3 * l + m) (hs l)) (upd nZ (3 * l + m) z) (3 * l + m) x) :
    zr_U C S L B' (zu cd (16 + 3 * l + m) (32 + a)) (zu n l (m + 1)) p (zw kd l m k) (zw fa l m a) (zw fb l m b) (zw va l m x) (zw vb l m y)
      fc fs fl pe (lk ||| mk) dn rl lf cur sta lst me ms sb ow' cS cU cH ha' (upd ct l (nI (m + 1))) tk (upd ll l (ll l ||| mk)) (vp_updL en (4 * l + m) (lN (ze_v k a b x y))) ob ss sz hs hz' (upd kn (3 * l + m) (nI k)) (upd fi (3 * l + m) (nI a)) (upd se (3 * l + m) (nI b)) (upd nS (3 * l + m) (hs l)) (upd nZ (3 * l + m) z) oS (upd oZ (3 * l + m) 0) := by
  obtain ⟨⟨rfl, rfl, rfl, rfl, rfl⟩, hcfg, hlst, hPB, hIX, hLN, ⟨hSY, hSX⟩, ⟨hHX, hHY⟩, hCD, ⟨hAP, hAX, hAY⟩, ⟨hKE, hOX, hOY⟩, ⟨hLU, hLX⟩, ⟨hPE, hPL, hPH⟩⟩ := hU
  obtain ⟨c1, c2, c3, c4, c5, c6⟩ := hcfg
  have hl4 : l < 4 := by omega
  have n3 : ∀ l', l' < 4 → n l' ≤ 3 := fun l' h => (hLN l' h).2.2.1
  -- old and new pairs
  have old : ∀ l' i', i' < n l' → ¬ (l' = l ∧ i' = m) := fun l' i' h z => by rw [z.1, z.2, hn] at h; omega
  have split : ∀ l' i', i' < zu n l (m + 1) l' → i' < n l' ∨ (l' = l ∧ i' = m) := by
    intro l' i' h
    by_cases e : l' = l
    · rw [e, zu_s] at h
      by_cases f : i' = m
      · exact Or.inr ⟨e, f⟩
      · exact Or.inl (by rw [e, hn]; omega)
    · rw [zu_n e] at h; exact Or.inl h
  have le' : ∀ l' i', i' < n l' → i' < zu n l (m + 1) l' := by
    intro l' i' h
    by_cases e : l' = l
    · rw [e, zu_s]; rw [e, hn] at h; omega
    · rw [zu_n e]; exact h
  have nm' : m < zu n l (m + 1) l := by rw [zu_s]; omega
  have i3 : ∀ l' i', l' < 4 → i' < n l' → 3 * l' + i' ≠ 3 * l + m := fun l' i' h1 h2 e => by
    have := n3 l' h1
    exact old l' i' h2 ⟨by omega, by omega⟩
  have i4 : ∀ l' i', i' < 4 → ¬ (l' = l ∧ i' = m) → 4 * l' + i' ≠ 4 * l + m := fun l' i' h1 h2 e => h2 ⟨by omega, by omega⟩
  have tco : ∀ l' i' s, i' < n l' → (zr_tc (zw kd l m k) (zw fa l m a) (zw fb l m b) l' i' s ↔ zr_tc kd fa fb l' i' s) := by
    intro l' i' s h
    unfold zr_tc
    rw [zw_n (old l' i' h), zw_n (old l' i' h), zw_n (old l' i' h)]
  have tcn : ∀ s, zr_tc (zw kd l m k) (zw fa l m a) (zw fb l m b) l m s ↔ (a = s ∨ (k = 3 ∧ b = s)) := by
    intro s; unfold zr_tc; rw [zw_s, zw_s, zw_s]
  have unt : ∀ s, (a = s ∨ (k = 3 ∧ b = s)) → ∀ l', l' < 4 → ∀ i, i < n l' → ¬ zr_tc kd fa fb l' i s := by
    rintro s (e | ⟨e1, e2⟩) l' hl' i hi
    · rw [← e]; exact una l' hl' i hi
    · rw [← e2]; exact unb e1 l' hl' i hi
  have En : ∀ l' i', l' < 4 → (zr_E (zu n l (m + 1)) p l' i' ↔ zr_E n p l' i') := by
    intro l' i' h
    unfold zr_E
    by_cases e : l' = l
    · rw [e, zu_s, hp]; omega
    · rw [zu_n e]
  have Enl : ∀ i, ¬ zr_E n p l i := fun i z => by unfold zr_E at z; omega
  refine ⟨⟨rfl, rfl, rfl, rfl, rfl⟩, ⟨c1, c2, c3, c4, c5, c6⟩, hlst, hPB', hIX', fun l' hl' => ?_, ⟨fun s h => ?_, fun s h => ?_⟩, ⟨hHX', hHY'⟩, ⟨?_, ?_, ?_⟩, ⟨fun l' hl' i hi => ?_, fun l' hl' i hi => ?_, fun l' hl' i hi => ?_⟩,
    ⟨fun l' hl' i hi => ?_, fun l' hl' i hi hE => ?_, fun l' hl' i hi => ?_⟩, ⟨fun l1 l2 h1 h2 i1 i2 j1 j2 s t1 t2 => ?_, fun l' hl' j hj => ?_, fun j hj => ?_⟩, hPE, fun l' hl' => ?_, fun s h hh => ?_, fun l' hl' h1 h2 i hi h3 s t => ?_⟩
  · -- LN
    obtain ⟨a1, a2, a3, a4, a5, a6⟩ := hLN l' hl'
    by_cases e : l' = l
    · rw [e, zu_s, pk_us]
      rw [e] at a2
      refine ⟨rfl, a2, by omega, by omega, fun z => by omega, fun z => by omega⟩
    · rw [zu_n e, pk_un e]; exact ⟨a1, a2, a3, a4, a5, a6⟩
  · rw [hBs s h]; exact hSY s h
  · rw [hBs s (by omega)]; exact hSX s h
  · intro s h; rw [zu_n (by omega)]; exact hCD.1 s h
  · intro l' h; rw [zu_n (by omega)]; exact hCD.2.1 l' h
  · intro l' h i hi; rw [zu_n (by omega)]; exact hCD.2.2 l' h i hi
  · -- AP
    rcases split l' i hi with h | ⟨e1, e2⟩
    · rw [zw_n (old l' i h), zw_n (old l' i h), zw_n (old l' i h), zw_n (old l' i h), zw_n (old l' i h)]; exact hAP l' hl' i h
    · rw [e1, e2, zw_s, zw_s, zw_s, zw_s, zw_s]; exact ⟨k1, k3, ha1, hb1, q1, q2, q3, hx, hy⟩
  · -- AX
    rcases split l' i hi with h | ⟨e1, e2⟩
    · rw [zw_n (old l' i h), zw_n (old l' i h), zw_n (old l' i h), zw_n (old l' i h), zw_n (old l' i h)]
      have := n3 l' hl'
      rw [pk_uLn (i4 l' i (by omega) (old l' i h))]; exact hAX l' hl' i h
    · rw [e1, e2, zw_s, zw_s, zw_s, zw_s, zw_s]; exact pk_uLs
  · -- AY
    rcases split l' i hi with h | ⟨e1, e2⟩
    · have u := i3 l' i hl' h
      unfold zr_YB
      rw [zw_n (old l' i h), zw_n (old l' i h), zw_n (old l' i h), zw_n (old l' i h), pk_un u, pk_un u, pk_un u, pk_un u, pk_un u]
      exact hAY l' hl' i h
    · rw [e1, e2, zw_s, zw_s, zw_s, zw_s]
      refine ⟨pk_us, pk_us, pk_us, hYB⟩
  · -- KE
    obtain ⟨o1, o2, o3, o4, o5, o6⟩ := hKE l' hl' i hi
    by_cases e : l' = l ∧ i = m
    · obtain ⟨e1, e2⟩ := e
      subst e1; subst e2
      rw [zw_s, zw_s, zw_s, zw_s, zw_s, hBn, hBs a (by omega), hBs b (by omega), zu_s, zu_s]
      refine ⟨fun _ _ e => if_pos e, fun _ _ e => hv e, fun _ z => absurd ((En l' i hl').mp z) (Enl i), fun z => if_neg (fun e => z ⟨by omega, e, fun w => Enl i ((En l' i hl').mp w)⟩), fun _ => ?_, fun _ => rfl⟩
      rw [hBo _ (by omega) (by omega) (by omega) (by omega)]
      exact o5 (fun z => Enl i z.2)
    · have hlt : i < zu n l (m + 1) l' ↔ i < n l' := ⟨fun z => (split l' i z).resolve_right e, fun z => le' l' i z⟩
      rw [zw_n e, zw_n e, zw_n e, zw_n e, zw_n e, hlt, En l' i hl']
      rw [hBo (16 + 3 * l' + i) (by omega) (by omega) (fun w => e ⟨by omega, by omega⟩) (by omega), hBo (32 + 3 * l' + i) (by omega) (by omega) (by omega) (by omega), zu_n (fun w => e ⟨by omega, by omega⟩)]
      refine ⟨o1, fun w => ?_, fun w => ?_, o4, o5, o6⟩
      · obtain ⟨b1, b2, b3, b4, b5, b6, b7, b8, b9⟩ := hAP l' hl' i w
        rw [hBs _ (by omega), hBs _ (by omega)]; exact o2 w
      · obtain ⟨b1, b2, b3, b4, b5, b6, b7, b8, b9⟩ := hAP l' hl' i w
        rw [hBs _ (by omega), hBs _ (by omega)]; exact o3 w
  · -- OX
    rw [En l' i hl'] at hE
    rcases split l' i hi with h | ⟨e1, e2⟩
    · have := n3 l' hl'
      rw [hBo _ (by omega) (by omega) (by omega) (by omega)]; exact hOX l' hl' i h hE
    · rw [e1] at hE; exact absurd hE (Enl i)
  · -- OY
    rcases split l' i hi with h | ⟨e1, e2⟩
    · have u := i3 l' i hl' h
      have := n3 l' hl'
      unfold zr_YB
      rw [zw_n (old l' i h), pk_un u, hBo _ (by omega) (by omega) (by omega) (by omega), En l' i hl']
      exact hOY l' hl' i h
    · subst e1; subst e2
      refine ⟨fun z => absurd ((En l' i hl').mp z) (Enl i), fun _ _ => pk_us⟩
  · -- LU
    rcases split l1 i1 j1 with g1 | ⟨e1, e2⟩
    · rw [tco l1 i1 s g1] at t1
      rcases split l2 i2 j2 with g2 | ⟨f1, f2⟩
      · rw [tco l2 i2 s g2] at t2
        exact hLU l1 l2 h1 h2 i1 i2 g1 g2 s t1 t2
      · rw [f1, f2, tcn] at t2
        exact absurd t1 (unt s t2 l1 h1 i1 g1)
    · rw [e1, e2, tcn] at t1
      rcases split l2 i2 j2 with g2 | ⟨f1, f2⟩
      · rw [tco l2 i2 s g2] at t2
        exact absurd t2 (unt s t1 l2 h2 i2 g2)
      · rw [e1, e2, f1, f2]; exact ⟨rfl, rfl⟩
  · -- LX lanes
    by_cases e : l' = l
    · subst e
      rw [pk_us, b_or, Bool.or_eq_true, hLX.1 l' hl' j hj, hmk j hj]
      constructor
      · rintro (⟨i, hi, t⟩ | t)
        · exact ⟨i, le' l' i hi, (tco l' i j hi).mpr t⟩
        · refine ⟨m, nm', (tcn j).mpr ?_⟩
          rcases t with t | ⟨t1, t2⟩
          · exact Or.inl t.symm
          · exact Or.inr ⟨t1, t2.symm⟩
      · rintro ⟨i, hi, t⟩
        rcases split l' i hi with g | ⟨f1, f2⟩
        · exact Or.inl ⟨i, g, (tco l' i j g).mp t⟩
        · rw [f2, tcn] at t
          rcases t with t | ⟨t1, t2⟩
          · exact Or.inr (Or.inl t.symm)
          · exact Or.inr (Or.inr ⟨t1, t2.symm⟩)
    · rw [pk_un e, hLX.1 l' hl' j hj]
      constructor
      · rintro ⟨i, hi, t⟩; exact ⟨i, le' l' i hi, (tco l' i j hi).mpr t⟩
      · rintro ⟨i, hi, t⟩
        rcases split l' i hi with g | ⟨f1, f2⟩
        · exact ⟨i, g, (tco l' i j g).mp t⟩
        · exact absurd f1 e
  · -- LX all
    rw [b_or, Bool.or_eq_true, hLX.2 j hj]
    constructor
    · rintro (⟨l', hl', t⟩ | t)
      · refine ⟨l', hl', ?_⟩
        by_cases e : l' = l
        · rw [e, pk_us, b_or]; rw [e] at t; rw [t]; rfl
        · rw [pk_un e]; exact t
      · exact ⟨l, hl4, by rw [pk_us, b_or, t, Bool.or_true]⟩
    · rintro ⟨l', hl', t⟩
      by_cases e : l' = l
      · rw [e, pk_us, b_or, Bool.or_eq_true] at t
        rcases t with t | t
        · exact Or.inl ⟨l, hl4, t⟩
        · exact Or.inr t
      · rw [pk_un e] at t; exact Or.inl ⟨l', hl', t⟩
  · -- PL
    by_cases e : l' = l
    · subst e
      obtain ⟨r1, r2, r3, r4⟩ := hPL l' hl'
      rw [hp] at r1
      obtain ⟨r5, r6, r7⟩ := r1 (by omega)
      rw [zu_s, hp]
      refine ⟨fun _ => ⟨r5, fun i hi => ?_, ?_⟩, fun w => by omega, fun w => by omega, fun w => by omega⟩
      · rw [r6 i hi, if_neg (by omega), if_neg (by omega)]
      · rw [r7, if_neg (by omega), if_neg (by omega)]
    · have eu : ∀ i, i < 4 → vp_updL en (4 * l + m) (lN (ze_v k a b x y)) (4 * l' + i) = en (4 * l' + i) := fun i hi => pk_uLn (i4 l' i hi (fun w => e w.1))
      obtain ⟨r1, r2, r3, r4⟩ := hPL l' hl'
      have := n3 l' hl'
      rw [zu_n e]
      refine ⟨fun w => ⟨(r1 w).1, fun i hi => ?_, (r1 w).2.2⟩, fun w1 w2 => ⟨fun i hi => ?_, (r2 w1 w2).2⟩, fun w => ⟨fun i hi => ?_, (r3 w).2⟩, r4⟩
      · rw [eu i (by omega)]; exact (r1 w).2.1 i hi
      · rw [eu i (by omega)]; exact (r2 w1 w2).1 i hi
      · rw [eu i (by omega)]; exact (r3 w).1 i hi
  · -- PH homes
    rw [hBs s h]
    refine hPH.1 s h (fun l' hl' i hi t w => ?_)
    by_cases e : l' = l
    · rw [e, hp] at w; omega
    · refine hh l' hl' i (le' l' i hi) ((tco l' i s hi).mpr t) ?_
      rw [zu_n e]; exact w
  · -- PH carried
    by_cases e : l' = l
    · rw [e, hp] at h1; omega
    · rw [zu_n e] at hi h1 h2 h3
      have t' := (tco l' i s hi).mp t
      obtain ⟨b1, b2, b3, b4, b5, b6, b7, b8, b9⟩ := hAP l' hl' i hi
      rw [hBs s (by rcases t' with q | q <;> omega)]
      exact hPH.2 l' hl' h1 h2 i hi h3 s t'
end
end
section
/-! publish, release, swap -/
theorem zm_1 (s : Nat) (hs' : s < 16) : ∀ j, j < 32 → (bt ((1 : Int32) <<< (nI s &&& 31)) j = true ↔ j = s ∨ ((1 : Nat) = 3 ∧ j = 0)) := by
  intro j hj
  rw [zb_sh s (by omega) j hj]
  simp
theorem zm_2 (s : Nat) (hs' : s < 16) : ∀ j, j < 32 → (bt ((1 : Int32) <<< (nI s &&& 31)) j = true ↔ j = s ∨ ((2 : Nat) = 3 ∧ j = 0)) := by
  intro j hj
  rw [zb_sh s (by omega) j hj]
  simp
theorem zm_3 (a b : Nat) (ha' : a < 16) (hb' : b < 16) : ∀ j, j < 32 → (bt (((1 : Int32) <<< (nI a &&& 31)) ||| ((1 : Int32) <<< (nI b &&& 31))) j = true ↔ j = a ∨ ((3 : Nat) = 3 ∧ j = b)) := by
  intro j hj
  rw [b_or, zb_sh a (by omega) j hj, zb_sh b (by omega) j hj]
  simp
theorem i_vc_publish {k : Nat} {u : SX} {v : SY} (I : i_Rel k u v) (hk : k + 4 ≤ 2051) (v1 : Int32) (v2 : Int32) : wpX_publish (fun r u' => wpY_publish (fun r' v' => r' = r ∧ i_Rel (k + 4) u' v') v v1 v2) u v1 v2 := by
  refine zz_el (P := fun u v => wpX_publish (fun r u' => wpY_publish (fun r' v' => r' = r ∧ i_Rel (k + 4) u' v') v v1 v2) u v1 v2) ?_ I
  intro fc fs fl pe lk dn rl lf cur sta lst me ms sb ow cS cU cH ha ct tk ll en ob ss sz hs hz kn fi se nS nZ oS oZ hr0
  have hI : i_Rel (k + 4) (fc, fs, fl, pe, lk, dn, rl, cur, sta, lst, me, ms, sb, ow, cS, cU, cH, ha, ct, tk, ll, en, ob) (fc, fs, fl, lf, cur, sta, lst, ss, sz, hs, hz, ct, tk, kn, fi, se, nS, nZ, oS, oZ) := zz_mk hr0
  rcases hr0 with ⟨C, S, L, B, cd, n, p, kd, fa, fb, va, vb, hU⟩ | ⟨C, S, L, r, T, n, st, kd, fa, fb, va, vb, hD⟩
  · have hU0 := hU
    obtain ⟨⟨rfl, rfl, rfl, rfl, rfl⟩, hcfg, hlst, hPB, hIX, hLN, ⟨hSY, hSX⟩, ⟨hHX, hHY⟩, hCD, ⟨hAP, hAX, hAY⟩, ⟨hKE, hOX, hOY⟩, ⟨hLU, hLX⟩, ⟨hPE, hPL, hPH⟩⟩ := hU
    have hC := hcfg.2.1
    have hS := hcfg.2.2.2.1
    have hL := hcfg.2.2.2.2.2
    refine br_t rfl ?_
    rcases pk_ix v1 (n := L) (by omega) with hb | hb | ⟨l, hl, rfl⟩
    · exact zx_bL1 (Or.inl hb) (br_f (by decide) (br_t (by decide) (zy_bL1 (Or.inl hb) (br_f (by decide) ⟨rfl, hI⟩))))
    · exact zx_bL1 (Or.inr hb) (br_f (by decide) (br_t (by decide) (zy_bL1 (Or.inr hb) (br_f (by decide) ⟨rfl, hI⟩))))
    · refine zx_bL0 hl (by omega) (br_t rfl ?_)
      rcases pk_ix v2 (n := S) (by omega) with hb | hb | ⟨s, h1, rfl⟩
      · exact zx_bS1 (Or.inl hb) (br_f (by decide) (br_t (by decide) (zy_bL0 hl (by omega) (br_t rfl (zy_bS1 (Or.inl hb) (br_f (by decide) ⟨rfl, hI⟩))))))
      · exact zx_bS1 (Or.inr hb) (br_f (by decide) (br_t (by decide) (zy_bL0 hl (by omega) (br_t rfl (zy_bS1 (Or.inr hb) (br_f (by decide) ⟨rfl, hI⟩))))))
      · refine zx_bS0 h1 (by omega) (br_t rfl ?_)
        have hi : vp_in (nI l) 4 := vp_in_nI (by omega) (by omega)
        have hc : (nI l).toNatClampNeg = l := nI_clamp (by omega)
        obtain ⟨n1, n2, n3, n4, n5, n6⟩ := hLN l (by omega)
        obtain ⟨⟨y1, y2⟩, y3, y4⟩ := hHY l (by omega)
        have hB := hPB.1 (28 + l) (by omega)
        have hlt := za_PB_lt hC hPB (κ := 28 + l) (by omega)
        refine And.intro hi ?_
        rw [hc, n2]
        refine pk_le (p l) 0 (fun hp => And.intro hi ?_) (fun hp => br_t (by decide) (zy_bL0 hl (by omega) (br_t rfl (zy_bS0 h1 (by omega) (br_t rfl (And.intro hi ?_))))))
        · -- not started
          have hp0 : p l = 0 := by omega
          have y0 : tk (nI l).toNatClampNeg ≤ 0 := by rw [hc, n2, hp0]; decide
          rw [hHX l (by omega)]
          refine pk_eq (B (28 + l)) 0 (fun hB0 => br_t (by decide) (zy_bL0 hl (by omega) (br_t rfl (zy_bS0 h1 (by omega) (br_t rfl (And.intro hi (br_t y0 (And.intro hi ?_)))))))) (fun hB0 => And.intro hi ?_)
          · rw [hc, y1, hB0]; exact br_t rfl ⟨rfl, hI⟩
          · have wB := hB.resolve_left hB0
            have wl := za_wf_lt hC wB
            have yh : ¬ hz (nI l).toNatClampNeg = 0 := by rw [hc, y1]; exact nI_ne0 (by omega) (by omega)
            rw [n1]
            refine pk_eq (n l) 3 (fun e3 => br_t (by decide) (zy_bL0 hl (by omega) (br_t rfl (zy_bS0 h1 (by omega) (br_t rfl (And.intro hi (br_t y0 (And.intro hi (br_f yh (And.intro hi ?_)))))))))) (fun e3 => ?_)
            · rw [hc, n1]; exact br_f (nI_nlt (b := 3) (by omega) (by omega)) ⟨rfl, hI⟩
            · have yc : ct (nI l).toNatClampNeg < 3 := by rw [hc, n1]; exact nI_lt (b := 3) (by omega) (by omega)
              refine br_c (fun hlk => ?_) (fun hlk => ?_)
              · rw [zb_t1 _ s (by omega)] at hlk
                have un : ∀ l', l' < 4 → ∀ i, i < n l' → ¬ zr_tc kd fa fb l' i s := fun l' hl' i hi' t => by
                  have := (zr_lkd hLX (j := s) (by omega)).mpr ⟨l', hl', i, hi', t⟩
                  rw [hlk] at this; exact absurd this (by decide)
                refine And.intro hi (nm_e (And.intro hi (nm_e ?_)))
                rw [zn_hi (by omega)]
                refine And.intro (vp_in_nI wl.2.2.1 (by omega)) (nm_e ?_)
                refine zx_add (k := 1) (a := s) (b := 0) (x := B (28 + l)) (y := 0) (m := n l) (by omega) (by omega) n1 ⟨by omega, by omega, by omega, by omega, by omega⟩ rfl ?_ rfl rfl ?_
                · rw [zn_16]; exact nI_add 256 _
                · refine br_t (by decide) (zy_bL0 hl (by omega) (br_t rfl (zy_bS0 h1 (by omega) (br_t rfl (And.intro hi (br_t y0 (And.intro hi (br_f yh (And.intro hi (br_t yc ?_))))))))))
                  refine zy_locked hS (by omega) hL hLN hAP hAY (fun ⟨l', hl', i, hi', t⟩ => absurd t (un l' hl' i hi')) (fun _ => br_t rfl ?_)
                  refine zy_add (k := 1) (b := 0) (m := n l) (by omega) (by omega) n1 (by omega) rfl rfl ⟨rfl, ?_⟩
                  rw [if_pos rfl, if_pos rfl, nI_clamp (by omega)]
                  have mv := za_move (κ1 := 28 + l) (κ2 := 16 + 3 * l + n l) (cd' := zu cd (16 + 3 * l + n l) (32 + s)) hPB hIX (by omega) (by omega) (by omega)
                    ((hKE l (by omega) (n l) (by omega)).2.2.2.1 (fun w => by omega)) (fun κ _ h => zu_n h)
                  rw [if_neg hB0, zu_s, show nI (32 + s) = (32 : Int32) + nI s from (nI_add 32 s).symm] at mv
                  refine zz_mk (Or.inl ⟨C, S, L, _, _, _, _, _, _, _, _, _, zr_add (k := 1) (a := s) (b := 0) (x := B (28 + l)) (y := 0) (m := n l) hU0 hl (by omega) rfl hp0 (by omega) (by omega) h1 (by omega) (fun _ => ⟨rfl, rfl⟩) (fun e => absurd e (by decide)) (fun e => absurd e (by decide)) (by omega) (by omega)
                    un (fun e => absurd e (by decide)) (fun e => absurd e (by decide)) (zm_1 s (by omega)) mv.1 mv.2 (fun s' hs' => ?_) (fun κ hκ g1 g2 g3 => ?_) ?_ (fun l' hl' => ?_) (fun l' hl' => ?_) (fun _ => ?_)⟩)
                  · rw [zu_n (by omega), zu_n (by omega)]
                  · rw [zu_n g2, zu_n (by omega)]
                  · rw [zu_s]; rfl
                  · rw [zu_n (by omega)]
                    by_cases e : l' = l
                    · rw [e, pk_us, zu_s]; rfl
                    · rw [pk_un e, zu_n (by omega)]; exact hHX l' hl'
                  · rw [zu_n (by omega)]
                    by_cases e : l' = l
                    · rw [e, zu_s]
                      exact ⟨⟨pk_us, fun z => absurd rfl z⟩, fun _ => rfl, fun _ => rfl⟩
                    · rw [zu_n (by omega)]
                      obtain ⟨⟨w1, w2⟩, w3⟩ := hHY l' hl'
                      exact ⟨⟨by rw [pk_un e]; exact w1, w2⟩, w3⟩
                  · exact ⟨by rw [pk_us]; exact y1, fun _ => by rw [pk_us]; exact y2 hB0⟩
              · rw [zb_t1 _ s (by omega)] at hlk
                have ex := (zr_lkd hLX (j := s) (by omega)).mp (ts_nf hlk)
                refine br_t (by decide) (zy_bL0 hl (by omega) (br_t rfl (zy_bS0 h1 (by omega) (br_t rfl (And.intro hi (br_t y0 (And.intro hi (br_f yh (And.intro hi (br_t yc ?_))))))))))
                exact zy_locked hS (by omega) hL hLN hAP hAY (fun _ => br_f (by decide) ⟨rfl, hI⟩) (fun un => absurd ex (fun ⟨l', hl', i, hi', t⟩ => un l' hl' i hi' t))
        · rw [hc, n2]; exact br_f (nI_nle (by omega) (by omega)) ⟨rfl, hI⟩
  · obtain ⟨⟨rfl, rfl, rfl, rfl, rfl, rfl⟩, hcfg, hr, hlst, hPB, hT0, hSY, ⟨hid, hlk⟩, hAP, ⟨hPE, hDL, hDH, hDP⟩⟩ := hD
    have h0 := zi_r hr hcfg.2.2.2.2.2
    exact br_f (by decide) (br_f h0.2.1 ⟨rfl, hI⟩)
theorem i_vc_release {k : Nat} {u : SX} {v : SY} (I : i_Rel k u v) (hk : k + 4 ≤ 2051) (v1 : Int32) (v2 : Int32) : wpX_release (fun r u' => wpY_release (fun r' v' => r' = r ∧ i_Rel (k + 4) u' v') v v1 v2) u v1 v2 := by
  refine zz_el (P := fun u v => wpX_release (fun r u' => wpY_release (fun r' v' => r' = r ∧ i_Rel (k + 4) u' v') v v1 v2) u v1 v2) ?_ I
  intro fc fs fl pe lk dn rl lf cur sta lst me ms sb ow cS cU cH ha ct tk ll en ob ss sz hs hz kn fi se nS nZ oS oZ hr0
  have hI : i_Rel (k + 4) (fc, fs, fl, pe, lk, dn, rl, cur, sta, lst, me, ms, sb, ow, cS, cU, cH, ha, ct, tk, ll, en, ob) (fc, fs, fl, lf, cur, sta, lst, ss, sz, hs, hz, ct, tk, kn, fi, se, nS, nZ, oS, oZ) := zz_mk hr0
  rcases hr0 with ⟨C, S, L, B, cd, n, p, kd, fa, fb, va, vb, hU⟩ | ⟨C, S, L, r, T, n, st, kd, fa, fb, va, vb, hD⟩
  · have hU0 := hU
    obtain ⟨⟨rfl, rfl, rfl, rfl, rfl⟩, hcfg, hlst, hPB, hIX, hLN, ⟨hSY, hSX⟩, ⟨hHX, hHY⟩, hCD, ⟨hAP, hAX, hAY⟩, ⟨hKE, hOX, hOY⟩, ⟨hLU, hLX⟩, ⟨hPE, hPL, hPH⟩⟩ := hU
    have hC := hcfg.2.1
    have hS := hcfg.2.2.2.1
    have hL := hcfg.2.2.2.2.2
    refine br_t rfl ?_
    rcases pk_ix v1 (n := L) (by omega) with hb | hb | ⟨l, hl, rfl⟩
    · exact zx_bL1 (Or.inl hb) (br_f (by decide) (br_t (by decide) (zy_bL1 (Or.inl hb) (br_f (by decide) ⟨rfl, hI⟩))))
    · exact zx_bL1 (Or.inr hb) (br_f (by decide) (br_t (by decide) (zy_bL1 (Or.inr hb) (br_f (by decide) ⟨rfl, hI⟩))))
    · refine zx_bL0 hl (by omega) (br_t rfl ?_)
      rcases pk_ix v2 (n := S) (by omega) with hb | hb | ⟨s, h1, rfl⟩
      · exact zx_bS1 (Or.inl hb) (br_f (by decide) (br_t (by decide) (zy_bL0 hl (by omega) (br_t rfl (zy_bS1 (Or.inl hb) (br_f (by decide) ⟨rfl, hI⟩))))))
      · exact zx_bS1 (Or.inr hb) (br_f (by decide) (br_t (by decide) (zy_bL0 hl (by omega) (br_t rfl (zy_bS1 (Or.inr hb) (br_f (by decide) ⟨rfl, hI⟩))))))
      · refine zx_bS0 h1 (by omega) (br_t rfl ?_)
        have hi : vp_in (nI l) 4 := vp_in_nI (by omega) (by omega)
        have hc : (nI l).toNatClampNeg = l := nI_clamp (by omega)
        have hi16 : vp_in (nI s) 16 := vp_in_nI (by omega) (by omega)
        have hcs : (nI s).toNatClampNeg = s := nI_clamp (by omega)
        obtain ⟨n1, n2, n3, n4, n5, n6⟩ := hLN l (by omega)
        obtain ⟨⟨y1, y2⟩, y3⟩ := hSY s (by omega)
        have hB := hPB.1 s (by omega)
        have hlt := za_PB_lt hC hPB (κ := s) (by omega)
        refine And.intro hi ?_
        rw [hc, n2]
        refine pk_le (p l) 0 (fun hp => And.intro hi ?_) (fun hp => br_t (by decide) (zy_bL0 hl (by omega) (br_t rfl (zy_bS0 h1 (by omega) (br_t rfl (And.intro hi ?_))))))
        · have hp0 : p l = 0 := by omega
          have y0 : tk (nI l).toNatClampNeg ≤ 0 := by rw [hc, n2, hp0]; decide
          rw [n1]
          refine pk_eq (n l) 3 (fun e3 => br_t (by decide) (zy_bL0 hl (by omega) (br_t rfl (zy_bS0 h1 (by omega) (br_t rfl (And.intro hi (br_t y0 (And.intro hi ?_)))))))) (fun e3 => ?_)
          · rw [hc, n1]; exact br_f (nI_nlt (b := 3) (by omega) (by omega)) ⟨rfl, hI⟩
          · have yc : ct (nI l).toNatClampNeg < 3 := by rw [hc, n1]; exact nI_lt (b := 3) (by omega) (by omega)
            refine br_c (fun hlk => And.intro hi16 ?_) (fun hlk => ?_)
            · rw [zb_t1 _ s (by omega)] at hlk
              have un : ∀ l', l' < 4 → ∀ i, i < n l' → ¬ zr_tc kd fa fb l' i s := fun l' hl' i hi' t => by
                have := (zr_lkd hLX (j := s) (by omega)).mpr ⟨l', hl', i, hi', t⟩
                rw [hlk] at this; exact absurd this (by decide)
              rw [hcs, hSX s h1]
              refine pk_eq (B s) 0 (fun hB0 => ?_) (fun hB0 => ?_)
              · refine br_t (by decide) (zy_bL0 hl (by omega) (br_t rfl (zy_bS0 h1 (by omega) (br_t rfl (And.intro hi (br_t y0 (And.intro hi (br_t yc ?_))))))))
                refine zy_locked hS (by omega) hL hLN hAP hAY (fun ⟨l', hl', i, hi', t⟩ => absurd t (un l' hl' i hi')) (fun _ => br_t rfl (And.intro hi16 ?_))
                rw [hcs, y1, hB0]; exact br_t rfl ⟨rfl, hI⟩
              · have wl := za_wf_lt hC (hB.resolve_left hB0)
                refine zx_add (k := 2) (a := s) (b := 0) (x := 0) (y := 0) (m := n l) (by omega) (by omega) n1 ⟨by omega, by omega, by omega, by omega, by omega⟩ rfl ?_ rfl rfl ?_
                · rw [zn_16]; exact nI_add 512 _
                · refine br_t (by decide) (zy_bL0 hl (by omega) (br_t rfl (zy_bS0 h1 (by omega) (br_t rfl (And.intro hi (br_t y0 (And.intro hi (br_t yc ?_))))))))
                  refine zy_locked hS (by omega) hL hLN hAP hAY (fun ⟨l', hl', i, hi', t⟩ => absurd t (un l' hl' i hi')) (fun _ => br_t rfl (And.intro hi16 ?_))
                  rw [hcs, y1]
                  refine br_f (nI_ne0 (by omega) (by omega)) ?_
                  refine zy_add (k := 2) (b := 0) (m := n l) (by omega) (by omega) n1 (by omega) rfl rfl ⟨rfl, ?_⟩
                  rw [if_neg (by decide), if_neg (by decide)]
                  have hIX' : za_IX B (zu cd (16 + 3 * l + n l) (32 + s)) cU cS cH ow := za_IX_map hIX (fun κ hκ _ => ⟨κ, hκ, rfl⟩) (fun κ hκ _ => ⟨κ, hκ, rfl⟩) (fun κ hκ hn => by
                    have ne : κ ≠ 16 + 3 * l + n l := fun e => hn (by rw [e]; exact (hKE l (by omega) (n l) (by omega)).2.2.2.1 (fun w => by omega))
                    rw [zu_n ne]; exact hIX.2.2.2 κ hκ hn)
                  refine zz_mk (Or.inl ⟨C, S, L, _, _, _, _, _, _, _, _, _, zr_add (B' := B) (k := 2) (a := s) (b := 0) (x := 0) (y := 0) (m := n l) hU0 hl (by omega) rfl hp0 (by omega) (by omega) h1 (by omega) (fun _ => ⟨rfl, rfl⟩) (fun _ => rfl) (fun e => absurd e (by decide)) (by omega) (by omega)
                    un (fun e => absurd e (by decide)) (fun e => absurd e (by decide)) (zm_2 s (by omega)) hPB hIX' (fun _ _ => rfl) (fun _ _ _ _ _ => rfl) ?_ hHX hHY (fun _ => ?_)⟩)
                  · rw [(hKE l (by omega) (n l) (by omega)).2.2.2.1 (fun w => by omega)]; rfl
                  · exact ⟨pk_us, fun z => absurd rfl z⟩
            · rw [zb_t1 _ s (by omega)] at hlk
              have ex := (zr_lkd hLX (j := s) (by omega)).mp (ts_nf hlk)
              refine br_t (by decide) (zy_bL0 hl (by omega) (br_t rfl (zy_bS0 h1 (by omega) (br_t rfl (And.intro hi (br_t y0 (And.intro hi (br_t yc ?_))))))))
              exact zy_locked hS (by omega) hL hLN hAP hAY (fun _ => br_f (by decide) ⟨rfl, hI⟩) (fun un => absurd ex (fun ⟨l', hl', i, hi', t⟩ => un l' hl' i hi' t))
        · rw [hc, n2]; exact br_f (nI_nle (by omega) (by omega)) ⟨rfl, hI⟩
  · obtain ⟨⟨rfl, rfl, rfl, rfl, rfl, rfl⟩, hcfg, hr, hlst, hPB, hT0, hSY, ⟨hid, hlk⟩, hAP, ⟨hPE, hDL, hDH, hDP⟩⟩ := hD
    have h0 := zi_r hr hcfg.2.2.2.2.2
    exact br_f (by decide) (br_f h0.2.1 ⟨rfl, hI⟩)
end
section
/-! swap, reserve -/
theorem i_vc_swap {k : Nat} {u : SX} {v : SY} (I : i_Rel k u v) (hk : k + 4 ≤ 2051) (v1 : Int32) (v2 : Int32) (v3 : Int32) : wpX_swap (fun r u' => wpY_swap (fun r' v' => r' = r ∧ i_Rel (k + 4) u' v') v v1 v2 v3) u v1 v2 v3 := by
  refine zz_el (P := fun u v => wpX_swap (fun r u' => wpY_swap (fun r' v' => r' = r ∧ i_Rel (k + 4) u' v') v v1 v2 v3) u v1 v2 v3) ?_ I
  intro fc fs fl pe lk dn rl lf cur sta lst me ms sb ow cS cU cH ha ct tk ll en ob ss sz hs hz kn fi se nS nZ oS oZ hr0
  have hI : i_Rel (k + 4) (fc, fs, fl, pe, lk, dn, rl, cur, sta, lst, me, ms, sb, ow, cS, cU, cH, ha, ct, tk, ll, en, ob) (fc, fs, fl, lf, cur, sta, lst, ss, sz, hs, hz, ct, tk, kn, fi, se, nS, nZ, oS, oZ) := zz_mk hr0
  rcases hr0 with ⟨C, S, L, B, cd, n, p, kd, fa, fb, va, vb, hU⟩ | ⟨C, S, L, r, T, n, st, kd, fa, fb, va, vb, hD⟩
  · have hU0 := hU
    obtain ⟨⟨rfl, rfl, rfl, rfl, rfl⟩, hcfg, hlst, hPB, hIX, hLN, ⟨hSY, hSX⟩, ⟨hHX, hHY⟩, hCD, ⟨hAP, hAX, hAY⟩, ⟨hKE, hOX, hOY⟩, ⟨hLU, hLX⟩, ⟨hPE, hPL, hPH⟩⟩ := hU
    have hC := hcfg.2.1
    have hS := hcfg.2.2.2.1
    have hL := hcfg.2.2.2.2.2
    refine br_t rfl ?_
    rcases pk_ix v1 (n := L) (by omega) with hb | hb | ⟨l, hl, rfl⟩
    · exact zx_bL1 (Or.inl hb) (br_f (by decide) (br_t (by decide) (zy_bL1 (Or.inl hb) (br_f (by decide) ⟨rfl, hI⟩))))
    · exact zx_bL1 (Or.inr hb) (br_f (by decide) (br_t (by decide) (zy_bL1 (Or.inr hb) (br_f (by decide) ⟨rfl, hI⟩))))
    · refine zx_bL0 hl (by omega) (br_t rfl ?_)
      rcases pk_ix v2 (n := S) (by omega) with hb | hb | ⟨a, h1, rfl⟩
      · exact zx_bS1 (Or.inl hb) (br_f (by decide) (br_t (by decide) (zy_bL0 hl (by omega) (br_t rfl (zy_bS1 (Or.inl hb) (br_f (by decide) ⟨rfl, hI⟩))))))
      · exact zx_bS1 (Or.inr hb) (br_f (by decide) (br_t (by decide) (zy_bL0 hl (by omega) (br_t rfl (zy_bS1 (Or.inr hb) (br_f (by decide) ⟨rfl, hI⟩))))))
      · refine zx_bS0 h1 (by omega) (br_t rfl ?_)
        rcases pk_ix v3 (n := S) (by omega) with hb | hb | ⟨b, h2, rfl⟩
        · exact zx_bS1 (Or.inl hb) (br_f (by decide) (br_t (by decide) (zy_bL0 hl (by omega) (br_t rfl (zy_bS0 h1 (by omega) (br_t rfl (zy_bS1 (Or.inl hb) (br_f (by decide) ⟨rfl, hI⟩))))))))
        · exact zx_bS1 (Or.inr hb) (br_f (by decide) (br_t (by decide) (zy_bL0 hl (by omega) (br_t rfl (zy_bS0 h1 (by omega) (br_t rfl (zy_bS1 (Or.inr hb) (br_f (by decide) ⟨rfl, hI⟩))))))))
        · refine zx_bS0 h2 (by omega) (br_t rfl ?_)
          refine pk_eq a b (fun e => br_t (by decide) (zy_bL0 hl (by omega) (br_t rfl (zy_bS0 h1 (by omega) (br_t rfl (zy_bS0 h2 (by omega) (br_t rfl (br_t (by rw [e]) ⟨rfl, hI⟩)))))))) (fun hab => ?_)
          have qab : ¬ nI a = nI b := fun e => hab ((nI_eq (by omega) (by omega)).mp e)
          have hi : vp_in (nI l) 4 := vp_in_nI (by omega) (by omega)
          have hc : (nI l).toNatClampNeg = l := nI_clamp (by omega)
          have hia : vp_in (nI a) 16 := vp_in_nI (by omega) (by omega)
          have hca : (nI a).toNatClampNeg = a := nI_clamp (by omega)
          have hib : vp_in (nI b) 16 := vp_in_nI (by omega) (by omega)
          have hcb : (nI b).toNatClampNeg = b := nI_clamp (by omega)
          obtain ⟨n1, n2, n3, n4, n5, n6⟩ := hLN l (by omega)
          obtain ⟨⟨y1, y2⟩, y3⟩ := hSY a (by omega)
          obtain ⟨⟨x1, x2⟩, x3⟩ := hSY b (by omega)
          have hlta := za_PB_lt hC hPB (κ := a) (by omega)
          have hltb := za_PB_lt hC hPB (κ := b) (by omega)
          refine And.intro hi ?_
          rw [hc, n2]
          refine pk_le (p l) 0 (fun hp => And.intro hi ?_) (fun hp => br_t (by decide) (zy_bL0 hl (by omega) (br_t rfl (zy_bS0 h1 (by omega) (br_t rfl (zy_bS0 h2 (by omega) (br_t rfl (br_f qab (And.intro hi ?_)))))))))
          · have hp0 : p l = 0 := by omega
            have y0 : tk (nI l).toNatClampNeg ≤ 0 := by rw [hc, n2, hp0]; decide
            rw [n1]
            refine pk_eq (n l) 3 (fun e3 => br_t (by decide) (zy_bL0 hl (by omega) (br_t rfl (zy_bS0 h1 (by omega) (br_t rfl (zy_bS0 h2 (by omega) (br_t rfl (br_f qab (And.intro hi (br_t y0 (And.intro hi ?_))))))))))) (fun e3 => nm_e ?_)
            · rw [hc, n1]; exact br_f (nI_nlt (b := 3) (by omega) (by omega)) ⟨rfl, hI⟩
            · have yc : ct (nI l).toNatClampNeg < 3 := by rw [hc, n1]; exact nI_lt (b := 3) (by omega) (by omega)
              refine br_c (fun hlk => And.intro hia ?_) (fun hlk => ?_)
              · rw [zb_t2 _ a b (by omega) (by omega)] at hlk
                have una : ∀ l', l' < 4 → ∀ i, i < n l' → ¬ zr_tc kd fa fb l' i a := fun l' hl' i hi' t => by
                  have := (zr_lkd hLX (j := a) (by omega)).mpr ⟨l', hl', i, hi', t⟩
                  rw [hlk.1] at this; exact absurd this (by decide)
                have unb : ∀ l', l' < 4 → ∀ i, i < n l' → ¬ zr_tc kd fa fb l' i b := fun l' hl' i hi' t => by
                  have := (zr_lkd hLX (j := b) (by omega)).mpr ⟨l', hl', i, hi', t⟩
                  rw [hlk.2] at this; exact absurd this (by decide)
                -- the case in which the action is added, for X's and Y's remaining walks
                have fin : (¬ B a = 0 ∨ ¬ B b = 0) → wX_swap_109 (fun r u' => wpY_swap (fun r' v' => r' = r ∧ i_Rel (k + 4) u' v') (nI C, nI S, nI L, 0, cur, sta, lst, ss, sz, hs, hz, ct, tk, kn, fi, se, nS, nZ, oS, oZ) (nI l) (nI a) (nI b)) (nI l) (nI a) (nI b) (((1 : Int32) <<< (nI a &&& 31)) ||| ((1 : Int32) <<< (nI b &&& 31))) (nI C) (nI S) (nI L) pe lk 0 rl cur sta lst me ms sb ow cS cU cH ha ct tk ll en ob := by
                  intro hne
                  unfold wX_swap_109
                  refine And.intro hib (And.intro hia ?_)
                  rw [hca, hcb, hSX a h1, hSX b h2]
                  refine zx_add (k := 3) (a := a) (b := b) (x := B b) (y := B a) (m := n l) (by omega) (by omega) n1 ⟨by omega, by omega, by omega, by omega, by omega⟩ rfl ?_ rfl rfl ?_
                  · rw [zn_16, show (768 : Int32) + nI (16 * a) = nI (768 + 16 * a) from nI_add 768 _, nI_add]
                  · refine br_t (by decide) (zy_bL0 hl (by omega) (br_t rfl (zy_bS0 h1 (by omega) (br_t rfl (zy_bS0 h2 (by omega) (br_t rfl (br_f qab (And.intro hi (br_t y0 (And.intro hi (br_t yc ?_)))))))))))
                    refine zy_locked hS (by omega) hL hLN hAP hAY (fun ⟨l', hl', i, hi', t⟩ => absurd t (una l' hl' i hi')) (fun _ => br_t rfl ?_)
                    refine zy_locked hS (by omega) hL hLN hAP hAY (fun ⟨l', hl', i, hi', t⟩ => absurd t (unb l' hl' i hi')) (fun _ => br_t rfl (And.intro hia ?_))
                    have yadd : wY_swap_106 (fun r' v' => r' = 0 ∧ i_Rel (k + 4) (nI C, nI S, nI L, pe, lk ||| (((1 : Int32) <<< (nI a &&& 31)) ||| ((1 : Int32) <<< (nI b &&& 31))), 0, rl, cur, sta, lst, me, ms, sb, ow, cS, cU, cH, ha, upd ct l (nI (n l + 1)), tk, upd ll l (ll l ||| (((1 : Int32) <<< (nI a &&& 31)) ||| ((1 : Int32) <<< (nI b &&& 31)))), vp_updL en (4 * l + n l) (lN (ze_v 3 a b (B b) (B a))), ob) v') (nI l) (nI a) (nI b) (nI C) (nI S) (nI L) 0 cur sta lst ss sz hs hz ct tk kn fi se nS nZ oS oZ := by
                      unfold wY_swap_106
                      refine zy_add (k := 3) (b := b) (m := n l) (by omega) (by omega) n1 (by omega) rfl rfl ⟨rfl, ?_⟩
                      rw [if_neg (by decide), if_neg (by decide)]
                      have hIX' : za_IX B (zu cd (16 + 3 * l + n l) (32 + a)) cU cS cH ow := za_IX_map hIX (fun κ hκ _ => ⟨κ, hκ, rfl⟩) (fun κ hκ _ => ⟨κ, hκ, rfl⟩) (fun κ hκ hn => by
                        have ne : κ ≠ 16 + 3 * l + n l := fun e => hn (by rw [e]; exact (hKE l (by omega) (n l) (by omega)).2.2.2.1 (fun w => by omega))
                        rw [zu_n ne]; exact hIX.2.2.2 κ hκ hn)
                      refine zz_mk (Or.inl ⟨C, S, L, _, _, _, _, _, _, _, _, _, zr_add (B' := B) (k := 3) (a := a) (b := b) (x := B b) (y := B a) (m := n l) hU0 hl (by omega) rfl hp0 (by omega) (by omega) h1 h2 (fun e => absurd rfl e) (fun e => absurd e (by decide)) (fun _ => hab) hltb hlta
                        una (fun _ => unb) (fun _ => ⟨rfl, rfl⟩) (zm_3 a b (by omega) (by omega)) hPB hIX' (fun _ _ => rfl) (fun _ _ _ _ _ => rfl) ?_ hHX hHY (fun e => absurd rfl e)⟩)
                      rw [(hKE l (by omega) (n l) (by omega)).2.2.2.1 (fun w => by omega)]; rfl
                    rw [hca, y1]
                    rcases hPB.1 a (by omega) with ea | ea
                    · rw [ea]
                      have nb := hne.resolve_left (fun w => w ea)
                      have wb := za_wf_lt hC ((hPB.1 b (by omega)).resolve_left nb)
                      refine br_t rfl (And.intro hib ?_)
                      rw [hcb, x1]
                      refine br_f (nI_ne0 (by omega) (by omega)) ?_
                      rw [ea] at yadd; exact yadd
                    · have wa := za_wf_lt hC ea
                      exact br_f (nI_ne0 (by omega) (by omega)) yadd
                rw [hca, hSX a h1]
                refine pk_eq (B a) 0 (fun ea => And.intro hib ?_) (fun ea => fin (Or.inl ea))
                rw [hcb, hSX b h2]
                refine pk_eq (B b) 0 (fun eb => ?_) (fun eb => fin (Or.inr eb))
                refine br_t (by decide) (zy_bL0 hl (by omega) (br_t rfl (zy_bS0 h1 (by omega) (br_t rfl (zy_bS0 h2 (by omega) (br_t rfl (br_f qab (And.intro hi (br_t y0 (And.intro hi (br_t yc ?_)))))))))))
                refine zy_locked hS (by omega) hL hLN hAP hAY (fun ⟨l', hl', i, hi', t⟩ => absurd t (una l' hl' i hi')) (fun _ => br_t rfl ?_)
                refine zy_locked hS (by omega) hL hLN hAP hAY (fun ⟨l', hl', i, hi', t⟩ => absurd t (unb l' hl' i hi')) (fun _ => br_t rfl (And.intro hia ?_))
                rw [hca, y1, ea]
                refine br_t rfl (And.intro hib ?_)
                rw [hcb, x1, eb]
                exact br_t rfl ⟨rfl, hI⟩
              · rw [zb_t2 _ a b (by omega) (by omega)] at hlk
                refine br_t (by decide) (zy_bL0 hl (by omega) (br_t rfl (zy_bS0 h1 (by omega) (br_t rfl (zy_bS0 h2 (by omega) (br_t rfl (br_f qab (And.intro hi (br_t y0 (And.intro hi (br_t yc ?_)))))))))))
                refine zy_locked hS (by omega) hL hLN hAP hAY (fun _ => br_f (by decide) ⟨rfl, hI⟩) (fun una => br_t rfl ?_)
                refine zy_locked hS (by omega) hL hLN hAP hAY (fun _ => br_f (by decide) ⟨rfl, hI⟩) (fun unb => absurd ⟨?_, ?_⟩ hlk)
                · exact ts_nt (fun w => by obtain ⟨l', hl', i, hi', t⟩ := (zr_lkd hLX (j := a) (by omega)).mp w; exact una l' hl' i hi' t)
                · exact ts_nt (fun w => by obtain ⟨l', hl', i, hi', t⟩ := (zr_lkd hLX (j := b) (by omega)).mp w; exact unb l' hl' i hi' t)
          · rw [hc, n2]; exact br_f (nI_nle (by omega) (by omega)) ⟨rfl, hI⟩
  · obtain ⟨⟨rfl, rfl, rfl, rfl, rfl, rfl⟩, hcfg, hr, hlst, hPB, hT0, hSY, ⟨hid, hlk⟩, hAP, ⟨hPE, hDL, hDH, hDP⟩⟩ := hD
    have h0 := zi_r hr hcfg.2.2.2.2.2
    exact br_f (by decide) (br_f h0.2.1 ⟨rfl, hI⟩)
/-! reserve -/
section
variable {fc fs fl pe lk dn rl lf : Int32} {cur sta lst sb ow cS cU cH ha ct tk ll ob ss sz hs hz kn fi se nS nZ oS oZ : Nat → Int32} {me ms en : Nat → Int64} {C S L : Nat} {B cd n p : Nat → Nat} {kd fa fb va vb : Nat → Nat → Nat}
theorem zr_hand {B' : Nat → Nat} {ow' cU' cS' cH' ha' hs' hz' : Nat → Int32} {l : Nat} (hU : zr_U C S L B cd n p kd fa fb va vb fc fs fl pe lk dn rl lf cur sta lst me ms sb ow cS cU cH ha ct tk ll en ob ss sz hs hz kn fi se nS nZ oS oZ) (hB : ∀ κ, κ ≠ 28 + l → B' κ = B κ) (hl : l < 4)
    (hPB' : za_PB C B') (hIX' : za_IX B' cd cU' cS' cH' ow') (hHX' : zr_HX B' ha') (hHY' : zr_HY L B' p hs' hz') :
    zr_U C S L B' cd n p kd fa fb va vb fc fs fl pe lk dn rl lf cur sta lst me ms sb ow' cS' cU' cH' ha' ct tk ll en ob ss sz hs' hz' kn fi se nS nZ oS oZ := by
  obtain ⟨⟨rfl, rfl, rfl, rfl, rfl⟩, hcfg, hlst, hPB, hIX, hLN, ⟨hSY, hSX⟩, ⟨hHX, hHY⟩, hCD, ⟨hAP, hAX, hAY⟩, ⟨hKE, hOX, hOY⟩, ⟨hLU, hLX⟩, ⟨hPE, hPL, hPH⟩⟩ := hU
  obtain ⟨c1, c2, c3, c4, c5, c6⟩ := hcfg
  have n3 : ∀ l', l' < 4 → n l' ≤ 3 := fun l' h => (hLN l' h).2.2.1
  refine ⟨⟨rfl, rfl, rfl, rfl, rfl⟩, ⟨c1, c2, c3, c4, c5, c6⟩, hlst, hPB', hIX', hLN, ⟨fun s h => ?_, fun s h => ?_⟩, ⟨hHX', hHY'⟩, hCD, ⟨hAP, hAX, hAY⟩, ⟨fun l' hl' i hi => ?_, fun l' hl' i hi hE => ?_, fun l' hl' i hi => ?_⟩, ⟨hLU, hLX⟩, hPE, hPL, fun s h hh => ?_, fun l' hl' h1 h2 i hi h3 s t => ?_⟩
  · rw [hB s (by omega)]; exact hSY s h
  · rw [hB s (by omega)]; exact hSX s h
  · obtain ⟨o1, o2, o3, o4, o5, o6⟩ := hKE l' hl' i hi
    rw [hB (16 + 3 * l' + i) (by omega), hB (32 + 3 * l' + i) (by omega)]
    refine ⟨o1, fun w => ?_, fun w => ?_, o4, o5, o6⟩
    · obtain ⟨b1, b2, b3, b4, b5, b6, b7, b8, b9⟩ := hAP l' hl' i w
      rw [hB _ (by omega), hB _ (by omega)]; exact o2 w
    · obtain ⟨b1, b2, b3, b4, b5, b6, b7, b8, b9⟩ := hAP l' hl' i w
      rw [hB _ (by omega), hB _ (by omega)]; exact o3 w
  · have := n3 l' hl'
    rw [hB _ (by omega)]; exact hOX l' hl' i hi hE
  · have := n3 l' hl'
    rw [hB _ (by omega)]; exact hOY l' hl' i hi
  · rw [hB s (by omega)]; exact hPH.1 s h hh
  · obtain ⟨b1, b2, b3, b4, b5, b6, b7, b8, b9⟩ := hAP l' hl' i hi
    rw [hB s (by rcases t with q | q <;> omega)]
    exact hPH.2 l' hl' h1 h2 i hi h3 s t
end
theorem zn_ru : ∀ z, z < 129 → (nI z + 7) &&& (-8) = nI ((z + 7) / 8 * 8) := by decide +kernel
theorem i_vc_reserve {k : Nat} {u : SX} {v : SY} (I : i_Rel k u v) (hk : k + 4 ≤ 2051) (v1 : Int32) (v2 : Int32) : wpX_reserve (fun r u' => wpY_reserve (fun r' v' => r' = r ∧ i_Rel (k + 4) u' v') v v1 v2) u v1 v2 := by
  refine zz_el (P := fun u v => wpX_reserve (fun r u' => wpY_reserve (fun r' v' => r' = r ∧ i_Rel (k + 4) u' v') v v1 v2) u v1 v2) ?_ I
  intro fc fs fl pe lk dn rl lf cur sta lst me ms sb ow cS cU cH ha ct tk ll en ob ss sz hs hz kn fi se nS nZ oS oZ hr0
  have hI : i_Rel (k + 4) (fc, fs, fl, pe, lk, dn, rl, cur, sta, lst, me, ms, sb, ow, cS, cU, cH, ha, ct, tk, ll, en, ob) (fc, fs, fl, lf, cur, sta, lst, ss, sz, hs, hz, ct, tk, kn, fi, se, nS, nZ, oS, oZ) := zz_mk hr0
  rcases hr0 with ⟨C, S, L, B, cd, n, p, kd, fa, fb, va, vb, hU⟩ | ⟨C, S, L, r, T, n, st, kd, fa, fb, va, vb, hD⟩
  · have hU0 := hU
    have hA := zr_ab_of hU
    obtain ⟨⟨rfl, rfl, rfl, rfl, rfl⟩, hcfg, hlst, hPB, hIX, hLN, ⟨hSY, hSX⟩, ⟨hHX, hHY⟩, hCD, ⟨hAP, hAX, hAY⟩, ⟨hKE, hOX, hOY⟩, ⟨hLU, hLX⟩, ⟨hPE, hPL, hPH⟩⟩ := hU
    have hC := hcfg.2.1
    have hS := hcfg.2.2.2.1
    have hL := hcfg.2.2.2.2.2
    refine br_t rfl ?_
    rcases pk_ix v1 (n := L) (by omega) with hb | hb | ⟨l, hl, rfl⟩
    · exact zx_bL1 (Or.inl hb) (br_f (by decide) (br_t (by decide) (zy_bL1 (Or.inl hb) (br_f (by decide) ⟨rfl, hI⟩))))
    · exact zx_bL1 (Or.inr hb) (br_f (by decide) (br_t (by decide) (zy_bL1 (Or.inr hb) (br_f (by decide) ⟨rfl, hI⟩))))
    · refine zx_bL0 hl (by omega) (br_t rfl ?_)
      have e8 := zn_8 C
      by_cases hlo : v2 < 1
      · exact br_t hlo (br_t (by decide) (zy_bL0 hl (by omega) (br_t rfl (br_t hlo ⟨rfl, hI⟩))))
      · refine br_f hlo ?_
        by_cases hhi : v2 ≤ 8 * nI C
        · refine br_t hhi ?_
          obtain ⟨g, hg1, hg2, rfl⟩ : ∃ g : Nat, 1 ≤ g ∧ g ≤ 8 * C ∧ v2 = nI g := by
            have h0 : ¬ v2 < 0 := fun z => hlo (by
              rw [Int32.lt_iff_toInt_lt] at z ⊢
              have a1 : (0 : Int32).toInt = 0 := by decide
              have a2 : (1 : Int32).toInt = 1 := by decide
              omega)
            obtain ⟨g, hg, rfl⟩ := nI_of h0
            rw [e8, nI_leI hg (by omega)] at hhi
            refine ⟨g, ?_, hhi, rfl⟩
            have a3 : ¬ g < 1 := fun z => hlo (nI_lt (b := 1) z (by omega))
            omega
          have hi : vp_in (nI l) 4 := vp_in_nI (by omega) (by omega)
          have hc : (nI l).toNatClampNeg = l := nI_clamp (by omega)
          obtain ⟨n1, n2, n3, n4, n5, n6⟩ := hLN l (by omega)
          obtain ⟨⟨y1, y2⟩, y3, y4⟩ := hHY l (by omega)
          have hlt := za_PB_lt hC hPB (κ := 28 + l) (by omega)
          refine And.intro hi ?_
          rw [hc, n2]
          refine pk_le (p l) 0 (fun hp => And.intro hi ?_) (fun hp => br_t (by decide) (zy_bL0 hl (by omega) (br_t rfl (br_f hlo (br_t hhi (And.intro hi ?_))))))
          · have hp0 : p l = 0 := by omega
            have y0 : tk (nI l).toNatClampNeg ≤ 0 := by rw [hc, n2, hp0]; decide
            rw [hHX l (by omega)]
            refine pk_eq (B (28 + l)) 0 (fun hB0 => And.intro hi ?_) (fun hB0 => ?_)
            · have yh : hz (nI l).toNatClampNeg ≤ 0 := by rw [hc, y1, hB0]; decide
              rw [n1]
              refine pk_eq (n l) 3 (fun e3 => br_t (by decide) (zy_bL0 hl (by omega) (br_t rfl (br_f hlo (br_t hhi (And.intro hi (br_t y0 (And.intro hi (br_t yh (And.intro hi ?_)))))))))) (fun e3 => ?_)
              · rw [hc, n1]; exact br_f (nI_nlt (b := 3) (by omega) (by omega)) ⟨rfl, hI⟩
              · have yc : ct (nI l).toNatClampNeg < 3 := by rw [hc, n1]; exact nI_lt (b := 3) (by omega) (by omega)
                -- the rounded size
                obtain ⟨c, hcr, xr, yr⟩ : ∃ c : Nat, ((c = 1 ∨ c = 2 ∨ c = 4) ∨ (8 ≤ c ∧ c % 8 = 0 ∧ c ≤ 128)) ∧
                    (∀ post : Int32 → Prop, post (nI c) → wpX_roundUp post (nI C, nI S, nI L, pe, lk, 0, rl, cur, sta, lst, me, ms, sb, ow, cS, cU, cH, ha, ct, tk, ll, en, ob) (nI g)) ∧
                    (∀ post : Int32 → SY → Prop, wY_reserve_101 post (nI l) (nI c) (nI C) (nI S) (nI L) 0 cur sta lst ss sz hs hz ct tk kn fi se nS nZ oS oZ → wpY_reserve post (nI C, nI S, nI L, 0, cur, sta, lst, ss, sz, hs, hz, ct, tk, kn, fi, se, nS, nZ, oS, oZ) (nI l) (nI g)) := by
                  by_cases g2 : 2 < g
                  · by_cases g4 : 4 < g
                    · refine ⟨(g + 7) / 8 * 8, Or.inr (by omega), fun post hpo => ?_, fun post hpo => ?_⟩
                      · refine pk_lt 2 g (fun _ => pk_lt 4 g (fun _ => ?_) (fun z => absurd z (by omega))) (fun z => absurd z (by omega))
                        rw [zn_ru g (by omega)]; exact hpo
                      · refine br_t (by decide) (zy_bL0 hl (by omega) (br_t rfl (br_f hlo (br_t hhi (And.intro hi (br_t y0 (And.intro hi (br_t yh (And.intro hi (br_t yc ?_))))))))))
                        refine pk_lt 2 g (fun _ => pk_lt 4 g (fun _ => And.intro (by decide) ?_) (fun z => absurd z (by omega))) (fun z => absurd z (by omega))
                        have e7 : nI g + 7 = nI (g + 7) := nI_add g 7
                        have ed : nI (g + 7) / 8 = nI ((g + 7) / 8) := pk_div (d := 8) (by omega) (by omega) (by omega)
                        have em : nI ((g + 7) / 8) * 8 = nI ((g + 7) / 8 * 8) := pk_mul _ 8
                        rw [e7, ed, em]; exact hpo
                    · refine ⟨4, Or.inl (by omega), fun post hpo => ?_, fun post hpo => ?_⟩
                      · exact pk_lt 2 g (fun _ => pk_lt 4 g (fun z => absurd z (by omega)) (fun _ => hpo)) (fun z => absurd z (by omega))
                      · refine br_t (by decide) (zy_bL0 hl (by omega) (br_t rfl (br_f hlo (br_t hhi (And.intro hi (br_t y0 (And.intro hi (br_t yh (And.intro hi (br_t yc ?_))))))))))
                        exact pk_lt 2 g (fun _ => pk_lt 4 g (fun z => absurd z (by omega)) (fun _ => hpo)) (fun z => absurd z (by omega))
                  · refine ⟨g, Or.inl (by omega), fun post hpo => ?_, fun post hpo => ?_⟩
                    · exact pk_lt 2 g (fun z => absurd z (by omega)) (fun _ => hpo)
                    · refine br_t (by decide) (zy_bL0 hl (by omega) (br_t rfl (br_f hlo (br_t hhi (And.intro hi (br_t y0 (And.intro hi (br_t yh (And.intro hi (br_t yc ?_))))))))))
                      exact pk_lt 2 g (fun z => absurd z (by omega)) (fun _ => hpo)
                refine xr _ ?_
                rcases zl_place (pe := pe) (lk := lk) (dn := 0) (rl := rl) (lf := 0) (cur := cur) (sta := sta) (lst := lst) (sb := sb) (ha := ha) (ll := ll) (ob := ob) (me := me) (ms := ms) (en := en) (se := se) hC hPB hIX hA hcr with ⟨fx, fy⟩ | ⟨q, hgood, fx, fy⟩
                · refine fx _ (br_f (by decide) (yr _ ?_))
                  exact fy _ (br_f (by decide) ⟨rfl, hI⟩)
                · have hq : q < 128 := by
                    have := hgood.1.2
                    omega
                  have ed : (256 * q + c) / 256 = q := by omega
                  have em : (256 * q + c) % 256 = c := by omega
                  refine fx _ (br_t (nI_pos' (by omega)) (And.intro hi (nm_e (And.intro hi ?_))))
                  rw [pk_us, zn_pk]
                  refine zx_mark true (q := 1) rfl (Or.inr (za_wf_up hC hgood.1)) (fun U' S' H' M => ?_)
                  refine And.intro (vp_in_nI hq (by omega)) (nm_e (yr _ ?_))
                  refine fy _ (br_t (nI_pos' (by omega)) (And.intro hi (nm_e (And.intro hi (nm_e ⟨rfl, ?_⟩)))))
                  rw [hc, nI_clamp (by omega)]
                  have tk' := za_take (κ := 28 + l) hC hPB hIX (by omega) hB0 hgood.1 hgood.2.1 (fun κ' w w' a1 a2 a3 a4 => by rw [em]; exact hgood.2.2 κ' w w' a1 a2 a3 a4) M
                  rw [ed, hCD.2.1 l (by omega), show nI (64 + l) = (64 : Int32) + nI l from (nI_add 64 l).symm] at tk'
                  refine zz_mk (Or.inl ⟨C, S, L, _, _, _, _, _, _, _, _, _, zr_hand (l := l) hU0 (fun κ hκ => zu_n hκ) (by omega) tk'.1 tk'.2 (fun l' hl' => ?_) (fun l' hl' => ?_)⟩)
                  · by_cases e : l' = l
                    · rw [e, pk_us, zu_s]
                    · rw [pk_un e, zu_n (by omega)]; exact hHX l' hl'
                  · by_cases e : l' = l
                    · rw [e, zu_s]
                      refine ⟨⟨by rw [pk_us, em], fun _ => by rw [pk_us, ed]⟩, fun w => by omega, fun w => by omega⟩
                    · rw [zu_n (by omega)]
                      obtain ⟨⟨w1, w2⟩, w3⟩ := hHY l' hl'
                      exact ⟨⟨by rw [pk_un e]; exact w1, fun w => by rw [pk_un e]; exact w2 w⟩, w3⟩
            · have wl := za_wf_lt hC ((hPB.1 (28 + l) (by omega)).resolve_left hB0)
              refine br_t (by decide) (zy_bL0 hl (by omega) (br_t rfl (br_f hlo (br_t hhi (And.intro hi (br_t y0 (And.intro hi ?_)))))))
              rw [hc, y1]
              exact br_f (nI_nle (by omega) (by omega)) ⟨rfl, hI⟩
          · rw [hc, n2]; exact br_f (nI_nle (by omega) (by omega)) ⟨rfl, hI⟩
        · exact br_f hhi (br_t (by decide) (zy_bL0 hl (by omega) (br_t rfl (br_f hlo (br_f hhi ⟨rfl, hI⟩)))))
  · obtain ⟨⟨rfl, rfl, rfl, rfl, rfl, rfl⟩, hcfg, hr, hlst, hPB, hT0, hSY, ⟨hid, hlk⟩, hAP, ⟨hPE, hDL, hDH, hDP⟩⟩ := hD
    have h0 := zi_r hr hcfg.2.2.2.2.2
    exact br_f (by decide) (br_f h0.2.1 ⟨rfl, hI⟩)
end
section
/-! a lane becomes idle; cancel -/
theorem zy_idle {fc fs fl lf : Int32} {cur sta lst ss sz hs hz ct tk kn fi se nS nZ oS oZ : Nat → Int32} {post : SY → Prop} {q : Int32} {l : Nat} (hl : l < 4) (hq : q = nI l)
    (H : post (fc, fs, fl, lf, cur, sta, lst, ss, sz, hs, upd hz l 0, upd ct l 0, upd tk l 0, kn, fi, se, nS, nZ, oS, oZ)) : wpY_idle post (fc, fs, fl, lf, cur, sta, lst, ss, sz, hs, hz, ct, tk, kn, fi, se, nS, nZ, oS, oZ) q := by
  subst hq
  have hc : (nI l).toNatClampNeg = l := nI_clamp (by omega)
  have hi : vp_in (nI l) 4 := vp_in_nI hl (by omega)
  refine And.intro hi ?_
  rw [hc]
  exact nm_e (And.intro hi (nm_e (And.intro hi (nm_e H))))
section
variable {fc fs fl pe lk dn rl lf : Int32} {cur sta lst sb ow cS cU cH ha ct tk ll ob ss sz hs hz kn fi se nS nZ oS oZ : Nat → Int32} {me ms en : Nat → Int64} {C S L : Nat} {B cd n p : Nat → Nat} {kd fa fb va vb : Nat → Nat → Nat}
def zk_l (l κ : Nat) : Prop := κ = 28 + l ∨ (16 + 3 * l ≤ κ ∧ κ < 19 + 3 * l) ∨ (32 + 3 * l ≤ κ ∧ κ < 35 + 3 * l)
theorem zr_idle {B' : Nat → Nat} {pe' : Int32} {ms' : Nat → Int64} {cU' cS' cH' tk' : Nat → Int32} {l : Nat} (hU : zr_U C S L B cd n p kd fa fb va vb fc fs fl pe lk dn rl lf cur sta lst me ms sb ow cS cU cH ha ct tk ll en ob ss sz hs hz kn fi se nS nZ oS oZ) (hl : l < 4)
    (hB0 : ∀ κ, κ < 44 → zk_l l κ → B' κ = 0) (hBo : ∀ κ, κ < 44 → ¬ zk_l l κ → B' κ = B κ)
    (hPB' : za_PB C B') (hIX' : za_IX B' cd cU' cS' cH' ow)
    (hPE' : zr_PE pe' me ms') (hms : ∀ j, j < 32 → ¬ (16 + 4 * l ≤ j ∧ j < 20 + 4 * l) → ms' j = ms j) (hlog : ∀ i, i < 4 → me (16 + 4 * l + i) = 0 ∧ ms' (16 + 4 * l + i) = 0)
    (hna : ¬ (n l + 2 ≤ p l ∧ p l ≤ 2 * n l + 2)) (htk : tk' l = 0) (htk' : ∀ l', l' ≠ l → tk' l' = tk l') :
    zr_U C S L B' cd (zu n l 0) (zu p l 0) kd fa fb va vb fc fs fl pe' (lk &&& (ll l ^^^ (-1))) dn rl lf cur sta lst me ms' sb ow cS' cU' cH' (upd ha l 0) (upd ct l 0) tk' (upd ll l 0) en ob ss sz hs (upd hz l 0) kn fi se nS nZ oS oZ := by
  obtain ⟨⟨rfl, rfl, rfl, rfl, rfl⟩, hcfg, hlst, hPB, hIX, hLN, ⟨hSY, hSX⟩, ⟨hHX, hHY⟩, hCD, ⟨hAP, hAX, hAY⟩, ⟨hKE, hOX, hOY⟩, ⟨hLU, hLX⟩, ⟨hPE, hPL, hPH⟩⟩ := hU
  obtain ⟨c1, c2, c3, c4, c5, c6⟩ := hcfg
  have n3 : ∀ l', l' < 4 → n l' ≤ 3 := fun l' h => (hLN l' h).2.2.1
  have ne : ∀ l' i, i < zu n l 0 l' → l' ≠ l := fun l' i h e => by rw [e, zu_s] at h; omega
  have lt : ∀ l' i, i < zu n l 0 l' → i < n l' := fun l' i h => by rw [zu_n (ne l' i h)] at h; exact h
  have bs : ∀ s, s < 16 → B' s = B s := fun s h => hBo s (by omega) (by unfold zk_l; omega)
  have bo : ∀ l' i, l' < 4 → l' ≠ l → i < 3 → B' (16 + 3 * l' + i) = B (16 + 3 * l' + i) ∧ B' (32 + 3 * l' + i) = B (32 + 3 * l' + i) := fun l' i h1 h2 h3 => ⟨hBo _ (by omega) (by unfold zk_l; omega), hBo _ (by omega) (by unfold zk_l; omega)⟩
  have En : ∀ l' i', l' ≠ l → (zr_E (zu n l 0) (zu p l 0) l' i' ↔ zr_E n p l' i') := by
    intro l' i' h; unfold zr_E; rw [zu_n h, zu_n h]
  refine ⟨⟨rfl, rfl, rfl, rfl, rfl⟩, ⟨c1, c2, c3, c4, c5, c6⟩, hlst, hPB', hIX', fun l' hl' => ?_, ⟨fun s h => ?_, fun s h => ?_⟩, ⟨fun l' hl' => ?_, fun l' hl' => ?_⟩, hCD, ⟨fun l' hl' i hi => hAP l' hl' i (lt l' i hi), fun l' hl' i hi => hAX l' hl' i (lt l' i hi), fun l' hl' i hi => hAY l' hl' i (lt l' i hi)⟩,
    ⟨fun l' hl' i hi => ?_, fun l' hl' i hi hE => ?_, fun l' hl' i hi => ?_⟩, ⟨fun l1 l2 h1 h2 i1 i2 j1 j2 s t1 t2 => hLU l1 l2 h1 h2 i1 i2 (lt l1 i1 j1) (lt l2 i2 j2) s t1 t2, fun l' hl' j hj => ?_, fun j hj => ?_⟩, hPE', fun l' hl' => ?_, fun s h hh => ?_, fun l' hl' h1 h2 i hi h3 s t => ?_⟩
  · obtain ⟨a1, a2, a3, a4, a5, a6⟩ := hLN l' hl'
    by_cases e : l' = l
    · rw [e, zu_s, zu_s, pk_us, htk]
      exact ⟨rfl, rfl, by omega, by omega, fun _ => rfl, fun _ => rfl⟩
    · rw [zu_n e, zu_n e, pk_un e, htk' l' e]; exact ⟨a1, a2, a3, a4, a5, a6⟩
  · rw [bs s h]; exact hSY s h
  · rw [bs s (by omega)]; exact hSX s h
  · by_cases e : l' = l
    · rw [e, pk_us, hB0 _ (by omega) (Or.inl rfl)]; rfl
    · rw [pk_un e, hBo _ (by omega) (by unfold zk_l; omega)]; exact hHX l' hl'
  · by_cases e : l' = l
    · rw [e, hB0 _ (by omega) (Or.inl rfl)]
      exact ⟨⟨pk_us, fun w => absurd rfl w⟩, fun _ => rfl, fun _ => rfl⟩
    · rw [hBo _ (by omega) (by unfold zk_l; omega), zu_n e]
      obtain ⟨⟨w1, w2⟩, w3⟩ := hHY l' hl'
      exact ⟨⟨by rw [pk_un e]; exact w1, w2⟩, w3⟩
  · -- KE
    by_cases e : l' = l
    · have h0 : ¬ i < zu n l 0 l' := fun w => ne l' i w e
      refine ⟨fun w => absurd w h0, fun w => absurd w h0, fun w => absurd w h0, fun _ => hB0 _ (by omega) (by unfold zk_l; omega), fun _ => hB0 _ (by omega) (by unfold zk_l; omega), fun w => absurd w h0⟩
    · obtain ⟨o1, o2, o3, o4, o5, o6⟩ := hKE l' hl' i hi
      rw [(bo l' i hl' e hi).1, (bo l' i hl' e hi).2, zu_n e, En l' i e]
      refine ⟨o1, fun w => ?_, fun w => ?_, o4, o5, o6⟩
      · obtain ⟨b1, b2, b3, b4, b5, b6, b7, b8, b9⟩ := hAP l' hl' i w
        rw [bs _ (by omega), bs _ (by omega)]; exact o2 w
      · obtain ⟨b1, b2, b3, b4, b5, b6, b7, b8, b9⟩ := hAP l' hl' i w
        rw [bs _ (by omega), bs _ (by omega)]; exact o3 w
  · have e := ne l' i hi
    have := n3 l' hl'
    have h' := lt l' i hi
    rw [(bo l' i hl' e (by omega)).2]
    exact hOX l' hl' i h' ((En l' i e).mp hE)
  · have e := ne l' i hi
    have := n3 l' hl'
    have h' := lt l' i hi
    rw [(bo l' i hl' e (by omega)).2, En l' i e]
    exact hOY l' hl' i h'
  · by_cases e : l' = l
    · rw [e, pk_us, b_0, zu_s]
      exact ⟨fun w => absurd w (by decide), fun ⟨i, hi, _⟩ => absurd hi (by omega)⟩
    · rw [pk_un e, zu_n e]; exact hLX.1 l' hl' j hj
  · rw [b_and, zb_nt _ j hj, Bool.and_eq_true, hLX.2 j hj]
    constructor
    · rintro ⟨⟨l', hl', t⟩, w⟩
      have e : l' ≠ l := fun e => by rw [e] at t; rw [t] at w; exact absurd w (by decide)
      exact ⟨l', hl', by rw [pk_un e]; exact t⟩
    · rintro ⟨l', hl', t⟩
      by_cases e : l' = l
      · rw [e, pk_us, b_0] at t; exact absurd t (by decide)
      · rw [pk_un e] at t
        refine ⟨⟨l', hl', t⟩, ?_⟩
        cases w : bt (ll l) j
        · rfl
        · obtain ⟨i1, g1, t1⟩ := (hLX.1 l' hl' j hj).mp t
          obtain ⟨i2, g2, t2⟩ := (hLX.1 l hl j hj).mp w
          exact absurd (hLU l' l hl' hl i1 i2 g1 g2 j t1 t2).1 e
  · -- PL
    by_cases e : l' = l
    · subst e
      rw [zu_s, zu_s]
      refine ⟨fun _ => ⟨fun i hi => (hlog i hi).2, fun i hi => ?_, ?_⟩, fun w => by omega, fun w => by omega, fun w => by omega⟩
      · rw [if_neg (by omega)]; exact (hlog i (by omega)).1
      · rw [if_neg (by omega)]; exact (hlog 3 (by omega)).1
    · have em : ∀ i, i < 4 → ms' (16 + 4 * l' + i) = ms (16 + 4 * l' + i) := fun i hi => hms _ (by omega) (by omega)
      obtain ⟨r1, r2, r3, r4⟩ := hPL l' hl'
      have := n3 l' hl'
      rw [zu_n e, zu_n e]
      refine ⟨fun w => ⟨fun i hi => ?_, (r1 w).2⟩, fun w1 w2 => ⟨fun i hi => ?_, (r2 w1 w2).2.1, ?_⟩, fun w => ⟨fun i hi => ?_, (r3 w).2.1, ?_⟩, r4⟩
      · rw [em i hi]; exact (r1 w).1 i hi
      · rw [em i (by omega)]; exact (r2 w1 w2).1 i hi
      · rw [em 3 (by omega)]; exact (r2 w1 w2).2.2
      · rw [em i (by omega)]; exact (r3 w).1 i hi
      · rw [em 3 (by omega)]; exact (r3 w).2.2
  · rw [bs s h, hms s (by omega) (by omega)]
    refine hPH.1 s h (fun l' hl' i hi t w => ?_)
    by_cases e : l' = l
    · rw [e] at w; exact hna w
    · refine hh l' hl' i (by rw [zu_n e]; exact hi) t ?_
      rw [zu_n e, zu_n e]; exact w
  · have e := ne l' i hi
    rw [zu_n e] at hi h1 h2 h3
    rw [zu_n e] at h1 h2 h3
    obtain ⟨b1, b2, b3, b4, b5, b6, b7, b8, b9⟩ := hAP l' hl' i hi
    rw [bs s (by rcases t with q | q <;> omega)]
    exact hPH.2 l' hl' h1 h2 i hi h3 s t
end
section
variable {fc fs fl pe lk dn rl : Int32} {cur sta lst sb ow cS cU cH ha ct tk ll ob : Nat → Int32} {me ms en : Nat → Int64} {C S L : Nat} {B cd n p : Nat → Nat} {kd fa fb va vb : Nat → Nat → Nat}
theorem zx_can_l {post : Int32 → SX → Prop} {l : Nat} (hS : S ≤ 16) (hC : C ≤ 16) (hl : l < 4) (hn3 : n l ≤ 3) (hp : p l = 0) (hct : ct l = nI (n l)) (hAP : zr_AP S n kd fa fb va vb) (hAX : zr_AX n kd fa fb va vb en) (hKE : zr_KE (zr_E n p) n kd fa fb va vb B cd)
    (H : ∀ Bc U' S' H', (∀ κ, κ < 44 → (κ = 28 + l ∨ (16 + 3 * l ≤ κ ∧ κ < 16 + 3 * l + n l) → Bc κ = 0) ∧ (¬ (κ = 28 + l ∨ (16 + 3 * l ≤ κ ∧ κ < 16 + 3 * l + n l)) → Bc κ = B κ)) → za_PB C Bc → za_IX Bc cd U' S' H' ow →
      post 0 (fc, fs, fl, pe, lk &&& (ll l ^^^ (-1)), dn, rl, cur, sta, lst, me, ms, sb, ow, S', U', H', upd ha l 0, upd ct l 0, upd tk l 0, upd ll l 0, en, ob)) :
    ∀ d i Bc U' S' H', i + d = n l → (∀ κ, κ < 44 → (κ = 28 + l ∨ (16 + 3 * l ≤ κ ∧ κ < 16 + 3 * l + i) → Bc κ = 0) ∧ (¬ (κ = 28 + l ∨ (16 + 3 * l ≤ κ ∧ κ < 16 + 3 * l + i)) → Bc κ = B κ)) → za_PB C Bc → za_IX Bc cd U' S' H' ow → ∀ m, d < m →
      wX_cancel_47 post (nI l) m (nI (4 * l + i)) fc fs fl pe lk dn rl cur sta lst me ms sb ow S' U' H' ha ct tk ll en ob := by
  have hc : (nI l).toNatClampNeg = l := nI_clamp (by omega)
  have hi4 : vp_in (nI l) 4 := vp_in_nI hl (by omega)
  have en4 : (4 : Int32) * nI l + nI (n l) = nI (4 * l + n l) := by rw [zn_4, nI_add]
  intro d
  induction d with
  | zero =>
    intro i Bc U' S' H' hi hB P X m hm
    obtain ⟨m, rfl⟩ : ∃ m', m = m' + 1 := ⟨m - 1, by omega⟩
    refine And.intro hi4 ?_
    rw [hc, hct]
    refine pk_le (4 * l + n l) (4 * l + i) (fun _ => ?_) (fun z => absurd z (by omega)) en4
    refine zx_idle hl rfl (H Bc U' S' H' ?_ P X)
    have e : i = n l := by omega
    rw [e] at hB; exact hB
  | succ d ih =>
    intro i Bc U' S' H' hi hB P X m hm
    obtain ⟨m, rfl⟩ : ∃ m', m = m' + 1 := ⟨m - 1, by omega⟩
    refine And.intro hi4 ?_
    rw [hc, hct]
    refine pk_le (4 * l + n l) (4 * l + i) (fun z => absurd z (by omega)) (fun _ => ?_) en4
    have hi16 : vp_in (nI (4 * l + i)) 16 := vp_in_nI (by omega) (by omega)
    have hci : (nI (4 * l + i)).toNatClampNeg = 4 * l + i := nI_clamp (by omega)
    obtain ⟨b1, b2, b3, b4, b5, b6, b7, b8, b9⟩ := hAP l hl i (by omega)
    have ok : ze_ok (kd l i) (fa l i) (fb l i) (va l i) (vb l i) := ⟨by omega, by omega, by omega, b8, b9⟩
    obtain ⟨o1, o2, o3, o4, o5, o6⟩ := hKE l hl i (by omega)
    have nE : ¬ zr_E n p l i := fun w => by unfold zr_E at w; omega
    refine And.intro hi16 ?_
    rw [hci, hAX l hl i (by omega)]
    refine nm_r (ze_x ok) (And.intro hi16 ?_)
    rw [ze_k ok]
    have hBi : Bc (16 + 3 * l + i) = B (16 + 3 * l + i) := (hB _ (by omega)).2 (by omega)
    have e1 : lN (kd l i) = 1 ↔ kd l i = 1 := pk_lEQ (b := 1) (by omega) (by omega)
    refine ek_if e1 (fun hk1 => ?_) (fun hk1 => ?_)
    · have ev : Bc (16 + 3 * l + i) = va l i := by rw [hBi]; exact o1 (by omega) nE hk1
      rw [← ev]
      refine zx_mark false (q := 0) rfl ((P.1 _ (by omega)).imp id (za_wf_up hC)) (fun U2 S2 H2 M => ?_)
      obtain ⟨P', X'⟩ := za_drop P X (κ := 16 + 3 * l + i) (by omega) M
      refine nm_r (nI_1 _) (ih (i + 1) _ _ _ _ (by omega) (fun κ hκ => ?_) P' X' m (by omega))
      by_cases e : κ = 16 + 3 * l + i
      · rw [e, zu_s]; exact ⟨fun _ => rfl, fun w => absurd (by omega) w⟩
      · rw [zu_n e]
        exact ⟨fun w => (hB κ hκ).1 (by omega), fun w => (hB κ hκ).2 (by omega)⟩
    · refine nm_r (nI_1 _) (ih (i + 1) Bc _ _ _ (by omega) (fun κ hκ => ?_) P X m (by omega))
      by_cases e : κ = 16 + 3 * l + i
      · rw [e]
        refine ⟨fun _ => ?_, fun w => absurd (by omega) w⟩
        rw [hBi]; exact o4 (fun w => hk1 w.2.1)
      · exact ⟨fun w => (hB κ hκ).1 (by omega), fun w => (hB κ hκ).2 (by omega)⟩
end
theorem i_vc_cancel {k : Nat} {u : SX} {v : SY} (I : i_Rel k u v) (hk : k + 4 ≤ 2051) (v1 : Int32) : wpX_cancel (fun r u' => wpY_cancel (fun r' v' => r' = r ∧ i_Rel (k + 4) u' v') v v1) u v1 := by
  refine zz_el (P := fun u v => wpX_cancel (fun r u' => wpY_cancel (fun r' v' => r' = r ∧ i_Rel (k + 4) u' v') v v1) u v1) ?_ I
  intro fc fs fl pe lk dn rl lf cur sta lst me ms sb ow cS cU cH ha ct tk ll en ob ss sz hs hz kn fi se nS nZ oS oZ hr0
  have hI : i_Rel (k + 4) (fc, fs, fl, pe, lk, dn, rl, cur, sta, lst, me, ms, sb, ow, cS, cU, cH, ha, ct, tk, ll, en, ob) (fc, fs, fl, lf, cur, sta, lst, ss, sz, hs, hz, ct, tk, kn, fi, se, nS, nZ, oS, oZ) := zz_mk hr0
  rcases hr0 with ⟨C, S, L, B, cd, n, p, kd, fa, fb, va, vb, hU⟩ | ⟨C, S, L, r, T, n, st, kd, fa, fb, va, vb, hD⟩
  · have hU0 := hU
    obtain ⟨⟨rfl, rfl, rfl, rfl, rfl⟩, hcfg, hlst, hPB, hIX, hLN, ⟨hSY, hSX⟩, ⟨hHX, hHY⟩, hCD, ⟨hAP, hAX, hAY⟩, ⟨hKE, hOX, hOY⟩, ⟨hLU, hLX⟩, ⟨hPE, hPL, hPH⟩⟩ := hU
    have hC := hcfg.2.1
    have hS := hcfg.2.2.2.1
    have hL := hcfg.2.2.2.2.2
    refine br_t rfl ?_
    rcases pk_ix v1 (n := L) (by omega) with hb | hb | ⟨l, hl, rfl⟩
    · exact zx_bL1 (Or.inl hb) (br_f (by decide) (br_t (by decide) (zy_bL1 (Or.inl hb) (br_f (by decide) ⟨rfl, hI⟩))))
    · exact zx_bL1 (Or.inr hb) (br_f (by decide) (br_t (by decide) (zy_bL1 (Or.inr hb) (br_f (by decide) ⟨rfl, hI⟩))))
    · refine zx_bL0 hl (by omega) (br_t rfl ?_)
      have hi : vp_in (nI l) 4 := vp_in_nI (by omega) (by omega)
      have hc : (nI l).toNatClampNeg = l := nI_clamp (by omega)
      obtain ⟨n1, n2, n3, n4, n5, n6⟩ := hLN l (by omega)
      refine And.intro hi ?_
      rw [hc, n2]
      refine pk_le (p l) 0 (fun hp => And.intro hi ?_) (fun hp => br_t (by decide) (zy_bL0 hl (by omega) (br_t rfl (And.intro hi ?_))))
      · have hp0 : p l = 0 := by omega
        have y0 : tk (nI l).toNatClampNeg ≤ 0 := by rw [hc, n2, hp0]; decide
        rw [hHX l (by omega)]
        refine zx_mark false (q := 0) rfl ((hPB.1 _ (by omega)).imp id (za_wf_up hC)) (fun U2 S2 H2 M => ?_)
        obtain ⟨P', X'⟩ := za_drop hPB hIX (κ := 28 + l) (by omega) M
        refine nm_r (zn_4 l) (Exists.intro 4 ?_)
        refine zx_can_l hS hC (by omega) n3 hp0 n1 hAP hAX hKE (fun Bc U' S' H' hB P X => ?_) (n l) 0 _ _ _ _ (by omega) (fun κ hκ => ?_) P' X' 4 (by omega)
        · refine br_t (by decide) (zy_bL0 hl (by omega) (br_t rfl (And.intro hi (br_t y0 (zy_idle (by omega) rfl ⟨rfl, ?_⟩)))))
          have nE : ∀ i, ¬ zr_E n p l i := fun i w => by unfold zr_E at w; omega
          obtain ⟨r1, r2, r3⟩ := (hPL l (by omega)).1 (by omega)
          refine zz_mk (Or.inl ⟨C, S, L, _, _, _, _, _, _, _, _, _, zr_idle (B' := Bc) (l := l) hU0 (by omega) (fun κ hκ w => ?_) (fun κ hκ w => ?_) P X hPE (fun _ _ _ => rfl) (fun i h => ⟨?_, r1 i h⟩) (by omega) pk_us (fun l' h => pk_un h)⟩)
          · by_cases q : κ = 28 + l ∨ (16 + 3 * l ≤ κ ∧ κ < 16 + 3 * l + n l)
            · exact (hB κ hκ).1 q
            · rw [(hB κ hκ).2 q]
              unfold zk_l at w
              by_cases q2 : κ < 32
              · have e : κ = 16 + 3 * l + (κ - 16 - 3 * l) := by omega
                rw [e]; exact (hKE l (by omega) (κ - 16 - 3 * l) (by omega)).2.2.2.1 (fun z => by omega)
              · have e : κ = 32 + 3 * l + (κ - 32 - 3 * l) := by omega
                rw [e]; exact (hKE l (by omega) (κ - 32 - 3 * l) (by omega)).2.2.2.2.1 (fun z => nE _ z.2)
          · refine (hB κ hκ).2 (fun q => w ?_)
            unfold zk_l; omega
          · by_cases h3 : i < 3
            · rw [r2 i h3, if_neg (by omega)]
            · have e : i = 3 := by omega
              rw [e, r3, if_neg (by omega)]
        · by_cases e : κ = 28 + l
          · rw [e, zu_s]; exact ⟨fun _ => rfl, fun w => absurd (Or.inl rfl) w⟩
          · rw [zu_n e]; exact ⟨fun w => by omega, fun _ => rfl⟩
      · rw [hc, n2]; exact br_f (nI_nle (by omega) (by omega)) ⟨rfl, hI⟩
  · obtain ⟨⟨rfl, rfl, rfl, rfl, rfl, rfl⟩, hcfg, hr, hlst, hPB, hT0, hSY, ⟨hid, hlk⟩, hAP, ⟨hPE, hDL, hDH, hDP⟩⟩ := hD
    have h0 := zi_r hr hcfg.2.2.2.2.2
    exact br_f (by decide) (br_f h0.2.1 ⟨rfl, hI⟩)
end
section
/-! actions take effect, in plain Lean -/
def zc_st (kd fa fb : Nat → Nat → Nat) (l i : Nat) (B : Nat → Nat) : Nat → Nat := fun κ =>
  if kd l i = 3 then (if κ = fb l i then B (fa l i) else if κ = fa l i then B (fb l i) else B κ)
  else (if κ = fa l i then B (16 + 3 * l + i) else if κ = 16 + 3 * l + i then 0 else if κ = 32 + 3 * l + i then B (fa l i) else B κ)
def zc_B (kd fa fb : Nat → Nat → Nat) (l : Nat) (B : Nat → Nat) : Nat → Nat → Nat
  | 0 => B
  | j + 1 => zc_st kd fa fb l j (zc_B kd fa fb l B j)
def zc_E (E : Nat → Nat → Prop) (l j : Nat) : Nat → Nat → Prop := fun l' i' => (l' = l ∧ i' < j) ∨ (l' ≠ l ∧ E l' i')
section
variable {C S L : Nat} {B cd n p : Nat → Nat} {kd fa fb va vb : Nat → Nat → Nat} {E : Nat → Nat → Prop} {l j : Nat}
theorem zc_oth {κ : Nat} (h1 : ¬ zr_tc kd fa fb l j κ) (h2 : κ ≠ 16 + 3 * l + j) (h3 : κ ≠ 32 + 3 * l + j) : zc_st kd fa fb l j B κ = B κ := by
  unfold zc_st
  by_cases e : kd l j = 3
  · rw [if_pos e, if_neg (fun w => h1 (Or.inr ⟨e, w.symm⟩)), if_neg (fun w => h1 (Or.inl w.symm))]
  · rw [if_neg e, if_neg (fun w => h1 (Or.inl w.symm)), if_neg h2, if_neg h3]
theorem zc_3o {κ : Nat} (e : kd l j = 3) (h1 : κ ≠ fa l j) (h2 : κ ≠ fb l j) : zc_st kd fa fb l j B κ = B κ := by
  unfold zc_st
  rw [if_pos e, if_neg h2, if_neg h1]
theorem zc_3 (e : kd l j = 3) (ne : fa l j ≠ fb l j) : zc_st kd fa fb l j B (fa l j) = B (fb l j) ∧ zc_st kd fa fb l j B (fb l j) = B (fa l j) := by
  unfold zc_st
  exact ⟨by rw [if_pos e, if_neg ne, if_pos rfl], by rw [if_pos e, if_pos rfl]⟩
theorem zc_n3 (e : kd l j ≠ 3) (h : fa l j < 16) : zc_st kd fa fb l j B (fa l j) = B (16 + 3 * l + j) ∧ zc_st kd fa fb l j B (16 + 3 * l + j) = 0 ∧ zc_st kd fa fb l j B (32 + 3 * l + j) = B (fa l j) := by
  unfold zc_st
  refine ⟨by rw [if_neg e, if_pos rfl], by rw [if_neg e, if_neg (by omega), if_pos rfl], by rw [if_neg e, if_neg (by omega), if_neg (by omega), if_pos rfl]⟩
theorem zc_K (hS : S ≤ 16) (hl : l < 4) (hj : j < n l) (n3 : ∀ l', l' < 4 → n l' ≤ 3) (hAP : zr_AP S n kd fa fb va vb) (hLU : zr_LU n kd fa fb)
    (K : zr_KE (zc_E E l j) n kd fa fb va vb B cd) : zr_KE (zc_E E l (j + 1)) n kd fa fb va vb (zc_st kd fa fb l j B) cd := by
  intro l' hl' i hi
  obtain ⟨o1, o2, o3, o4, o5, o6⟩ := K l' hl' i hi
  have hn3 := n3 l hl
  by_cases e : l' = l ∧ i = j
  · obtain ⟨e1, e2⟩ := e
    subst e1; subst e2
    obtain ⟨b1, b2, b3, b4, b5, b6, b7, b8, b9⟩ := hAP l' hl' i hj
    have nE : ¬ zc_E E l' i l' i := fun w => by
      rcases w with w | w
      · omega
      · exact w.1 rfl
    have yE : zc_E E l' (i + 1) l' i := Or.inl ⟨rfl, by omega⟩
    refine ⟨fun _ w => absurd yE w, fun _ w => absurd yE w, fun _ _ => ?_, fun _ => ?_, fun w => absurd ⟨hj, yE⟩ w, o6⟩
    · by_cases k3 : kd l' i = 3
      · obtain ⟨z1, z2⟩ := zc_3 (B := B) k3 (b7 k3)
        obtain ⟨q1, q2⟩ := o2 hj nE k3
        rw [z1, z2]; exact ⟨q1.symm, fun _ => q2.symm⟩
      · obtain ⟨z1, z2, z3⟩ := zc_n3 (B := B) (fa := fa) (fb := fb) k3 (by omega)
        rw [z1]
        refine ⟨?_, fun w => absurd w k3⟩
        by_cases k1 : kd l' i = 1
        · exact o1 hj nE k1
        · rw [o4 (fun w => k1 w.2.1), b6 (by omega)]
    · by_cases k3 : kd l' i = 3
      · rw [zc_3o k3 (by omega) (by omega)]
        exact o4 (fun w => by have := w.2.1; omega)
      · exact (zc_n3 (B := B) k3 (by omega)).2.1
  · have hE : zc_E E l (j + 1) l' i ↔ zc_E E l j l' i := by
      unfold zc_E
      constructor
      · rintro (w | w)
        · exact Or.inl ⟨w.1, by
            have : i ≠ j := fun q => e ⟨w.1, q⟩
            omega⟩
        · exact Or.inr w
      · rintro (w | w)
        · exact Or.inl ⟨w.1, by omega⟩
        · exact Or.inr w
    obtain ⟨b1, b2, b3, b4, b5, b6, b7, b8, b9⟩ := hAP l hl j hj
    have slot : ∀ s, zr_tc kd fa fb l j s → s < 16 := fun s w => by rcases w with w | w <;> omega
    have kp : zc_st kd fa fb l j B (16 + 3 * l' + i) = B (16 + 3 * l' + i) := zc_oth (fun w => by have := slot _ w; omega) (fun w => e ⟨by omega, by omega⟩) (by omega)
    have ko : zc_st kd fa fb l j B (32 + 3 * l' + i) = B (32 + 3 * l' + i) := zc_oth (fun w => by have := slot _ w; omega) (by omega) (fun w => e ⟨by omega, by omega⟩)
    have ks : i < n l' → ∀ s, zr_tc kd fa fb l' i s → zc_st kd fa fb l j B s = B s := fun hi' s t => by
      obtain ⟨d1, d2, d3, d4, d5, d6, d7, d8, d9⟩ := hAP l' hl' i hi'
      have : s < 16 := by rcases t with w | w <;> omega
      exact zc_oth (fun w => e (hLU l' l hl' hl i j hi' hj s t w)) (by omega) (by omega)
    rw [kp, ko, hE]
    refine ⟨o1, fun w q1 q2 => ?_, fun w q1 => ?_, o4, o5, o6⟩
    · rw [ks w (fa l' i) (Or.inl rfl), ks w (fb l' i) (Or.inr ⟨q2, rfl⟩)]; exact o2 w q1 q2
    · rw [ks w (fa l' i) (Or.inl rfl)]
      refine ⟨(o3 w q1).1, fun q2 => ?_⟩
      rw [ks w (fb l' i) (Or.inr ⟨q2, rfl⟩)]; exact (o3 w q1).2 q2
end
section
variable {C S L : Nat} {B cd n p : Nat → Nat} {kd fa fb va vb : Nat → Nat → Nat} {E : Nat → Nat → Prop} {l j : Nat}
theorem zc_PI {C : Nat} {U Z H O O' : Nat → Int32} (hl : l < 4) (hj3 : j < 3) (hS : S ≤ 16) (hfa : fa l j < S) (hfb : fb l j < S) (h7 : kd l j = 3 → fa l j ≠ fb l j)
    (P : za_PB C B) (X : za_IX B cd U Z H O) (hCD : zr_CD cd) (h0 : B (32 + 3 * l + j) = 0)
    (h3 : kd l j = 3 → ∃ O1 : Nat → Int32, (O1 = if B (fb l j) = 0 then O else upd O (B (fb l j) / 256) (nI (fa l j))) ∧ (O' = if B (fa l j) = 0 then O1 else upd O1 (B (fa l j) / 256) (nI (fb l j))))
    (hn : kd l j ≠ 3 → ∃ O1 : Nat → Int32, (O1 = if B (fa l j) = 0 then O else upd O (B (fa l j) / 256) (nI (96 + l))) ∧ (O' = if B (16 + 3 * l + j) = 0 then O1 else upd O1 (B (16 + 3 * l + j) / 256) (nI (fa l j)))) :
    za_PB C (zc_st kd fa fb l j B) ∧ za_IX (zc_st kd fa fb l j B) cd U Z H O' := by
  by_cases k3 : kd l j = 3
  · obtain ⟨O1, e1, e2⟩ := h3 k3
    have := za_swap P X (a := fa l j) (b := fb l j) (by omega) (by omega) (h7 k3) (O1 := O1) (O2 := O') (by rw [hCD.1 _ (by omega)]; exact e1) (by rw [hCD.1 _ (by omega)]; exact e2)
    have ef : zc_st kd fa fb l j B = zu (zu B (fa l j) (B (fb l j))) (fb l j) (B (fa l j)) := by
      funext κ; unfold zc_st zu; rw [if_pos k3]
    rw [ef]; exact this
  · obtain ⟨O1, e1, e2⟩ := hn k3
    obtain ⟨P1, X1⟩ := za_move P X (κ1 := fa l j) (κ2 := 32 + 3 * l + j) (cd' := cd) (by omega) (by omega) (by omega) h0 (fun _ _ _ => rfl)
    rw [hCD.2.2 l hl j hj3, ← e1] at X1
    obtain ⟨P2, X2⟩ := za_move P1 X1 (κ1 := 16 + 3 * l + j) (κ2 := fa l j) (cd' := cd) (by omega) (by omega) (by omega) (by rw [zu_n (by omega)]; exact zu_s) (fun _ _ _ => rfl)
    have eb : zu (zu B (fa l j) 0) (32 + 3 * l + j) (B (fa l j)) (16 + 3 * l + j) = B (16 + 3 * l + j) := by rw [zu_n (by omega), zu_n (by omega)]
    rw [eb, hCD.1 _ (by omega), ← e2] at X2
    rw [eb] at P2
    have ef : zc_st kd fa fb l j B = zu (zu (zu (zu B (fa l j) 0) (32 + 3 * l + j) (B (fa l j))) (16 + 3 * l + j) 0) (fa l j) (B (16 + 3 * l + j)) := by
      funext κ
      unfold zc_st
      rw [if_neg k3]
      by_cases q1 : κ = fa l j
      · rw [if_pos q1, q1, zu_s]
      · rw [if_neg q1, zu_n q1]
        by_cases q2 : κ = 16 + 3 * l + j
        · rw [if_pos q2, q2, zu_s]
        · rw [if_neg q2, zu_n q2]
          by_cases q3 : κ = 32 + 3 * l + j
          · rw [if_pos q3, q3, zu_s]
          · rw [if_neg q3, zu_n q3, zu_n q1]
    rw [ef]; exact ⟨P2, X2⟩
end
end
section
/-! X.commit's loop, Y.effect -/
section
variable {C S L : Nat} {B cd n p : Nat → Nat} {kd fa fb va vb : Nat → Nat → Nat} {E : Nat → Nat → Prop} {l : Nat}
theorem zc_Kall (hS : S ≤ 16) (hl : l < 4) (n3 : ∀ l', l' < 4 → n l' ≤ 3) (hAP : zr_AP S n kd fa fb va vb) (hLU : zr_LU n kd fa fb)
    (K : zr_KE (zc_E E l 0) n kd fa fb va vb B cd) : ∀ j, j ≤ n l → zr_KE (zc_E E l j) n kd fa fb va vb (zc_B kd fa fb l B j) cd := by
  intro j
  induction j with
  | zero => intro _; exact K
  | succ j ih => intro h; exact zc_K hS hl (by omega) n3 hAP hLU (ih (by omega))
/-- what an action in waiting will give -/
theorem zc_pub {j : Nat} (hj : j < n l) (hj3 : j < 3) (hl : l < 4) (hAP : zr_AP S n kd fa fb va vb) (K : zr_KE (zc_E E l j) n kd fa fb va vb B cd) (k3 : kd l j ≠ 3) : B (16 + 3 * l + j) = va l j := by
  obtain ⟨b1, b2, b3, b4, b5, b6, b7, b8, b9⟩ := hAP l hl j hj
  obtain ⟨o1, o2, o3, o4, o5, o6⟩ := K l hl j hj3
  have nE : ¬ zc_E E l j l j := fun w => by
    rcases w with w | w
    · omega
    · exact w.1 rfl
  by_cases k1 : kd l j = 1
  · exact o1 hj nE k1
  · rw [o4 (fun w => k1 w.2.1), b6 (by omega)]
theorem zc_sw {j : Nat} (hj : j < n l) (hj3 : j < 3) (hl : l < 4) (K : zr_KE (zc_E E l j) n kd fa fb va vb B cd) : B (32 + 3 * l + j) = 0 ∧ (kd l j = 3 → va l j = B (fb l j) ∧ vb l j = B (fa l j)) := by
  obtain ⟨o1, o2, o3, o4, o5, o6⟩ := K l hl j hj3
  have nE : ¬ zc_E E l j l j := fun w => by
    rcases w with w | w
    · omega
    · exact w.1 rfl
  exact ⟨o5 (fun w => nE w.2), fun k3 => o2 hj nE k3⟩
end
section
variable {fc fs fl pe lk dn rl : Int32} {cur sta lst sb ow cS cU cH ha ct tk ll ob : Nat → Int32} {me ms en : Nat → Int64} {C S L : Nat} {B cd n p : Nat → Nat} {kd fa fb va vb : Nat → Nat → Nat} {E : Nat → Nat → Prop} {l : Nat}
theorem zx_com_l {post : SX → Prop} (hS : S ≤ 16) (hC : C ≤ 16) (hl : l < 4) (n3 : ∀ l', l' < 4 → n l' ≤ 3) (hct : ct l = nI (n l)) (hAP : zr_AP S n kd fa fb va vb) (hAX : zr_AX n kd fa fb va vb en) (hCD : zr_CD cd)
    (hK : ∀ j, j ≤ n l → zr_KE (zc_E E l j) n kd fa fb va vb (zc_B kd fa fb l B j) cd)
    (H : ∀ sb' ow' ob', zr_SX S (zc_B kd fa fb l B (n l)) sb' → za_PB C (zc_B kd fa fb l B (n l)) → za_IX (zc_B kd fa fb l B (n l)) cd cU cS cH ow' → zr_OX (zc_E E l (n l)) n (zc_B kd fa fb l B (n l)) ob' → post (fc, fs, fl, pe, lk, dn, rl, cur, sta, lst, me, ms, sb', ow', cS, cU, cH, ha, ct, tk, ll, en, ob')) :
    ∀ d j sb' ow' ob', j + d = n l → zr_SX S (zc_B kd fa fb l B j) sb' → za_PB C (zc_B kd fa fb l B j) → za_IX (zc_B kd fa fb l B j) cd cU cS cH ow' → zr_OX (zc_E E l j) n (zc_B kd fa fb l B j) ob' → ∀ m, d < m →
      wX_commit_17 post (nI l) m (nI (4 * l + j)) fc fs fl pe lk dn rl cur sta lst me ms sb' ow' cS cU cH ha ct tk ll en ob' := by
  have hc : (nI l).toNatClampNeg = l := nI_clamp (by omega)
  have hi4 : vp_in (nI l) 4 := vp_in_nI hl (by omega)
  have hn3 := n3 l hl
  have en4 : (4 : Int32) * nI l + nI (n l) = nI (4 * l + n l) := by rw [zn_4, nI_add]
  intro d
  induction d with
  | zero =>
    intro j sb' ow' ob' hj sx P X ox m hm
    obtain ⟨m, rfl⟩ : ∃ m', m = m' + 1 := ⟨m - 1, by omega⟩
    refine And.intro hi4 ?_
    rw [hc, hct]
    have e : j = n l := by omega
    subst e
    exact pk_le (4 * l + n l) (4 * l + n l) (fun _ => H sb' ow' ob' sx P X ox) (fun z => absurd z (by omega)) en4
  | succ d ih =>
    intro j sb' ow' ob' hj sx P X ox m hm
    obtain ⟨m, rfl⟩ : ∃ m', m = m' + 1 := ⟨m - 1, by omega⟩
    refine And.intro hi4 ?_
    rw [hc, hct]
    refine pk_le (4 * l + n l) (4 * l + j) (fun z => absurd z (by omega)) (fun _ => ?_) en4
    have hi16 : vp_in (nI (4 * l + j)) 16 := vp_in_nI (by omega) (by omega)
    have hci : (nI (4 * l + j)).toNatClampNeg = 4 * l + j := nI_clamp (by omega)
    have hjn : j < n l := by omega
    obtain ⟨b1, b2, b3, b4, b5, b6, b7, b8, b9⟩ := hAP l hl j hjn
    have ok : ze_ok (kd l j) (fa l j) (fb l j) (va l j) (vb l j) := ⟨by omega, by omega, by omega, b8, b9⟩
    have hif : vp_in (nI (fa l j)) 16 := vp_in_nI (by omega) (by omega)
    have hcf : (nI (fa l j)).toNatClampNeg = fa l j := nI_clamp (by omega)
    have K := hK j (by omega)
    obtain ⟨w0, w3⟩ := zc_sw hjn (by omega) hl K
    have ef : zc_B kd fa fb l B (j + 1) = zc_st kd fa fb l j (zc_B kd fa fb l B j) := rfl
    have step : ∀ sb2 ow2 ob2, zr_SX S (zc_B kd fa fb l B (j + 1)) sb2 → za_PB C (zc_B kd fa fb l B (j + 1)) → za_IX (zc_B kd fa fb l B (j + 1)) cd cU cS cH ow2 → zr_OX (zc_E E l (j + 1)) n (zc_B kd fa fb l B (j + 1)) ob2 →
        wX_commit_17 post (nI l) m (nI (4 * l + j + 1)) fc fs fl pe lk dn rl cur sta lst me ms sb2 ow2 cS cU cH ha ct tk ll en ob2 := fun sb2 ow2 ob2 a1 a2 a3 a4 => ih (j + 1) sb2 ow2 ob2 (by omega) a1 a2 a3 a4 m (by omega)
    have oxs : ∀ ob2 : Nat → Int32, (∀ q, q ≠ 4 * l + j → ob2 q = ob' q) → ob2 (4 * l + j) = nI (zc_B kd fa fb l B (j + 1) (32 + 3 * l + j)) → zr_OX (zc_E E l (j + 1)) n (zc_B kd fa fb l B (j + 1)) ob2 := by
      intro ob2 h1 h2 l' hl' i hi hE
      by_cases e : l' = l ∧ i = j
      · rw [e.1, e.2]; exact h2
      · have h3 := n3 l' hl'
        rw [h1 _ (fun w => e ⟨by omega, by omega⟩)]
        have hE' : zc_E E l j l' i := by
          rcases hE with w | w
          · exact Or.inl ⟨w.1, by have : i ≠ j := fun q => e ⟨w.1, q⟩; omega⟩
          · exact Or.inr w
        rw [ox l' hl' i hi hE', ef]
        congr 1
        by_cases k3 : kd l j = 3
        · exact (zc_3o k3 (by omega) (by omega)).symm
        · refine (zc_oth (fun w => ?_) (by omega) (fun w => e ⟨by omega, by omega⟩)).symm
          rcases w with w | w <;> omega
    refine And.intro hi16 ?_
    rw [hci, hAX l hl j hjn]
    refine nm_r (ze_c ok) (nm_r (ze_a ok.1 ok.2.1 ok.2.2.1) ?_)
    rw [ze_kk ok.1 ok.2.1 ok.2.2.1]
    refine pk_eq (kd l j) 3 (fun k3 => ?_) (fun k3 => ?_)
    · -- a swap
      obtain ⟨z1, z2⟩ := w3 k3
      refine br_f (by decide) (And.intro hi16 ?_)
      intro M eM
      rw [hci] at eM
      subst eM
      refine And.intro hi16 ?_
      rw [hci, pk_us]
      refine br_t rfl (And.intro hi16 ?_)
      rw [hci, hAX l hl j hjn, ze_x ok]
      refine zx_name (s := fa l j) (b := va l j) (by omega) b8 rfl rfl ?_
      refine br_f (by decide) (And.intro hi16 ?_)
      rw [hAX l hl j hjn, ze_y ok, ze_b ok.1 ok.2.1 ok.2.2.1]
      refine zx_name (s := fb l j) (b := vb l j) (by omega) b9 rfl rfl ?_
      obtain ⟨P', X'⟩ := zc_PI (O' := if vb l j = 0 then (if va l j = 0 then ow' else upd ow' (va l j / 256) (nI (fa l j))) else upd (if va l j = 0 then ow' else upd ow' (va l j / 256) (nI (fa l j))) (vb l j / 256) (nI (fb l j))) hl (by omega) hS b3 b4 b7 P X hCD w0
        (fun _ => ⟨if va l j = 0 then ow' else upd ow' (va l j / 256) (nI (fa l j)), by rw [z1], by rw [z2]⟩) (fun w => absurd k3 w)
      refine nm_r (nI_1 _) (step _ _ _ ?_ P' X' (oxs _ (fun q hq => pk_un hq) ?_))
      · intro s hs'
        rw [ef]
        obtain ⟨y1, y2⟩ := zc_3 (B := zc_B kd fa fb l B j) k3 (b7 k3)
        by_cases e1 : s = fb l j
        · rw [e1, pk_us, y2, z2]
        · rw [pk_un e1]
          by_cases e2 : s = fa l j
          · rw [e2, pk_us, y1, z1]
          · rw [pk_un e2, zc_3o k3 e2 e1]; exact sx s hs'
      · rw [pk_us, ef, zc_3o k3 (by omega) (by omega), w0]; rfl
    · -- publish or release
      have hpub := zc_pub hjn (by omega) hl hAP K k3
      have hlt := za_PB_lt hC P (κ := fa l j) (by omega)
      obtain ⟨y1, y2, y3⟩ := zc_n3 (B := zc_B kd fa fb l B j) (fa := fa) (fb := fb) k3 (by omega)
      have fin : ∀ ow1 : Nat → Int32, (ow1 = if zc_B kd fa fb l B j (fa l j) = 0 then ow' else upd ow' (zc_B kd fa fb l B j (fa l j) / 256) (nI (96 + l))) →
          wX_commit_114 post (wX_commit_17 post (nI l) m) (nI l) (nI (4 * l + j)) (nI (256 * kd l j + 16 * fa l j + fb l j)) (nI (fa l j)) 0 fc fs fl pe lk dn rl cur sta lst me ms sb' ow1 cS cU cH ha ct tk ll en (upd ob' (4 * l + j) (nI (zc_B kd fa fb l B j (fa l j)))) := by
        intro ow1 e1
        refine And.intro hi16 ?_
        rw [hci, hAX l hl j hjn, ze_x ok]
        refine zx_name (s := fa l j) (b := va l j) (by omega) b8 rfl rfl ?_
        obtain ⟨P', X'⟩ := zc_PI (O' := if va l j = 0 then ow1 else upd ow1 (va l j / 256) (nI (fa l j))) hl (by omega) hS b3 b4 b7 P X hCD w0 (fun w => absurd w k3) (fun _ => ⟨ow1, e1, by rw [hpub]⟩)
        refine br_t rfl (nm_r (nI_1 _) (step _ _ _ ?_ P' X' (oxs _ (fun q hq => pk_un hq) ?_)))
        · intro s hs'
          rw [ef]
          by_cases e2 : s = fa l j
          · rw [e2, pk_us, y1, hpub]
          · rw [pk_un e2, zc_oth (fun w => ?_) (by omega) (by omega)]
            · exact sx s hs'
            · rcases w with w | w
              · exact e2 w.symm
              · exact k3 w.1
        · rw [pk_us, ef, y3]
      refine br_t rfl (And.intro hif ?_)
      rw [hcf, sx _ b3]
      refine And.intro hi16 ?_
      intro M eM
      rw [hci] at eM
      subst eM
      refine And.intro hi16 ?_
      rw [hci, pk_us]
      refine pk_eq (zc_B kd fa fb l B j (fa l j)) 0 (fun e => fin ow' (by rw [if_pos e])) (fun e => And.intro hi16 ?_)
      rw [zn_hi (by omega)]
      have wl := za_wf_lt hC ((P.1 (fa l j) (by omega)).resolve_left e)
      refine And.intro (vp_in_nI wl.2.2.1 (by omega)) ?_
      intro O eO
      rw [nI_clamp (by omega), show (96 : Int32) + nI l = nI (96 + l) from nI_add 96 l] at eO
      exact fin O (by rw [if_neg e]; exact eO)
end
section
variable {fc fs fl lf : Int32} {cur sta lst ss sz hs hz ct tk kn fi se nS nZ oS oZ : Nat → Int32} {C S L : Nat} {B cd n p : Nat → Nat} {kd fa fb va vb : Nat → Nat → Nat} {E : Nat → Nat → Prop} {l : Nat}
theorem zy_eff_l (hS : S ≤ 16) (hl : l < 4) (n3 : ∀ l', l' < 4 → n l' ≤ 3) (hct : ct l = nI (n l)) (hAP : zr_AP S n kd fa fb va vb) (hAY : zr_AY n kd fa fb va kn fi se nS nZ)
    (hK : ∀ j, j ≤ n l → zr_KE (zc_E E l j) n kd fa fb va vb (zc_B kd fa fb l B j) cd) :
    ∀ d j (ss sz oS oZ : Nat → Int32), j + d = n l → zr_SY S (zc_B kd fa fb l B j) ss sz → zr_OY (zc_E E l j) n kd (zc_B kd fa fb l B j) oS oZ →
      ∃ ss' sz' oS' oZ' : Nat → Int32, zr_SY S (zc_B kd fa fb l B (n l)) ss' sz' ∧ zr_OY (zc_E E l (n l)) n kd (zc_B kd fa fb l B (n l)) oS' oZ' ∧
        ∀ (post : SY → Prop) m, d < m → post (fc, fs, fl, lf, cur, sta, lst, ss', sz', hs, hz, ct, tk, kn, fi, se, nS, nZ, oS', oZ') → wY_effect_2 post (nI l) fc fs fl lf m (nI j) cur sta lst ss sz hs hz ct tk kn fi se nS nZ oS oZ := by
  have hc : (nI l).toNatClampNeg = l := nI_clamp (by omega)
  have hi4 : vp_in (nI l) 4 := vp_in_nI hl (by omega)
  have hn3 := n3 l hl
  intro d
  induction d with
  | zero =>
    intro j ss sz oS oZ hj sy oy
    have e : j = n l := by omega
    rw [e] at sy oy
    refine ⟨ss, sz, oS, oZ, sy, oy, fun post m hm hp => ?_⟩
    obtain ⟨m, rfl⟩ : ∃ m', m = m' + 1 := ⟨m - 1, by omega⟩
    refine And.intro hi4 ?_
    rw [hc, hct]
    exact pk_le (n l) j (fun _ => hp) (fun z => absurd z (by omega))
  | succ d ih =>
    intro j ss sz oS oZ hj sy oy
    have hjn : j < n l := by omega
    obtain ⟨b1, b2, b3, b4, b5, b6, b7, b8, b9⟩ := hAP l hl j hjn
    obtain ⟨a1, a2, a3, a4⟩ := hAY l hl j hjn
    have K := hK j (by omega)
    obtain ⟨w0, w3⟩ := zc_sw hjn (by omega) hl K
    have ef : zc_B kd fa fb l B (j + 1) = zc_st kd fa fb l j (zc_B kd fa fb l B j) := rfl
    have ex : (3 : Int32) * nI l + nI j = nI (3 * l + j) := by rw [zn_3, nI_add]
    have hx : (nI (3 * l + j)).toNatClampNeg = 3 * l + j := nI_clamp (by omega)
    have hi12 : vp_in (nI (3 * l + j)) 12 := vp_in_nI (by omega) (by omega)
    have hif : vp_in (nI (fa l j)) 16 := vp_in_nI (by omega) (by omega)
    have hcf : (nI (fa l j)).toNatClampNeg = fa l j := nI_clamp (by omega)
    have hib : vp_in (nI (fb l j)) 16 := vp_in_nI (by omega) (by omega)
    have hcb : (nI (fb l j)).toNatClampNeg = fb l j := nI_clamp (by omega)
    have nE : ¬ zc_E E l j l j := fun w => by
      rcases w with w | w
      · omega
      · exact w.1 rfl
    have oys : ∀ oS2 oZ2 : Nat → Int32, (∀ q, q ≠ 3 * l + j → oS2 q = oS q ∧ oZ2 q = oZ q) → zr_YB oS2 oZ2 (3 * l + j) (zc_B kd fa fb l B (j + 1) (32 + 3 * l + j)) → zr_OY (zc_E E l (j + 1)) n kd (zc_B kd fa fb l B (j + 1)) oS2 oZ2 := by
      intro oS2 oZ2 h1 h2 l' hl' i hi
      by_cases e : l' = l ∧ i = j
      · obtain ⟨e1, e2⟩ := e
        rw [e1, e2]
        exact ⟨fun _ => h2, fun w => absurd (Or.inl ⟨rfl, by omega⟩) w⟩
      · have h3 := n3 l' hl'
        have hE' : zc_E E l (j + 1) l' i ↔ zc_E E l j l' i := by
          unfold zc_E
          constructor
          · rintro (w | w)
            · exact Or.inl ⟨w.1, by have : i ≠ j := fun q => e ⟨w.1, q⟩; omega⟩
            · exact Or.inr w
          · rintro (w | w)
            · exact Or.inl ⟨w.1, by omega⟩
            · exact Or.inr w
        obtain ⟨g1, g2⟩ := h1 (3 * l' + i) (fun w => e ⟨by omega, by omega⟩)
        have eb : zc_B kd fa fb l B (j + 1) (32 + 3 * l' + i) = zc_B kd fa fb l B j (32 + 3 * l' + i) := by
          rw [ef]
          by_cases k3 : kd l j = 3
          · exact zc_3o k3 (by omega) (by omega)
          · refine zc_oth (fun w => ?_) (by omega) (fun w => e ⟨by omega, by omega⟩)
            rcases w with w | w <;> omega
        have := oy l' hl' i hi
        unfold zr_YB at this ⊢
        rw [hE', eb, g1, g2]; exact this
    by_cases k3 : kd l j = 3
    · obtain ⟨y1, y2⟩ := zc_3 (B := zc_B kd fa fb l B j) k3 (b7 k3)
      have ne := b7 k3
      obtain ⟨ss', sz', oS', oZ', r1, r2, r3⟩ := ih (j + 1) (upd (upd ss (fa l j) (ss (fb l j))) (fb l j) (ss (fa l j))) (upd (upd sz (fa l j) (sz (fb l j))) (fb l j) (sz (fa l j))) oS oZ (by omega) (by
          intro s hs'
          obtain ⟨t1, t2⟩ := sy s hs'
          rw [ef]
          unfold zr_YB at t1 ⊢
          by_cases e1 : s = fb l j
          · rw [e1, pk_us, pk_us, y2]; exact ⟨(sy _ (by omega)).1, fun w => by omega⟩
          · rw [pk_un e1, pk_un e1]
            by_cases e2 : s = fa l j
            · rw [e2, pk_us, pk_us, y1]; exact ⟨(sy _ (by omega)).1, fun w => by omega⟩
            · rw [pk_un e2, pk_un e2, zc_3o k3 e2 e1]; exact ⟨t1, t2⟩)
        (oys oS oZ (fun _ _ => ⟨rfl, rfl⟩) (by
          rw [ef, zc_3o k3 (by omega) (by omega), w0]
          exact ⟨(oy l hl j hjn).2 nE k3, fun w => absurd rfl w⟩))
      refine ⟨ss', sz', oS', oZ', r1, r2, fun post m hm hp => ?_⟩
      obtain ⟨m, rfl⟩ : ∃ m', m = m' + 1 := ⟨m - 1, by omega⟩
      refine And.intro hi4 ?_
      rw [hc, hct]
      refine pk_le (n l) j (fun z => absurd z (by omega)) (fun _ => nm_r ex (And.intro hi12 ?_))
      rw [hx, a1, a2, a3]
      refine nm_e (And.intro hi12 (nm_e (And.intro hif ?_)))
      rw [hcf, hcb]
      refine nm_e (And.intro hif (nm_e (And.intro hi12 (br_t (by rw [k3]; rfl) (And.intro hib (And.intro hif (nm_e (And.intro hib (And.intro hif (nm_e (And.intro hib (nm_e (And.intro hib (nm_e (nm_r (nI_1 j) ?_)))))))))))))))
      exact r3 post m (by omega) hp
    · have hpub := zc_pub hjn (by omega) hl hAP K k3
      obtain ⟨y1, y2, y3⟩ := zc_n3 (B := zc_B kd fa fb l B j) (fa := fa) (fb := fb) k3 (by omega)
      obtain ⟨v1, v2⟩ := a4 k3
      obtain ⟨⟨u1, u2⟩, u3⟩ := sy (fa l j) (by omega)
      obtain ⟨ss', sz', oS', oZ', r1, r2, r3⟩ := ih (j + 1) (upd ss (fa l j) (nS (3 * l + j))) (upd sz (fa l j) (nZ (3 * l + j))) (upd oS (3 * l + j) (ss (fa l j))) (upd oZ (3 * l + j) (sz (fa l j))) (by omega) (by
          intro s hs'
          obtain ⟨t1, t2⟩ := sy s hs'
          rw [ef]
          unfold zr_YB at t1 ⊢
          by_cases e2 : s = fa l j
          · rw [e2, pk_us, pk_us, y1, hpub]; exact ⟨⟨v1, v2⟩, fun w => by omega⟩
          · rw [pk_un e2, pk_un e2, zc_oth (fun w => ?_) (by omega) (by omega)]
            · exact ⟨t1, t2⟩
            · rcases w with w | w
              · exact e2 w.symm
              · exact k3 w.1)
        (oys _ _ (fun q hq => ⟨pk_un hq, pk_un hq⟩) (by
          rw [ef, y3]
          exact ⟨by rw [pk_us]; exact u1, fun w => by rw [pk_us]; exact u2 w⟩))
      refine ⟨ss', sz', oS', oZ', r1, r2, fun post m hm hp => ?_⟩
      obtain ⟨m, rfl⟩ : ∃ m', m = m' + 1 := ⟨m - 1, by omega⟩
      refine And.intro hi4 ?_
      rw [hc, hct]
      refine pk_le (n l) j (fun z => absurd z (by omega)) (fun _ => nm_r ex (And.intro hi12 ?_))
      rw [hx, a1, a2, a3]
      refine nm_e (And.intro hi12 (nm_e (And.intro hif ?_)))
      rw [hcf, hcb]
      have k3' : ¬ nI (kd l j) = 3 := fun w => k3 ((nI_eq (b := 3) (by omega) (by omega)).mp w)
      refine nm_e (And.intro hif (nm_e (And.intro hi12 (br_f k3' (And.intro hi12 (nm_e (And.intro hi12 (nm_e (And.intro hi12 (And.intro hif (nm_e (And.intro hi12 (And.intro hif (nm_e (nm_r (nI_1 j) ?_)))))))))))))))
      exact r3 post m (by omega) hp
end
end
section
/-! one step of a lane -/
theorem zr_KE_c {E E' : Nat → Nat → Prop} {n B cd : Nat → Nat} {kd fa fb va vb : Nat → Nat → Nat} (h : ∀ l, l < 4 → ∀ i, i < n l → (E l i ↔ E' l i)) (K : zr_KE E n kd fa fb va vb B cd) : zr_KE E' n kd fa fb va vb B cd := by
  intro l hl i hi
  obtain ⟨o1, o2, o3, o4, o5, o6⟩ := K l hl i hi
  refine ⟨fun a b => o1 a (fun w => b ((h l hl i a).mp w)), fun a b => o2 a (fun w => b ((h l hl i a).mp w)), fun a b => o3 a ((h l hl i a).mpr b), fun a => o4 (fun w => a ⟨w.1, w.2.1, fun q => w.2.2 ((h l hl i w.1).mpr q)⟩), fun a => o5 (fun w => a ⟨w.1, (h l hl i w.1).mp w.2⟩), o6⟩
theorem zr_OX_c {E E' : Nat → Nat → Prop} {n B : Nat → Nat} {ob : Nat → Int32} (h : ∀ l, l < 4 → ∀ i, i < n l → (E l i ↔ E' l i)) (K : zr_OX E n B ob) : zr_OX E' n B ob :=
  fun l hl i hi e => K l hl i hi ((h l hl i hi).mpr e)
theorem zr_OY_c {E E' : Nat → Nat → Prop} {n B : Nat → Nat} {kd : Nat → Nat → Nat} {oS oZ : Nat → Int32} (h : ∀ l, l < 4 → ∀ i, i < n l → (E l i ↔ E' l i)) (K : zr_OY E n kd B oS oZ) : zr_OY E' n kd B oS oZ :=
  fun l hl i hi => ⟨fun e => (K l hl i hi).1 ((h l hl i hi).mpr e), fun e => (K l hl i hi).2 (fun w => e ((h l hl i hi).mp w))⟩
theorem zc_Bo {B : Nat → Nat} {kd fa fb : Nat → Nat → Nat} {l κ : Nat} (h2 : ¬ (16 + 3 * l ≤ κ ∧ κ < 19 + 3 * l)) (h3 : ¬ (32 + 3 * l ≤ κ ∧ κ < 35 + 3 * l)) :
    ∀ j, j ≤ 3 → (∀ i, i < j → ¬ zr_tc kd fa fb l i κ) → zc_B kd fa fb l B j κ = B κ := by
  intro j
  induction j with
  | zero => intro _ _; rfl
  | succ j ih =>
    intro hj h1
    have := ih (by omega) (fun i hi => h1 i (by omega))
    rw [← this]
    exact zc_oth (h1 j (by omega)) (by omega) (by omega)
section
variable {fc fs fl pe lk dn rl lf : Int32} {cur sta lst sb ow cS cU cH ha ct tk ll ob ss sz hs hz kn fi se nS nZ oS oZ : Nat → Int32} {me ms en : Nat → Int64} {C S L : Nat} {B cd n p : Nat → Nat} {kd fa fb va vb : Nat → Nat → Nat} {l : Nat}
theorem zr_pst {pe' : Int32} {me' ms' : Nat → Int64} (hU : zr_U C S L B cd n p kd fa fb va vb fc fs fl pe lk dn rl lf cur sta lst me ms sb ow cS cU cH ha ct tk ll en ob ss sz hs hz kn fi se nS nZ oS oZ) (hl : l < 4) (h1 : 1 ≤ n l) (hp4 : p l + 1 ≤ 2 * n l + 4) (hne : p l + 1 ≠ n l + 2) (hhand : B (28 + l) = 0)
    (hPE' : zr_PE pe' me' ms') (hPLl : zr_PL l (n l) (p l + 1) me' ms' en) (hlog : ∀ j, 16 ≤ j → j < 32 → ¬ (16 + 4 * l ≤ j ∧ j < 20 + 4 * l) → me' j = me j ∧ ms' j = ms j)
    (hPH' : zr_PH n (zu p l (p l + 1)) kd fa fb B me' ms') :
    zr_U C S L B cd n (zu p l (p l + 1)) kd fa fb va vb fc fs fl pe' lk dn rl lf cur sta lst me' ms' sb ow cS cU cH ha ct (upd tk l (nI (p l + 1))) ll en ob ss sz hs hz kn fi se nS nZ oS oZ := by
  obtain ⟨⟨rfl, rfl, rfl, rfl, rfl⟩, hcfg, hlst, hPB, hIX, hLN, ⟨hSY, hSX⟩, ⟨hHX, hHY⟩, hCD, ⟨hAP, hAX, hAY⟩, ⟨hKE, hOX, hOY⟩, ⟨hLU, hLX⟩, ⟨hPE, hPL, hPH⟩⟩ := hU
  have n3 : ∀ l', l' < 4 → n l' ≤ 3 := fun l' h => (hLN l' h).2.2.1
  have En : ∀ l', l' < 4 → ∀ i, i < n l' → (zr_E n p l' i ↔ zr_E n (zu p l (p l + 1)) l' i) := by
    intro l' _ i _
    unfold zr_E
    by_cases e : l' = l
    · rw [e, zu_s]; omega
    · rw [zu_n e]
  refine ⟨⟨rfl, rfl, rfl, rfl, rfl⟩, hcfg, hlst, hPB, hIX, fun l' hl' => ?_, ⟨hSY, hSX⟩, ⟨hHX, fun l' hl' => ?_⟩, hCD, ⟨hAP, hAX, hAY⟩, ⟨zr_KE_c En hKE, zr_OX_c En hOX, zr_OY_c En hOY⟩, ⟨hLU, hLX⟩, hPE', fun l' hl' => ?_, hPH'⟩
  · obtain ⟨a1, a2, a3, a4, a5, a6⟩ := hLN l' hl'
    by_cases e : l' = l
    · rw [e, zu_s, pk_us]
      rw [e] at a1 a3 a6
      exact ⟨a1, rfl, a3, hp4, fun w => by omega, a6⟩
    · rw [zu_n e, pk_un e]; exact ⟨a1, a2, a3, a4, a5, a6⟩
  · obtain ⟨w1, w2, w3⟩ := hHY l' hl'
    by_cases e : l' = l
    · rw [e] at w1 w2 ⊢; exact ⟨w1, w2, fun _ => hhand⟩
    · rw [zu_n e]; exact ⟨w1, w2, w3⟩
  · by_cases e : l' = l
    · rw [e, zu_s]; exact hPLl
    · rw [zu_n e]
      have h3 := n3 l' hl'
      have em : ∀ i, i < 4 → me' (16 + 4 * l' + i) = me (16 + 4 * l' + i) ∧ ms' (16 + 4 * l' + i) = ms (16 + 4 * l' + i) := fun i hi => hlog _ (by omega) (by omega) (by omega)
      obtain ⟨r1, r2, r3, r4⟩ := hPL l' hl'
      refine ⟨fun w => ⟨fun i hi => ?_, fun i hi => ?_, ?_⟩, fun w1 w2 => ⟨fun i hi => ?_, ?_, ?_⟩, fun w => ⟨fun i hi => ?_, ?_, ?_⟩, fun w i hi => ?_⟩
      · rw [(em i hi).2]; exact (r1 w).1 i hi
      · rw [(em i (by omega)).1]; exact (r1 w).2.1 i hi
      · rw [(em 3 (by omega)).1]; exact (r1 w).2.2
      · rw [(em i (by omega)).1, (em i (by omega)).2]; exact (r2 w1 w2).1 i hi
      · rw [(em 3 (by omega)).1]; exact (r2 w1 w2).2.1
      · rw [(em 3 (by omega)).2]; exact (r2 w1 w2).2.2
      · rw [(em i (by omega)).1, (em i (by omega)).2]; exact (r3 w).1 i hi
      · rw [(em 3 (by omega)).1]; exact (r3 w).2.1
      · rw [(em 3 (by omega)).2]; exact (r3 w).2.2
      · rw [(em i hi).1]; exact r4 w i hi
theorem zr_ext_PE {pe' : Int32} {me' : Nat → Int64} (h : zr_PE pe me ms) (x : zp_ext pe me pe' me') : zr_PE pe' me' ms := by
  intro j hj hb
  obtain ⟨a, b⟩ := x j hj hb
  rw [b]; exact h j hj a
/-- homes stay where nothing but log lines changed, the lane neither alive before nor after -/
theorem zr_PH_log {me' : Nat → Int64} {P' : Nat} (h : zr_PH n p kd fa fb B me ms) (he : ∀ s, s < 16 → me' s = me s) (ha0 : ¬ (n l + 2 ≤ p l ∧ p l ≤ 2 * n l + 2)) (ha1 : ¬ (n l + 2 ≤ P' ∧ P' ≤ 2 * n l + 2)) (hAP : zr_AP S n kd fa fb va vb) (hS : S ≤ 16) :
    zr_PH n (zu p l P') kd fa fb B me' ms := by
  refine ⟨fun s hs' hh => ?_, fun l' hl' h1 h2 i hi h3 s t => ?_⟩
  · rw [he s hs']
    refine h.1 s hs' (fun l' hl' i hi t w => ?_)
    by_cases e : l' = l
    · rw [e] at w; exact ha0 w
    · refine hh l' hl' i hi t ?_
      rw [zu_n e]; exact w
  · by_cases e : l' = l
    · rw [e, zu_s] at h1 h2
      exact absurd ⟨h1, h2⟩ ha1
    · rw [zu_n e] at h1 h2 h3
      obtain ⟨b1, b2, b3, b4, b5, b6, b7, b8, b9⟩ := hAP l' hl' i hi
      rw [he s (by rcases t with q | q <;> omega)]
      exact h.2 l' hl' h1 h2 i hi h3 s t
theorem zr_st1 {pe' : Int32} {me' : Nat → Int64} (hU : zr_U C S L B cd n p kd fa fb va vb fc fs fl pe lk dn rl lf cur sta lst me ms sb ow cS cU cH ha ct tk ll en ob ss sz hs hz kn fi se nS nZ oS oZ) (hl : l < 4) (h1 : 1 ≤ n l) (hh : B (28 + l) = 0) (hp : p l + 1 ≤ n l)
    (x : zp_ext pe me pe' me') (hm : ∀ i, me' i = if i = 16 + 4 * l + p l then en (4 * l + p l) else me i) :
    zr_U C S L B cd n (zu p l (p l + 1)) kd fa fb va vb fc fs fl pe' lk dn rl lf cur sta lst me' ms sb ow cS cU cH ha ct (upd tk l (nI (p l + 1))) ll en ob ss sz hs hz kn fi se nS nZ oS oZ := by
  have hU' := hU
  obtain ⟨⟨rfl, rfl, rfl, rfl, rfl⟩, hcfg, hlst, hPB, hIX, hLN, ⟨hSY, hSX⟩, ⟨hHX, hHY⟩, hCD, ⟨hAP, hAX, hAY⟩, ⟨hKE, hOX, hOY⟩, ⟨hLU, hLX⟩, ⟨hPE, hPL, hPH⟩⟩ := hU'
  have n3 := (hLN l hl).2.2.1
  obtain ⟨r1, r2, r3⟩ := (hPL l hl).1 (by omega)
  refine zr_pst hU hl h1 (by omega) (by omega) hh (zr_ext_PE hPE x) ⟨fun _ => ⟨r1, fun i hi => ?_, ?_⟩, fun w => by omega, fun w => by omega, fun w => by omega⟩ (fun j a b c => ⟨?_, rfl⟩) (zr_PH_log hPH (fun s hs' => ?_) (by omega) (by omega) hAP hcfg.2.2.2.1)
  · rw [hm]
    by_cases e : i = p l
    · rw [e, if_pos rfl, if_pos (by omega)]
    · rw [if_neg (by omega), r2 i hi]
      by_cases q : i < p l ∧ i < n l
      · rw [if_pos q, if_pos (by omega)]
      · rw [if_neg q, if_neg (by omega)]
  · rw [hm, if_neg (by omega), r3, if_neg (by omega), if_neg (by omega)]
  · rw [hm, if_neg (by omega)]
  · rw [hm, if_neg (by omega)]
theorem zr_st2 {pe' : Int32} {me' : Nat → Int64} (hU : zr_U C S L B cd n p kd fa fb va vb fc fs fl pe lk dn rl lf cur sta lst me ms sb ow cS cU cH ha ct tk ll en ob ss sz hs hz kn fi se nS nZ oS oZ) (hl : l < 4) (h1 : 1 ≤ n l) (hh : B (28 + l) = 0) (hp : p l = n l)
    (x : zp_ext pe me pe' me') (hm : ∀ i, me' i = if i = 16 + 4 * l + 3 then lN (n l) else me i) :
    zr_U C S L B cd n (zu p l (p l + 1)) kd fa fb va vb fc fs fl pe' lk dn rl lf cur sta lst me' ms sb ow cS cU cH ha ct (upd tk l (nI (p l + 1))) ll en ob ss sz hs hz kn fi se nS nZ oS oZ := by
  have hU' := hU
  obtain ⟨⟨rfl, rfl, rfl, rfl, rfl⟩, hcfg, hlst, hPB, hIX, hLN, ⟨hSY, hSX⟩, ⟨hHX, hHY⟩, hCD, ⟨hAP, hAX, hAY⟩, ⟨hKE, hOX, hOY⟩, ⟨hLU, hLX⟩, ⟨hPE, hPL, hPH⟩⟩ := hU'
  have n3 := (hLN l hl).2.2.1
  obtain ⟨r1, r2, r3⟩ := (hPL l hl).1 (by omega)
  refine zr_pst hU hl h1 (by omega) (by omega) hh (zr_ext_PE hPE x) ⟨fun _ => ⟨r1, fun i hi => ?_, ?_⟩, fun w => by omega, fun w => by omega, fun w => by omega⟩ (fun j a b c => ⟨?_, rfl⟩) (zr_PH_log hPH (fun s hs' => ?_) (by omega) (by omega) hAP hcfg.2.2.2.1)
  · rw [hm, if_neg (by omega), r2 i hi]
    by_cases q : i < p l ∧ i < n l
    · rw [if_pos q, if_pos (by omega)]
    · rw [if_neg q, if_neg (by omega)]
  · rw [hm, if_pos rfl, if_pos (by omega)]
  · rw [hm, if_neg (by omega)]
  · rw [hm, if_neg (by omega)]
theorem zr_st4 {pe' : Int32} {me' : Nat → Int64} {i0 : Nat} (hU : zr_U C S L B cd n p kd fa fb va vb fc fs fl pe lk dn rl lf cur sta lst me ms sb ow cS cU cH ha ct tk ll en ob ss sz hs hz kn fi se nS nZ oS oZ) (hl : l < 4) (h1 : 1 ≤ n l) (hh : B (28 + l) = 0) (hp1 : n l + 2 ≤ p l) (hp2 : p l ≤ 2 * n l + 1) (hi0 : i0 = p l - n l - 2)
    (x : zp_ext pe me pe' me') (hm : ∀ j, me' j = if kd l i0 = 3 ∧ j = fb l i0 then lN (vb l i0) else if j = fa l i0 then lN (va l i0) else me j) :
    zr_U C S L B cd n (zu p l (p l + 1)) kd fa fb va vb fc fs fl pe' lk dn rl lf cur sta lst me' ms sb ow cS cU cH ha ct (upd tk l (nI (p l + 1))) ll en ob ss sz hs hz kn fi se nS nZ oS oZ := by
  have hU' := hU
  obtain ⟨⟨rfl, rfl, rfl, rfl, rfl⟩, hcfg, hlst, hPB, hIX, hLN, ⟨hSY, hSX⟩, ⟨hHX, hHY⟩, hCD, ⟨hAP, hAX, hAY⟩, ⟨hKE, hOX, hOY⟩, ⟨hLU, hLX⟩, ⟨hPE, hPL, hPH⟩⟩ := hU'
  have hS := hcfg.2.2.2.1
  have n3 := (hLN l hl).2.2.1
  have hi0' : i0 < n l := by omega
  obtain ⟨r1, r2, r3⟩ := (hPL l hl).2.1 hp1 (by omega)
  obtain ⟨b1, b2, b3, b4, b5, b6, b7, b8, b9⟩ := hAP l hl i0 hi0'
  obtain ⟨o1, o2⟩ := (hKE l hl i0 (by omega)).2.2.1 hi0' hp1
  have big : ∀ j, 16 ≤ j → me' j = me j := fun j hj => by rw [hm, if_neg (by omega), if_neg (by omega)]
  have keep : ∀ s, me s = lN (B s) → me' s = lN (B s) := by
    intro s hs'
    rw [hm]
    by_cases q : kd l i0 = 3 ∧ s = fb l i0
    · rw [if_pos q, q.2, o2 q.1]
    · rw [if_neg q]
      by_cases q2 : s = fa l i0
      · rw [if_pos q2, q2, o1]
      · rw [if_neg q2]; exact hs'
  have new : ∀ s, zr_tc kd fa fb l i0 s → me' s = lN (B s) := by
    intro s t
    rw [hm]
    by_cases q : kd l i0 = 3 ∧ s = fb l i0
    · rw [if_pos q, q.2, o2 q.1]
    · rw [if_neg q]
      have q2 : s = fa l i0 := by
        rcases t with t | t
        · exact t.symm
        · exact absurd ⟨t.1, t.2.symm⟩ q
      rw [if_pos q2, q2, o1]
  refine zr_pst hU hl h1 (by omega) (by omega) hh (zr_ext_PE hPE x) ⟨fun w => by omega, fun _ _ => ⟨fun i hi => ?_, ?_, r3⟩, fun w => by omega, fun w => by omega⟩ (fun j a b c => ⟨big j a, rfl⟩) ⟨fun s hs' hh' => ?_, fun l' hl' g1 g2 i hi g3 s t => ?_⟩
  · rw [big _ (by omega)]; exact r1 i hi
  · rw [big _ (by omega)]; exact r2
  · have al : ∀ l', l' < 4 → ∀ i, i < n l' → zr_tc kd fa fb l' i s → ¬ (n l' + 2 ≤ p l' ∧ p l' ≤ 2 * n l' + 2) := by
      intro l' hl' i hi t w
      by_cases e : l' = l
      · refine hh' l' hl' i hi t ?_
        rw [e, zu_s]; omega
      · refine hh' l' hl' i hi t ?_
        rw [zu_n e]; exact w
    obtain ⟨g1, g2⟩ := hPH.1 s hs' al
    exact ⟨keep s g1, g2⟩
  · by_cases e : l' = l
    · subst e
      rw [zu_s] at g3
      by_cases q : i = i0
      · rw [q] at t; exact new s t
      · exact keep s (hPH.2 l' hl' hp1 (by omega) i hi (by omega) s t)
    · rw [zu_n e] at g1 g2 g3
      exact keep s (hPH.2 l' hl' g1 g2 i hi g3 s t)
theorem zr_st5 {pe' : Int32} {ms' : Nat → Int64} (hU : zr_U C S L B cd n p kd fa fb va vb fc fs fl pe lk dn rl lf cur sta lst me ms sb ow cS cU cH ha ct tk ll en ob ss sz hs hz kn fi se nS nZ oS oZ) (hl : l < 4) (h1 : 1 ≤ n l) (hh : B (28 + l) = 0) (hp : p l = 2 * n l + 2)
    (hPE' : zr_PE pe' me ms') (hm : ∀ j, j < 32 → ms' j = if bt (ll l) j = true then me j else ms j) :
    zr_U C S L B cd n (zu p l (p l + 1)) kd fa fb va vb fc fs fl pe' lk dn rl lf cur sta lst me ms' sb ow cS cU cH ha ct (upd tk l (nI (p l + 1))) ll en ob ss sz hs hz kn fi se nS nZ oS oZ := by
  have hU' := hU
  obtain ⟨⟨rfl, rfl, rfl, rfl, rfl⟩, hcfg, hlst, hPB, hIX, hLN, ⟨hSY, hSX⟩, ⟨hHX, hHY⟩, hCD, ⟨hAP, hAX, hAY⟩, ⟨hKE, hOX, hOY⟩, ⟨hLU, hLX⟩, ⟨hPE, hPL, hPH⟩⟩ := hU'
  have hS := hcfg.2.2.2.1
  have n3 := (hLN l hl).2.2.1
  obtain ⟨r1, r2, r3⟩ := (hPL l hl).2.1 (by omega) (by omega)
  have big : ∀ j, 16 ≤ j → j < 32 → ms' j = ms j := fun j g1 g2 => by
    rw [hm j g2]
    refine if_neg (fun w => ?_)
    obtain ⟨i, hi, t⟩ := (hLX.1 l hl j g2).mp w
    obtain ⟨b1, b2, b3, b4, b5, b6, b7, b8, b9⟩ := hAP l hl i hi
    rcases t with t | t <;> omega
  refine zr_pst hU hl h1 (by omega) (by omega) hh hPE' ⟨fun w => by omega, fun w => by omega, fun _ => ⟨fun i hi => ?_, Or.inr r2, ?_⟩, fun w => by omega⟩ (fun j a b c => ⟨rfl, big j a b⟩) ⟨fun s hs' hh' => ?_, fun l' hl' g1 g2 i hi g3 s t => ?_⟩
  · rw [big _ (by omega) (by omega)]; exact ⟨Or.inr (r1 i hi).1, Or.inr (r1 i hi).2⟩
  · rw [big _ (by omega) (by omega)]; exact Or.inr r3
  · rw [hm s (by omega)]
    by_cases w : bt (ll l) s = true
    · rw [if_pos w]
      obtain ⟨i, hi, t⟩ := (hLX.1 l hl s (by omega)).mp w
      have := hPH.2 l hl (by omega) (by omega) i hi (by omega) s t
      exact ⟨this, this⟩
    · rw [if_neg w]
      refine hPH.1 s hs' (fun l' hl' i hi t v => ?_)
      by_cases e : l' = l
      · rw [e] at hi t
        exact w ((hLX.1 l hl s (by omega)).mpr ⟨i, hi, t⟩)
      · refine hh' l' hl' i hi t ?_
        rw [zu_n e]; exact v
  · by_cases e : l' = l
    · rw [e, zu_s] at g2; omega
    · rw [zu_n e] at g1 g2 g3
      exact hPH.2 l' hl' g1 g2 i hi g3 s t
theorem zr_st6 {pe' : Int32} {me' : Nat → Int64} (hU : zr_U C S L B cd n p kd fa fb va vb fc fs fl pe lk dn rl lf cur sta lst me ms sb ow cS cU cH ha ct tk ll en ob ss sz hs hz kn fi se nS nZ oS oZ) (hl : l < 4) (h1 : 1 ≤ n l) (hh : B (28 + l) = 0) (hp : p l = 2 * n l + 3)
    (x : zp_ext pe me pe' me') (hm : ∀ j, me' j = if 16 + 4 * l ≤ j ∧ j < 20 + 4 * l then 0 else me j) :
    zr_U C S L B cd n (zu p l (p l + 1)) kd fa fb va vb fc fs fl pe' lk dn rl lf cur sta lst me' ms sb ow cS cU cH ha ct (upd tk l (nI (p l + 1))) ll en ob ss sz hs hz kn fi se nS nZ oS oZ := by
  have hU' := hU
  obtain ⟨⟨rfl, rfl, rfl, rfl, rfl⟩, hcfg, hlst, hPB, hIX, hLN, ⟨hSY, hSX⟩, ⟨hHX, hHY⟩, hCD, ⟨hAP, hAX, hAY⟩, ⟨hKE, hOX, hOY⟩, ⟨hLU, hLX⟩, ⟨hPE, hPL, hPH⟩⟩ := hU'
  have n3 := (hLN l hl).2.2.1
  obtain ⟨r1, r2, r3⟩ := (hPL l hl).2.2.1 (by omega)
  refine zr_pst hU hl h1 (by omega) (by omega) hh (zr_ext_PE hPE x) ⟨fun w => by omega, fun w => by omega, fun _ => ⟨fun i hi => ⟨Or.inl ?_, (r1 i hi).2⟩, Or.inl ?_, r3⟩, fun _ i hi => ?_⟩ (fun j a b c => ⟨?_, rfl⟩) (zr_PH_log hPH (fun s hs' => ?_) (by omega) (by omega) hAP hcfg.2.2.2.1)
  · rw [hm, if_pos (by omega)]
  · rw [hm, if_pos (by omega)]
  · rw [hm, if_pos (by omega)]
  · rw [hm, if_neg c]
  · rw [hm, if_neg (by omega)]
/-- the commit -/
theorem zr_st3 {pe' : Int32} {ms' : Nat → Int64} {sb' ow' ob' ss' sz' oS' oZ' : Nat → Int32} (hU : zr_U C S L B cd n p kd fa fb va vb fc fs fl pe lk dn rl lf cur sta lst me ms sb ow cS cU cH ha ct tk ll en ob ss sz hs hz kn fi se nS nZ oS oZ) (hl : l < 4) (h1 : 1 ≤ n l) (hh : B (28 + l) = 0) (hp : p l = n l + 1)
    (hPE' : zr_PE pe' me ms') (hm : ∀ j, j < 32 → ms' j = if 16 + 4 * l ≤ j ∧ j < 20 + 4 * l then me j else ms j)
    (hSX' : zr_SX S (zc_B kd fa fb l B (n l)) sb') (hPB' : za_PB C (zc_B kd fa fb l B (n l))) (hIX' : za_IX (zc_B kd fa fb l B (n l)) cd cU cS cH ow') (hOX' : zr_OX (zc_E (zr_E n p) l (n l)) n (zc_B kd fa fb l B (n l)) ob')
    (hSY' : zr_SY S (zc_B kd fa fb l B (n l)) ss' sz') (hOY' : zr_OY (zc_E (zr_E n p) l (n l)) n kd (zc_B kd fa fb l B (n l)) oS' oZ')
    (hKE' : zr_KE (zc_E (zr_E n p) l (n l)) n kd fa fb va vb (zc_B kd fa fb l B (n l)) cd) :
    zr_U C S L (zc_B kd fa fb l B (n l)) cd n (zu p l (p l + 1)) kd fa fb va vb fc fs fl pe' lk dn rl lf cur sta lst me ms' sb' ow' cS cU cH ha ct (upd tk l (nI (p l + 1))) ll en ob' ss' sz' hs hz kn fi se nS nZ oS' oZ' := by
  obtain ⟨⟨rfl, rfl, rfl, rfl, rfl⟩, hcfg, hlst, hPB, hIX, hLN, ⟨hSY, hSX⟩, ⟨hHX, hHY⟩, hCD, ⟨hAP, hAX, hAY⟩, ⟨hKE, hOX, hOY⟩, ⟨hLU, hLX⟩, ⟨hPE, hPL, hPH⟩⟩ := hU
  have hS := hcfg.2.2.2.1
  have n3 : ∀ l', l' < 4 → n l' ≤ 3 := fun l' h => (hLN l' h).2.2.1
  have hn3 := n3 l hl
  have En : ∀ l', l' < 4 → ∀ i, i < n l' → (zc_E (zr_E n p) l (n l) l' i ↔ zr_E n (zu p l (p l + 1)) l' i) := by
    intro l' _ i hi
    unfold zc_E zr_E
    by_cases e : l' = l
    · subst e; rw [zu_s]
      exact ⟨fun _ => by omega, fun _ => Or.inl ⟨rfl, hi⟩⟩
    · rw [zu_n e]
      constructor
      · rintro (w | w)
        · exact absurd w.1 e
        · exact w.2
      · intro w; exact Or.inr ⟨e, w⟩
  have hand : ∀ l', l' < 4 → zc_B kd fa fb l B (n l) (28 + l') = B (28 + l') := fun l' hl' => zc_Bo (by omega) (by omega) (n l) hn3 (fun i hi t => by
    obtain ⟨b1, b2, b3, b4, b5, b6, b7, b8, b9⟩ := hAP l hl i hi
    rcases t with t | t <;> omega)
  have slot : ∀ s, s < 16 → (∀ i, i < n l → ¬ zr_tc kd fa fb l i s) → zc_B kd fa fb l B (n l) s = B s := fun s hs' hn => zc_Bo (by omega) (by omega) (n l) hn3 hn
  obtain ⟨r1, r2, r3⟩ := (hPL l hl).1 (by omega)
  refine ⟨⟨rfl, rfl, rfl, rfl, rfl⟩, hcfg, hlst, hPB', hIX', fun l' hl' => ?_, ⟨hSY', hSX'⟩, ⟨fun l' hl' => ?_, fun l' hl' => ?_⟩, hCD, ⟨hAP, hAX, hAY⟩, ⟨zr_KE_c En hKE', zr_OX_c En hOX', zr_OY_c En hOY'⟩, ⟨hLU, hLX⟩, hPE', fun l' hl' => ?_, fun s hs' hh' => ?_, fun l' hl' g1 g2 i hi g3 s t => ?_⟩
  · obtain ⟨a1, a2, a3, a4, a5, a6⟩ := hLN l' hl'
    by_cases e : l' = l
    · rw [e, zu_s, pk_us]
      rw [e] at a1 a3 a6
      exact ⟨a1, rfl, a3, by omega, fun w => by omega, a6⟩
    · rw [zu_n e, pk_un e]; exact ⟨a1, a2, a3, a4, a5, a6⟩
  · rw [hand l' hl']; exact hHX l' hl'
  · obtain ⟨w1, w2, w3⟩ := hHY l' hl'
    rw [hand l' hl']
    by_cases e : l' = l
    · rw [e] at w1 w2 ⊢; exact ⟨w1, w2, fun _ => hh⟩
    · rw [zu_n e]; exact ⟨w1, w2, w3⟩
  · by_cases e : l' = l
    · rw [e, zu_s]
      refine ⟨fun w => by omega, fun _ _ => ⟨fun i hi => ?_, ?_, ?_⟩, fun w => by omega, fun w => by omega⟩
      · have q := r2 i (by omega)
        rw [if_pos (by omega)] at q
        rw [hm _ (by omega), if_pos (by omega)]; exact ⟨q, q⟩
      · rw [r3, if_pos (by omega)]
      · rw [hm _ (by omega), if_pos (by omega), r3, if_pos (by omega)]
    · rw [zu_n e]
      have h3 := n3 l' hl'
      have em : ∀ i, i < 4 → ms' (16 + 4 * l' + i) = ms (16 + 4 * l' + i) := fun i hi => by rw [hm _ (by omega), if_neg (by omega)]
      obtain ⟨q1, q2, q3, q4⟩ := hPL l' hl'
      refine ⟨fun w => ⟨fun i hi => ?_, (q1 w).2⟩, fun w1 w2 => ⟨fun i hi => ?_, (q2 w1 w2).2.1, ?_⟩, fun w => ⟨fun i hi => ?_, (q3 w).2.1, ?_⟩, q4⟩
      · rw [em i hi]; exact (q1 w).1 i hi
      · rw [em i (by omega)]; exact (q2 w1 w2).1 i hi
      · rw [em 3 (by omega)]; exact (q2 w1 w2).2.2
      · rw [em i (by omega)]; exact (q3 w).1 i hi
      · rw [em 3 (by omega)]; exact (q3 w).2.2
  · have nt : ∀ i, i < n l → ¬ zr_tc kd fa fb l i s := fun i hi t => hh' l hl i hi t (by rw [zu_s]; omega)
    rw [slot s hs' nt, hm s (by omega), if_neg (by omega)]
    refine hPH.1 s hs' (fun l' hl' i hi t w => ?_)
    by_cases e : l' = l
    · rw [e] at w; omega
    · refine hh' l' hl' i hi t ?_
      rw [zu_n e]; exact w
  · by_cases e : l' = l
    · rw [e, zu_s] at g3; omega
    · rw [zu_n e] at g1 g2 g3
      obtain ⟨b1, b2, b3, b4, b5, b6, b7, b8, b9⟩ := hAP l' hl' i hi
      rw [slot s (by rcases t with q | q <;> omega) (fun i' hi' t' => e (hLU l' l hl' hl i i' hi hi' s t t').1)]
      exact hPH.2 l' hl' g1 g2 i hi g3 s t
end
end
section
/-! run -/
section
variable {fc fs fl pe lk dn rl : Int32} {cur sta lst sb ow cS cU cH ha ct tk ll ob : Nat → Int32} {me ms en : Nat → Int64} {C S L : Nat} {B cd n p : Nat → Nat} {kd fa fb va vb : Nat → Nat → Nat} {l : Nat}
theorem zx_commit {E : Nat → Nat → Prop} {post : SX → Prop} (hS : S ≤ 16) (hC : C ≤ 16) (hl : l < 4) (n3 : ∀ l', l' < 4 → n l' ≤ 3) (hct : ct l = nI (n l)) (hAP : zr_AP S n kd fa fb va vb) (hAX : zr_AX n kd fa fb va vb en) (hCD : zr_CD cd)
    (hK : ∀ j, j ≤ n l → zr_KE (zc_E E l j) n kd fa fb va vb (zc_B kd fa fb l B j) cd) (hSX : zr_SX S B sb) (hPB : za_PB C B) (hIX : za_IX B cd cU cS cH ow) (hOX : zr_OX (zc_E E l 0) n B ob) (hPE : zr_PE pe me ms)
    (H : ∀ pe' (ms' : Nat → Int64) sb' ow' ob', (∀ j, j < 32 → ms' j = if 16 + 4 * l ≤ j ∧ j < 20 + 4 * l then me j else ms j) → zr_PE pe' me ms' →
      zr_SX S (zc_B kd fa fb l B (n l)) sb' → za_PB C (zc_B kd fa fb l B (n l)) → za_IX (zc_B kd fa fb l B (n l)) cd cU cS cH ow' → zr_OX (zc_E E l (n l)) n (zc_B kd fa fb l B (n l)) ob' → post (fc, fs, fl, pe', lk, dn, rl, cur, sta, lst, me, ms', sb', ow', cS, cU, cH, ha, ct, tk, ll, en, ob')) :
    wpX_commit post (fc, fs, fl, pe, lk, dn, rl, cur, sta, lst, me, ms, sb, ow, cS, cU, cH, ha, ct, tk, ll, en, ob) (nI l) := by
  refine zx_persist' hPE (fun pe' ms' h1 h2 => nm_r (zn_4 l) (Exists.intro 4 ?_))
  have hn3 := n3 l hl
  refine zx_com_l hS hC hl n3 hct hAP hAX hCD hK (fun sb' ow' ob' a1 a2 a3 a4 => H pe' ms' sb' ow' ob' (fun j hj => ?_) h2 a1 a2 a3 a4) (n l) 0 _ _ _ (by omega) hSX hPB hIX hOX 4 (by omega)
  rw [h1 j hj, zb_15 l hl j hj]
  by_cases q : 16 + 4 * l ≤ j ∧ j < 20 + 4 * l
  · rw [if_pos q, if_pos (decide_eq_true q)]
  · rw [if_neg q, if_neg (fun w => q (of_decide_eq_true w))]
theorem zx_fin_l {post : SX → Prop} (hC : C ≤ 16) (hl : l < 4) (hn3 : n l ≤ 3) (hct : ct l = nI (n l)) (hob : ∀ i, i < n l → ob (4 * l + i) = nI (B (32 + 3 * l + i)))
    (H : ∀ Bc U' S' H', (∀ κ, κ < 44 → (32 + 3 * l ≤ κ ∧ κ < 32 + 3 * l + n l → Bc κ = 0) ∧ (¬ (32 + 3 * l ≤ κ ∧ κ < 32 + 3 * l + n l) → Bc κ = B κ)) → za_PB C Bc → za_IX Bc cd U' S' H' ow →
      post (fc, fs, fl, pe, lk &&& (ll l ^^^ (-1)), dn, rl, cur, sta, lst, me, ms, sb, ow, S', U', H', upd ha l 0, upd ct l 0, upd tk l 0, upd ll l 0, en, ob)) :
    ∀ d i Bc U' S' H', i + d = n l → (∀ κ, κ < 44 → (32 + 3 * l ≤ κ ∧ κ < 32 + 3 * l + i → Bc κ = 0) ∧ (¬ (32 + 3 * l ≤ κ ∧ κ < 32 + 3 * l + i) → Bc κ = B κ)) → za_PB C Bc → za_IX Bc cd U' S' H' ow → ∀ m, d < m →
      wX_finish_15 post (nI l) m (nI i) fc fs fl pe lk dn rl cur sta lst me ms sb ow S' U' H' ha ct tk ll en ob := by
  have hc : (nI l).toNatClampNeg = l := nI_clamp (by omega)
  have hi4 : vp_in (nI l) 4 := vp_in_nI hl (by omega)
  intro d
  induction d with
  | zero =>
    intro i Bc U' S' H' hi hB P X m hm
    obtain ⟨m, rfl⟩ : ∃ m', m = m' + 1 := ⟨m - 1, by omega⟩
    refine And.intro hi4 ?_
    rw [hc, hct]
    refine pk_le (n l) i (fun _ => ?_) (fun z => absurd z (by omega))
    refine zx_idle hl rfl (H Bc U' S' H' ?_ P X)
    have e : i = n l := by omega
    rw [e] at hB; exact hB
  | succ d ih =>
    intro i Bc U' S' H' hi hB P X m hm
    obtain ⟨m, rfl⟩ : ∃ m', m = m' + 1 := ⟨m - 1, by omega⟩
    refine And.intro hi4 ?_
    rw [hc, hct]
    refine pk_le (n l) i (fun z => absurd z (by omega)) (fun _ => ?_)
    rw [zn_4, nI_add]
    refine And.intro (vp_in_nI (by omega) (by omega)) ?_
    have hBi : Bc (32 + 3 * l + i) = B (32 + 3 * l + i) := (hB _ (by omega)).2 (by omega)
    rw [nI_clamp (by omega), hob i (by omega), ← hBi]
    refine zx_mark false (q := 0) rfl ((P.1 _ (by omega)).imp id (za_wf_up hC)) (fun U2 S2 H2 M => ?_)
    obtain ⟨P', X'⟩ := za_drop P X (κ := 32 + 3 * l + i) (by omega) M
    refine nm_r (nI_1 _) (ih (i + 1) _ _ _ _ (by omega) (fun κ hκ => ?_) P' X' m (by omega))
    by_cases e : κ = 32 + 3 * l + i
    · rw [e, zu_s]; exact ⟨fun _ => rfl, fun w => absurd (by omega) w⟩
    · rw [zu_n e]
      exact ⟨fun w => (hB κ hκ).1 (by omega), fun w => (hB κ hκ).2 (by omega)⟩
/-- which of a step's seven kinds -/
theorem zx_step {post : SX → Prop} {N P : Nat} (hl : l < 4) (n1 : ct l = nI N) (n2 : tk l = nI P) (hN : N ≤ 3) (hP : P ≤ 10)
    (h1 : P + 1 ≤ N → wpX_store post (fc, fs, fl, pe, lk, dn, rl, cur, sta, lst, me, ms, sb, ow, cS, cU, cH, ha, ct, upd tk l (nI (P + 1)), ll, en, ob) (nI (16 + 4 * l + P)) (en (4 * l + P)))
    (h2 : P = N → wpX_store post (fc, fs, fl, pe, lk, dn, rl, cur, sta, lst, me, ms, sb, ow, cS, cU, cH, ha, ct, upd tk l (nI (P + 1)), ll, en, ob) (nI (16 + 4 * l + 3)) (lN N))
    (h3 : P = N + 1 → wpX_commit post (fc, fs, fl, pe, lk, dn, rl, cur, sta, lst, me, ms, sb, ow, cS, cU, cH, ha, ct, upd tk l (nI (P + 1)), ll, en, ob) (nI l))
    (h4 : N + 2 ≤ P → P ≤ 2 * N + 1 → wpX_carry post (fc, fs, fl, pe, lk, dn, rl, cur, sta, lst, me, ms, sb, ow, cS, cU, cH, ha, ct, upd tk l (nI (P + 1)), ll, en, ob) (nI (16 + 4 * l + (P - N - 2))))
    (h5 : N + 2 ≤ P → P = 2 * N + 2 → wpX_persist post (fc, fs, fl, pe, lk, dn, rl, cur, sta, lst, me, ms, sb, ow, cS, cU, cH, ha, ct, upd tk l (nI (P + 1)), ll, en, ob) (ll l))
    (h6 : N + 2 ≤ P → P = 2 * N + 3 → wpX_erase post (fc, fs, fl, pe, lk, dn, rl, cur, sta, lst, me, ms, sb, ow, cS, cU, cH, ha, ct, upd tk l (nI (P + 1)), ll, en, ob) (nI (16 + 4 * l)))
    (h7 : N + 2 ≤ P → 2 * N + 4 ≤ P → wpX_finish post (fc, fs, fl, pe, lk, dn, rl, cur, sta, lst, me, ms, sb, ow, cS, cU, cH, ha, ct, upd tk l (nI (P + 1)), ll, en, ob) (nI l)) : wpX_step post (fc, fs, fl, pe, lk, dn, rl, cur, sta, lst, me, ms, sb, ow, cS, cU, cH, ha, ct, tk, ll, en, ob) (nI l) := by
  have hc : (nI l).toNatClampNeg = l := nI_clamp (by omega)
  have hi4 : vp_in (nI l) 4 := vp_in_nI hl (by omega)
  have e16 : (16 : Int32) + 4 * nI l = nI (16 + 4 * l) := by rw [zn_4]; exact nI_add 16 _
  refine And.intro hi4 ?_
  rw [hc, n1, n2]
  refine nm_e (And.intro hi4 (nm_r (nI_1 P) (nm_r e16 (And.intro hi4 (nm_e ?_)))))
  refine pk_lt N (P + 1) (fun a1 => ?_) (fun a1 => ?_)
  · refine pk_eq (P + 1) (N + 1) (fun a2 => ?_) (fun a2 => ?_) rfl (nI_1 N)
    · have e3 : nI (16 + 4 * l) + 3 = nI (16 + 4 * l + 3) := nI_add _ 3
      rw [e3, nI_l (by omega)]
      exact h2 (by omega)
    · refine pk_eq (P + 1) (N + 2) (fun a3 => h3 (by omega)) (fun a3 => ?_) rfl (nI_add N 2)
      have e2 : (2 : Int32) * nI N + 2 = nI (2 * N + 2) := by rw [zn_2]; exact nI_add _ 2
      refine pk_lt (2 * N + 2) (P + 1) (fun a4 => ?_) (fun a4 => ?_) e2
      · have e3 : (2 : Int32) * nI N + 3 = nI (2 * N + 3) := by rw [zn_2]; exact nI_add _ 3
        refine pk_eq (P + 1) (2 * N + 3) (fun a5 => And.intro hi4 ?_) (fun a5 => ?_) rfl e3
        · exact h5 (by omega) (by omega)
        · have e4 : (2 : Int32) * nI N + 4 = nI (2 * N + 4) := by rw [zn_2]; exact nI_add _ 4
          exact pk_eq (P + 1) (2 * N + 4) (fun a6 => h6 (by omega) (by omega)) (fun a6 => h7 (by omega) (by omega)) rfl e4
      · have e : ((nI (16 + 4 * l) + nI (P + 1)) - nI N) - 3 = nI (16 + 4 * l + (P - N - 2)) := by
          rw [nI_add, pk_sub (by omega), show (3 : Int32) = nI 3 from rfl, pk_sub (by omega)]
          congr 1; omega
        rw [e]; exact h4 (by omega) (by omega)
  · have e1 : (nI (4 * l) + nI (P + 1)) - 1 = nI (4 * l + P) := by
      rw [nI_add, show (1 : Int32) = nI 1 from rfl, pk_sub (by omega)]
      congr 1
    have e2 : (nI (16 + 4 * l) + nI (P + 1)) - 1 = nI (16 + 4 * l + P) := by
      rw [nI_add, show (1 : Int32) = nI 1 from rfl, pk_sub (by omega)]
      congr 1
    rw [zn_4, e1, e2]
    refine And.intro (vp_in_nI (by omega) (by omega)) ?_
    rw [nI_clamp (by omega)]
    exact h1 (by omega)
end
end
section
section
variable {fc fs fl pe lk dn rl lf : Int32} {cur sta lst sb ow cS cU cH ha ct tk ll ob ss sz hs hz kn fi se nS nZ oS oZ : Nat → Int32} {me ms en : Nat → Int64} {C S L : Nat} {B cd n p : Nat → Nat} {kd fa fb va vb : Nat → Nat → Nat} {l : Nat}
theorem zr_step (hU : zr_U C S L B cd n p kd fa fb va vb fc fs fl pe lk dn rl lf cur sta lst me ms sb ow cS cU cH ha ct tk ll en ob ss sz hs hz kn fi se nS nZ oS oZ) (hl : l < 4) (h1 : 1 ≤ n l) (hh : B (28 + l) = 0) (hp : p l + 1 ≤ 2 * n l + 4) :
    ∃ (B' : Nat → Nat) (ss' sz' oS' oZ' : Nat → Int32), B' (28 + l) = 0 ∧
      (p l + 1 = n l + 2 → ∀ post : SY → Prop, post (fc, fs, fl, lf, cur, sta, lst, ss', sz', hs, hz, ct, upd tk l (nI (p l + 1)), kn, fi, se, nS, nZ, oS', oZ') → wpY_effect post (fc, fs, fl, lf, cur, sta, lst, ss, sz, hs, hz, ct, upd tk l (nI (p l + 1)), kn, fi, se, nS, nZ, oS, oZ) (nI l)) ∧
      (p l + 1 ≠ n l + 2 → ss' = ss ∧ sz' = sz ∧ oS' = oS ∧ oZ' = oZ) ∧
      (∀ post : SX → Prop, (∀ pe' (me' ms' : Nat → Int64) sb' ow' ob', zr_U C S L B' cd n (zu p l (p l + 1)) kd fa fb va vb fc fs fl pe' lk dn rl lf cur sta lst me' ms' sb' ow' cS cU cH ha ct (upd tk l (nI (p l + 1))) ll en ob' ss' sz' hs hz kn fi se nS nZ oS' oZ' →
          post (fc, fs, fl, pe', lk, dn, rl, cur, sta, lst, me', ms', sb', ow', cS, cU, cH, ha, ct, upd tk l (nI (p l + 1)), ll, en, ob')) → wpX_step post (fc, fs, fl, pe, lk, dn, rl, cur, sta, lst, me, ms, sb, ow, cS, cU, cH, ha, ct, tk, ll, en, ob) (nI l)) := by
  have hU' := hU
  obtain ⟨⟨rfl, rfl, rfl, rfl, rfl⟩, hcfg, hlst, hPB, hIX, hLN, ⟨hSY, hSX⟩, ⟨hHX, hHY⟩, hCD, ⟨hAP, hAX, hAY⟩, ⟨hKE, hOX, hOY⟩, ⟨hLU, hLX⟩, ⟨hPE, hPL, hPH⟩⟩ := hU'
  have hC := hcfg.2.1
  have hS := hcfg.2.2.2.1
  have n3 : ∀ l', l' < 4 → n l' ≤ 3 := fun l' h => (hLN l' h).2.2.1
  have hn3 := n3 l hl
  obtain ⟨n1, n2, _, n4, _, _⟩ := hLN l hl
  by_cases hc : p l + 1 = n l + 2
  · have E0 : ∀ l', l' < 4 → ∀ i, i < n l' → (zr_E n p l' i ↔ zc_E (zr_E n p) l 0 l' i) := by
      intro l' _ i hi
      unfold zc_E
      constructor
      · intro w
        refine Or.inr ⟨fun e => ?_, w⟩
        unfold zr_E at w; rw [e] at w; omega
      · rintro (w | w)
        · omega
        · exact w.2
    have hK := zc_Kall hS hl n3 hAP hLU (zr_KE_c E0 hKE)
    obtain ⟨ss', sz', oS', oZ', r1, r2, r3⟩ := zy_eff_l (fc := nI C) (fs := nI S) (fl := nI L) (lf := 0) (cur := cur) (sta := sta) (lst := lst) (hs := hs) (hz := hz) (ct := ct) (tk := upd tk l (nI (p l + 1))) (se := se) hS hl n3 n1 hAP hAY hK (n l) 0 ss sz oS oZ (by omega) hSY (zr_OY_c E0 hOY)
    refine ⟨zc_B kd fa fb l B (n l), ss', sz', oS', oZ', ?_, fun _ post hp => ?_, fun w => absurd hc w, fun post H => ?_⟩
    · rw [zc_Bo (by omega) (by omega) (n l) hn3 (fun i hi t => ?_)]
      · exact hh
      · obtain ⟨b1, b2, b3, b4, b5, b6, b7, b8, b9⟩ := hAP l hl i hi
        rcases t with t | t <;> omega
    · exact Exists.intro 4 (r3 post 4 (by omega) hp)
    · refine zx_step hl n1 n2 hn3 (by omega) (fun w => by omega) (fun w => by omega) (fun _ => ?_) (fun w => by omega) (fun w => by omega) (fun w => by omega) (fun w => by omega)
      refine zx_commit hS hC hl n3 n1 hAP hAX hCD hK hSX hPB hIX (zr_OX_c E0 hOX) hPE (fun pe' ms' sb' ow' ob' a1 a2 a3 a4 a5 a6 => H pe' me ms' sb' ow' ob' ?_)
      exact zr_st3 hU hl h1 hh (by omega) a2 a1 a3 a4 a5 a6 r1 r2 (hK (n l) (Nat.le_refl _))
  · refine ⟨B, ss, sz, oS, oZ, hh, fun w => absurd w hc, fun _ => ⟨rfl, rfl, rfl, rfl⟩, fun post H => ?_⟩
    refine zx_step hl n1 n2 hn3 (by omega) (fun w => ?_) (fun w => ?_) (fun w => by omega) (fun w1 w2 => ?_) (fun w1 w2 => ?_) (fun w1 w2 => ?_) (fun w1 w2 => by omega)
    · exact zx_store' (16 + 4 * l + p l) (by omega) rfl (fun pe' me' x hm => H pe' me' ms sb ow ob (zr_st1 hU hl h1 hh w x hm))
    · exact zx_store' (16 + 4 * l + 3) (by omega) rfl (fun pe' me' x hm => H pe' me' ms sb ow ob (zr_st2 hU hl h1 hh w x hm))
    · have hi : p l - n l - 2 < n l := by omega
      obtain ⟨b1, b2, b3, b4, b5, b6, b7, b8, b9⟩ := hAP l hl _ hi
      refine zx_carry (j0 := 16 + 4 * l + (p l - n l - 2)) (by omega) (by omega) rfl ⟨by omega, by omega, by omega, b8, b9⟩ ?_ (fun pe' me' x hm => H pe' me' ms sb ow ob (zr_st4 hU hl h1 hh w1 w2 rfl x hm))
      rw [(((hPL l hl).2.1 w1 (by omega)).1 _ hi).1]
      exact hAX l hl _ hi
    · exact zx_persist' hPE (fun pe' ms' g1 g2 => H pe' me ms' sb ow ob (zr_st5 hU hl h1 hh w2 g2 g1))
    · exact zx_erase hl rfl (fun pe' me' x hm => H pe' me' ms sb ow ob (zr_st6 hU hl h1 hh w2 x hm))
theorem zr_fin (hU : zr_U C S L B cd n p kd fa fb va vb fc fs fl pe lk dn rl lf cur sta lst me ms sb ow cS cU cH ha ct tk ll en ob ss sz hs hz kn fi se nS nZ oS oZ) (hl : l < 4) (h1 : 1 ≤ n l) (hh : B (28 + l) = 0) (hp : p l = 2 * n l + 4) {post : SX → Prop}
    (H : ∀ (B' : Nat → Nat) pe' (ms' : Nat → Int64) cU' cS' cH', zr_U C S L B' cd (zu n l 0) (zu p l 0) kd fa fb va vb fc fs fl pe' (lk &&& (ll l ^^^ (-1))) dn rl lf cur sta lst me ms' sb ow cS' cU' cH' (upd ha l 0) (upd ct l 0) (upd (upd tk l (nI (p l + 1))) l 0) (upd ll l 0) en ob ss sz hs (upd hz l 0) kn fi se nS nZ oS oZ →
      post (fc, fs, fl, pe', lk &&& (ll l ^^^ (-1)), dn, rl, cur, sta, lst, me, ms', sb, ow, cS', cU', cH', upd ha l 0, upd ct l 0, upd (upd tk l (nI (p l + 1))) l 0, upd ll l 0, en, ob)) : wpX_step post (fc, fs, fl, pe, lk, dn, rl, cur, sta, lst, me, ms, sb, ow, cS, cU, cH, ha, ct, tk, ll, en, ob) (nI l) := by
  have hU' := hU
  obtain ⟨⟨rfl, rfl, rfl, rfl, rfl⟩, hcfg, hlst, hPB, hIX, hLN, ⟨hSY, hSX⟩, ⟨hHX, hHY⟩, hCD, ⟨hAP, hAX, hAY⟩, ⟨hKE, hOX, hOY⟩, ⟨hLU, hLX⟩, ⟨hPE, hPL, hPH⟩⟩ := hU'
  have hC := hcfg.2.1
  have hn3 := (hLN l hl).2.2.1
  obtain ⟨n1, n2, _, n4, _, _⟩ := hLN l hl
  have hE : ∀ i, zr_E n p l i := fun i => by unfold zr_E; omega
  refine zx_step hl n1 n2 hn3 (by omega) (fun w => by omega) (fun w => by omega) (fun w => by omega) (fun w1 w2 => by omega) (fun w1 w2 => by omega) (fun w1 w2 => by omega) (fun w1 w2 => ?_)
  refine zx_persist' hPE (fun pe' ms' g1 g2 => Exists.intro 4 ?_)
  refine zx_fin_l hC hl hn3 n1 (fun i hi => hOX l hl i hi (hE i)) (fun Bc U' S' H' hB P X => H Bc pe' ms' U' S' H' ?_) (n l) 0 B _ _ _ (by omega) (fun κ hκ => ⟨fun w => by omega, fun _ => rfl⟩) hPB hIX 4 (by omega)
  have z := (hPL l hl).2.2.2 hp
  refine zr_idle hU hl (fun κ hκ w => ?_) (fun κ hκ w => (hB κ hκ).2 (fun q => w (by unfold zk_l; omega))) P X g2 (fun j hj w => ?_) (fun i hi => ⟨z i hi, ?_⟩) (by omega) pk_us (fun l' e => by rw [pk_un e, pk_un e])
  · by_cases q : 32 + 3 * l ≤ κ ∧ κ < 32 + 3 * l + n l
    · exact (hB κ hκ).1 q
    · rw [(hB κ hκ).2 q]
      unfold zk_l at w
      by_cases q1 : κ = 28 + l
      · rw [q1]; exact hh
      · by_cases q2 : κ < 32
        · have e : κ = 16 + 3 * l + (κ - 16 - 3 * l) := by omega
          rw [e]; exact (hKE l (by omega) (κ - 16 - 3 * l) (by omega)).2.2.2.1 (fun y => y.2.2 (hE _))
        · have e : κ = 32 + 3 * l + (κ - 32 - 3 * l) := by omega
          rw [e]; exact (hKE l (by omega) (κ - 32 - 3 * l) (by omega)).2.2.2.2.1 (fun y => by omega)
  · rw [g1 j hj, zb_15 l hl j hj, if_neg (fun q => w (of_decide_eq_true q))]
  · rw [g1 _ (by omega), zb_15 l hl _ (by omega), if_pos (decide_eq_true (by omega))]
    exact z i hi
end
theorem zc_T (x : Int32) (b : Nat) (hb : b < 2 ^ 30) : ∃ T, T ≤ b ∧ (∀ F : Int32 → Prop, F (nI T) → ((nI 0 ≤ x → ((x ≤ nI b → F x) ∧ (¬ x ≤ nI b → F (nI b)))) ∧ (¬ nI 0 ≤ x → F (nI 0)))) ∧ (∀ i, i < T → ¬ x ≤ nI i) ∧ (T < b → x ≤ nI T) := by
  by_cases h1 : nI 0 ≤ x
  · have hx : ¬ x < 0 := Int32.not_lt.mpr h1
    obtain ⟨j, hj, rfl⟩ := nI_of hx
    by_cases h2 : j ≤ b
    · refine ⟨j, h2, fun F hF => br_t h1 (br_t (nI_le h2 (by omega)) hF), fun i hi => nI_ge hi hj, fun _ => nI_le (Nat.le_refl _) hj⟩
    · refine ⟨b, Nat.le_refl _, fun F hF => br_t h1 (br_f (nI_ge (by omega) hj) hF), fun i hi => nI_ge (by omega) hj, fun w => absurd w (by omega)⟩
  · refine ⟨0, by omega, fun F hF => br_f h1 hF, fun i hi => absurd hi (by omega), fun _ => ?_⟩
    exact Int32.le_of_lt (Int32.not_le.mp h1)
theorem zr_run_l {k l T N left0 p0 : Nat} {v2 : Int32} {W : (Int32 → SY → Prop) → Prop} (hl : l < 4) (hN : N ≤ 3) (h1 : 1 ≤ N) (hT : T ≤ left0) (hleft : left0 + p0 = 2 * N + 5) (hlo : ∀ i, i < T → ¬ v2 ≤ nI i) (hhi : T < left0 → v2 ≤ nI T) :
    ∀ d i (C S L : Nat) (B cd n p : Nat → Nat) (kd fa fb va vb : Nat → Nat → Nat) (fc fs fl pe lk dn rl lf : Int32) (cur sta lst : Nat → Int32) (me ms : Nat → Int64) (sb ow cS cU cH ha ct tk ll : Nat → Int32) (en : Nat → Int64) (ob ss sz hs hz kn fi se nS nZ oS oZ : Nat → Int32), i + d = T → i < left0 → zr_U C S L B cd n p kd fa fb va vb fc fs fl pe lk dn rl lf cur sta lst me ms sb ow cS cU cH ha ct tk ll en ob ss sz hs hz kn fi se nS nZ oS oZ → n l = N → p l = p0 + i → B (28 + l) = 0 →
      (∀ postY : Int32 → SY → Prop, wY_run_58 postY (nI l) v2 (nI (2 * N + 5)) (12 - i) (nI i) fc fs fl lf cur sta lst ss sz hs hz ct tk kn fi se nS nZ oS oZ → W postY) →
      ∀ m, d < m → wX_run_74 (fun r u' => W (fun r' v' => r' = r ∧ i_Rel k u' v')) (nI l) (nI left0) (nI T) m (nI i) fc fs fl pe lk dn rl cur sta lst me ms sb ow cS cU cH ha ct tk ll en ob := by
  have hc : (nI l).toNatClampNeg = l := nI_clamp (by omega)
  have hi4 : vp_in (nI l) 4 := vp_in_nI hl (by omega)
  intro d
  induction d with
  | zero =>
    intro i C S L B cd n p kd fa fb va vb fc fs fl pe lk dn rl lf cur sta lst me ms sb ow cS cU cH ha ct tk ll en ob ss sz hs hz kn fi se nS nZ oS oZ hi hil hU hn hp hB hY m hm
    obtain ⟨m, rfl⟩ : ∃ m', m = m' + 1 := ⟨m - 1, by omega⟩
    have hU' := hU
    obtain ⟨⟨rfl, rfl, rfl, rfl, rfl⟩, hcfg, hlst, hPB, hIX, hLN, ⟨hSY, hSX⟩, ⟨hHX, hHY⟩, hCD, ⟨hAP, hAX, hAY⟩, ⟨hKE, hOX, hOY⟩, ⟨hLU, hLX⟩, ⟨hPE, hPL, hPH⟩⟩ := hU'
    have n2 := (hLN l hl).2.1
    refine pk_le T i (fun _ => hY _ ?_) (fun z => absurd z (by omega))
    obtain ⟨f, hf⟩ : ∃ f, 12 - i = f + 1 := ⟨11 - i, by omega⟩
    rw [hf]
    have e : i = T := by omega
    refine pk_le 11 i (fun z => absurd z (by omega)) (fun _ => br_t (by rw [e]; exact hhi (by omega)) (And.intro hi4 ?_))
    rw [hc, n2]
    refine ⟨?_, zz_mk (Or.inl ⟨_, _, _, _, _, _, _, _, _, _, _, _, hU⟩)⟩
    rw [pk_sub (by omega), pk_sub (by omega)]
    congr 1; omega
  | succ d ih =>
    intro i C S L B cd n p kd fa fb va vb fc fs fl pe lk dn rl lf cur sta lst me ms sb ow cS cU cH ha ct tk ll en ob ss sz hs hz kn fi se nS nZ oS oZ hi hil hU hn hp hB hY m hm
    obtain ⟨m, rfl⟩ : ∃ m', m = m' + 1 := ⟨m - 1, by omega⟩
    have hU' := hU
    obtain ⟨⟨rfl, rfl, rfl, rfl, rfl⟩, hcfg, hlst, hPB, hIX, hLN, ⟨hSY, hSX⟩, ⟨hHX, hHY⟩, hCD, ⟨hAP, hAX, hAY⟩, ⟨hKE, hOX, hOY⟩, ⟨hLU, hLX⟩, ⟨hPE, hPL, hPH⟩⟩ := hU'
    obtain ⟨n1, n2, _, n4, _, _⟩ := hLN l hl
    refine pk_le T i (fun z => absurd z (by omega)) (fun _ => ?_)
    have nxt : ∀ postY : Int32 → SY → Prop, (wY_run_58 postY (nI l) v2 (nI (2 * N + 5)) (12 - i - 1 + 1) (nI i) (nI C) (nI S) (nI L) 0 cur sta lst ss sz hs hz ct tk kn fi se nS nZ oS oZ) → W postY := fun postY w => hY postY (by rw [show 12 - i = 12 - i - 1 + 1 by omega]; exact w)
    by_cases hf : p l + 1 = 2 * N + 5
    · refine zr_fin hU hl (by omega) hB (by omega) (fun B' pe' ms' cU' cS' cH' hU2 => nm_r (nI_1 i) ?_)
      obtain ⟨m, rfl⟩ : ∃ m', m = m' + 1 := ⟨m - 1, by omega⟩
      refine pk_le T (i + 1) (fun _ => nxt _ ?_) (fun z => absurd z (by omega))
      refine pk_le 11 i (fun z => absurd z (by omega)) (fun _ => br_f (hlo i (by omega)) (And.intro hi4 (And.intro hi4 ?_)))
      rw [hc, n2, nI_1 (p l)]
      refine nm_e (And.intro hi4 (And.intro hi4 ?_))
      rw [pk_us, n1]
      refine pk_eq (p l + 1) (n l + 2) (fun z => absurd z (by omega)) (fun _ => ?_) rfl (nI_add _ 2)
      refine And.intro hi4 ?_
      rw [hc, pk_us]
      refine pk_eq (p l + 1) (2 * N + 5) (fun _ => ?_) (fun z => absurd hf z)
      refine zy_idle hl rfl ⟨?_, zz_mk (Or.inl ⟨_, _, _, _, _, _, _, _, _, _, _, _, hU2⟩)⟩
      rw [pk_sub (by omega), show left0 - T = 0 by omega]; rfl
    · obtain ⟨B', ss', sz', oS', oZ', q1, q2, q3, q4⟩ := zr_step hU hl (by omega) hB (by omega)
      refine q4 _ (fun pe' me' ms' sb' ow' ob' hU2 => nm_r (nI_1 i) ?_)
      refine ih (i + 1) _ _ _ _ _ _ _ _ _ _ _ _ _ _ _ _ _ _ _ _ _ _ _ _ _ _ _ _ _ _ _ _ _ _ _ _ _ _ _ _ _ _ _ _ _ _ _ (by omega) (by omega) hU2 hn (by rw [zu_s]; omega) q1 (fun postY w => nxt postY ?_) m (by omega)
      refine pk_le 11 i (fun z => absurd z (by omega)) (fun _ => br_f (hlo i (by omega)) (And.intro hi4 (And.intro hi4 ?_)))
      rw [hc, n2, nI_1 (p l)]
      refine nm_e (And.intro hi4 (And.intro hi4 ?_))
      rw [pk_us, n1]
      have last : ∀ {Z : Prop}, Z = Z := rfl
      have e12 : 12 - (i + 1) = 12 - i - 1 := by omega
      rw [e12] at w
      refine pk_eq (p l + 1) (n l + 2) (fun e => q2 e _ ?_) (fun e => ?_) rfl (nI_add _ 2)
      · refine And.intro hi4 ?_
        rw [hc, pk_us]
        exact pk_eq (p l + 1) (2 * N + 5) (fun z => absurd z hf) (fun _ => nm_r (nI_1 i) w)
      · obtain ⟨x1, x2, x3, x4⟩ := q3 e
        subst x1; subst x2; subst x3; subst x4
        refine And.intro hi4 ?_
        rw [hc, pk_us]
        exact pk_eq (p l + 1) (2 * N + 5) (fun z => absurd z hf) (fun _ => nm_r (nI_1 i) w)
theorem i_vc_run {k : Nat} {u : SX} {v : SY} (I : i_Rel k u v) (hk : k + 4 ≤ 2051) (v1 : Int32) (v2 : Int32) : wpX_run (fun r u' => wpY_run (fun r' v' => r' = r ∧ i_Rel (k + 4) u' v') v v1 v2) u v1 v2 := by
  refine zz_el (P := fun u v => wpX_run (fun r u' => wpY_run (fun r' v' => r' = r ∧ i_Rel (k + 4) u' v') v v1 v2) u v1 v2) ?_ I
  intro fc fs fl pe lk dn rl lf cur sta lst me ms sb ow cS cU cH ha ct tk ll en ob ss sz hs hz kn fi se nS nZ oS oZ hr0
  have hI : i_Rel (k + 4) (fc, fs, fl, pe, lk, dn, rl, cur, sta, lst, me, ms, sb, ow, cS, cU, cH, ha, ct, tk, ll, en, ob) (fc, fs, fl, lf, cur, sta, lst, ss, sz, hs, hz, ct, tk, kn, fi, se, nS, nZ, oS, oZ) := zz_mk hr0
  rcases hr0 with ⟨C, S, L, B, cd, n, p, kd, fa, fb, va, vb, hU⟩ | ⟨C, S, L, r, T, n, st, kd, fa, fb, va, vb, hD⟩
  · have hU0 := hU
    obtain ⟨⟨rfl, rfl, rfl, rfl, rfl⟩, hcfg, hlst, hPB, hIX, hLN, ⟨hSY, hSX⟩, ⟨hHX, hHY⟩, hCD, ⟨hAP, hAX, hAY⟩, ⟨hKE, hOX, hOY⟩, ⟨hLU, hLX⟩, ⟨hPE, hPL, hPH⟩⟩ := hU
    have hC := hcfg.2.1
    have hS := hcfg.2.2.2.1
    have hL := hcfg.2.2.2.2.2
    refine br_t rfl ?_
    rcases pk_ix v1 (n := L) (by omega) with hb | hb | ⟨l, hl, rfl⟩
    · exact zx_bL1 (Or.inl hb) (br_f (by decide) (br_t (by decide) (zy_bL1 (Or.inl hb) (br_f (by decide) ⟨rfl, hI⟩))))
    · exact zx_bL1 (Or.inr hb) (br_f (by decide) (br_t (by decide) (zy_bL1 (Or.inr hb) (br_f (by decide) ⟨rfl, hI⟩))))
    · refine zx_bL0 hl (by omega) (br_t rfl ?_)
      have hi : vp_in (nI l) 4 := vp_in_nI (by omega) (by omega)
      have hc : (nI l).toNatClampNeg = l := nI_clamp (by omega)
      obtain ⟨n1, n2, n3, n4, n5, n6⟩ := hLN l (by omega)
      obtain ⟨⟨y1, y2⟩, y3, y4⟩ := hHY l (by omega)
      have hlt := za_PB_lt hC hPB (κ := 28 + l) (by omega)
      refine And.intro hi ?_
      rw [hc, hHX l (by omega)]
      refine pk_eq (B (28 + l)) 0 (fun hB0 => And.intro hi ?_) (fun hB0 => ?_)
      · have yh : hz (nI l).toNatClampNeg ≤ 0 := by rw [hc, y1, hB0]; decide
        rw [n1]
        refine pk_eq (n l) 0 (fun e0 => br_t (by decide) (zy_bL0 hl (by omega) (br_t rfl (And.intro hi (br_t yh (And.intro hi ?_)))))) (fun e0 => And.intro hi (And.intro hi ?_))
        · rw [hc, n1, e0]; exact br_t rfl ⟨rfl, hI⟩
        · have y0 : ¬ ct (nI l).toNatClampNeg = 0 := by rw [hc, n1]; exact nI_ne0 (by omega) (by omega)
          have e5 : (2 : Int32) * nI (n l) + 5 = nI (2 * n l + 5) := by rw [zn_2]; exact nI_add _ 5
          have el : ((2 : Int32) * nI (n l) + 5) - nI (p l) = nI (2 * n l + 5 - p l) := by rw [e5, pk_sub (by omega)]
          rw [n2]
          refine nm_r el ?_
          obtain ⟨T, t1, t2, t3, t4⟩ := zc_T v2 (2 * n l + 5 - p l) (by omega)
          refine zx_cl t2 rfl rfl (Exists.intro 12 ?_)
          refine zr_run_l (W := fun post => wpY_run post (nI C, nI S, nI L, 0, cur, sta, lst, ss, sz, hs, hz, ct, tk, kn, fi, se, nS, nZ, oS, oZ) (nI l) v2) (N := n l) (p0 := p l) (by omega) n3 (by omega) t1 (by omega) t3 t4 T 0 _ _ _ _ _ _ _ _ _ _ _ _ _ _ _ _ _ _ _ _ _ _ _ _ _ _ _ _ _ _ _ _ _ _ _ _ _ _ _ _ _ _ _ _ _ _ _ (by omega) (by omega) hU0 rfl rfl hB0 (fun postY w => ?_) 12 (by omega)
          refine br_t (by decide) (zy_bL0 hl (by omega) (br_t rfl (And.intro hi (br_t yh (And.intro hi (br_f y0 (And.intro hi ?_)))))))
          rw [hc, n1]
          exact nm_r e5 (Exists.intro 12 w)
      · have wl := za_wf_lt hC ((hPB.1 (28 + l) (by omega)).resolve_left hB0)
        refine br_t (by decide) (zy_bL0 hl (by omega) (br_t rfl (And.intro hi ?_)))
        rw [hc, y1]
        exact br_f (nI_nle (by omega) (by omega)) ⟨rfl, hI⟩
  · obtain ⟨⟨rfl, rfl, rfl, rfl, rfl, rfl⟩, hcfg, hr, hlst, hPB, hT0, hSY, ⟨hid, hlk⟩, hAP, ⟨hPE, hDL, hDH, hDP⟩⟩ := hD
    have h0 := zi_r hr hcfg.2.2.2.2.2
    exact br_f (by decide) (br_f h0.2.1 ⟨rfl, hI⟩)
end
section
/-! recovery, the steps -/
def zr_DX (a L : Nat) (T n st : Nat → Nat) (kd fa fb va vb : Nat → Nat → Nat) (pe : Int32) (me ms : Nat → Int64) : Prop :=
  zr_PE pe me ms ∧ (∀ l, l < 4 → zr_DL (st l) l (n l) kd fa fb va vb T me ms) ∧ zr_DH n st kd fa fb T me ms ∧ zr_DP a L n st kd fa fb T me ms
section
variable {fc fs fl pe lk dn rl : Int32} {cur sta lst sb ow cS cU cH ha ct tk ll ob : Nat → Int32} {me ms en : Nat → Int64} {S L : Nat} {T n : Nat → Nat} {kd fa fb va vb : Nat → Nat → Nat} {l : Nat}
theorem zx_rep62 {post : SX → Prop} {N : Nat} (hl : l < 4) (hN : N ≤ 3) (hok : ∀ i, i < N → ze_ok (kd l i) (fa l i) (fb l i) (va l i) (vb l i))
    (hme : ∀ i, i < N → me (16 + 4 * l + i) = lN (ze_v (kd l i) (fa l i) (fb l i) (va l i) (vb l i))) (hT : ∀ i, i < N → T (fa l i) = va l i ∧ (kd l i = 3 → T (fb l i) = vb l i))
    (H : ∀ pe' (me' : Nat → Int64), zp_ext pe me pe' me' → (∀ j, 16 ≤ j → me' j = me j) → (∀ s, me' s = me s ∨ me' s = lN (T s)) → (∀ i, i < N → ∀ s, zr_tc kd fa fb l i s → me' s = lN (T s)) → post (fc, fs, fl, pe', lk, dn, rl, cur, sta, lst, me', ms, sb, ow, cS, cU, cH, ha, ct, tk, ll, en, ob)) :
    ∀ d i pe' (me' : Nat → Int64), i + d = N → zp_ext pe me pe' me' → (∀ j, 16 ≤ j → me' j = me j) → (∀ s, me' s = me s ∨ me' s = lN (T s)) → (∀ i', i' < i → ∀ s, zr_tc kd fa fb l i' s → me' s = lN (T s)) → ∀ m, d < m →
      wX_replay_62 post (nI (16 + 4 * l)) (lN N) 1 m (nI i) fc fs fl pe' lk dn rl cur sta lst me' ms sb ow cS cU cH ha ct tk ll en ob := by
  intro d
  induction d with
  | zero =>
    intro i pe' me' hi x h1 h2 h3 m hm
    obtain ⟨m, rfl⟩ : ∃ m', m = m' + 1 := ⟨m - 1, by omega⟩
    have e : i = N := by omega
    subst e
    have fin := H pe' me' x h1 h2 h3
    refine pk_le 3 i (fun _ => fin) (fun _ => br_t ?_ fin)
    rw [nI_l (by omega), lN_le (by omega) (by omega)]; omega
  | succ d ih =>
    intro i pe' me' hi x h1 h2 h3 m hm
    obtain ⟨m, rfl⟩ : ∃ m', m = m' + 1 := ⟨m - 1, by omega⟩
    have hiN : i < N := by omega
    obtain ⟨t1, t2⟩ := hT i hiN
    have ok := hok i hiN
    have hok' := ok
    obtain ⟨g1, g2, g3, g4, g5⟩ := hok'
    refine pk_le 3 i (fun z => absurd z (by omega)) (fun _ => br_f ?_ (br_f (by decide) ?_))
    · rw [nI_l (by omega), lN_le (by omega) (by omega)]; omega
    · refine zx_carry (j0 := 16 + 4 * l + i) (by omega) (by omega) (nI_add _ _) ok (by rw [h1 _ (by omega)]; exact hme i hiN) (fun pe2 me2 x2 hm2 => ?_)
      refine nm_r (nI_1 i) (ih (i + 1) pe2 me2 (by omega) (zp_tr x x2) (fun j hj => ?_) (fun s => ?_) (fun i' hi' s t => ?_) m (by omega))
      · rw [hm2, if_neg (by omega), if_neg (by omega)]; exact h1 j hj
      · rw [hm2]
        by_cases q : kd l i = 3 ∧ s = fb l i
        · rw [if_pos q, q.2, t2 q.1]; exact Or.inr rfl
        · rw [if_neg q]
          by_cases q2 : s = fa l i
          · rw [if_pos q2, q2, t1]; exact Or.inr rfl
          · rw [if_neg q2]; exact h2 s
      · rw [hm2]
        by_cases q : kd l i = 3 ∧ s = fb l i
        · rw [if_pos q, q.2, t2 q.1]
        · rw [if_neg q]
          by_cases q2 : s = fa l i
          · rw [if_pos q2, q2, t1]
          · rw [if_neg q2]
            refine h3 i' ?_ s t
            by_cases e : i' = i
            · rw [e] at t
              rcases t with t | t
              · exact absurd t.symm q2
              · exact absurd ⟨t.1, t.2.symm⟩ q
            · omega
theorem zx_rep15 {post : SX → Prop} {N : Nat} (hl : l < 4) (hN : N ≤ 3)
    (Ht : (∀ i, i < N → me (16 + 4 * l + i) ≠ 0) → ∃ n62, wX_replay_62 post (nI (16 + 4 * l)) (lN N) 1 n62 0 fc fs fl pe lk dn rl cur sta lst me ms sb ow cS cU cH ha ct tk ll en ob)
    (Hf : ¬ (∀ i, i < N → me (16 + 4 * l + i) ≠ 0) → ∃ n62, wX_replay_62 post (nI (16 + 4 * l)) (lN N) 0 n62 0 fc fs fl pe lk dn rl cur sta lst me ms sb ow cS cU cH ha ct tk ll en ob) :
    ∀ d i (f : Nat), i + d = N → f < 2 → (f = 1 ↔ ∀ i', i' < i → me (16 + 4 * l + i') ≠ 0) → ∀ m, d < m → wX_replay_15 post (nI (16 + 4 * l)) (lN N) fc fs fl pe lk dn rl cur sta lst me ms sb ow cS cU cH ha ct tk ll en ob m (nI f) (nI i) := by
  intro d
  induction d with
  | zero =>
    intro i f hi hf inv m hm
    obtain ⟨m, rfl⟩ : ∃ m', m = m' + 1 := ⟨m - 1, by omega⟩
    have e : i = N := by omega
    subst e
    have fin : ∃ n62, wX_replay_62 post (nI (16 + 4 * l)) (lN i) (nI f) n62 0 fc fs fl pe lk dn rl cur sta lst me ms sb ow cS cU cH ha ct tk ll en ob := by
      by_cases q : f = 1
      · rw [q]; exact Ht (inv.mp q)
      · have q0 : f = 0 := by omega
        rw [q0]; exact Hf (fun w => q (inv.mpr w))
    refine pk_le 3 i (fun _ => fin) (fun _ => br_t ?_ fin)
    rw [nI_l (by omega), lN_le (by omega) (by omega)]; omega
  | succ d ih =>
    intro i f hi hf inv m hm
    obtain ⟨m, rfl⟩ : ∃ m', m = m' + 1 := ⟨m - 1, by omega⟩
    refine pk_le 3 i (fun z => absurd z (by omega)) (fun _ => br_f ?_ ?_)
    · rw [nI_l (by omega), lN_le (by omega) (by omega)]; omega
    · rw [nI_add]
      refine And.intro (vp_in_nI (by omega) (by omega)) ?_
      rw [nI_clamp (by omega)]
      have ef : f = 0 ∨ f = 1 := by omega
      refine br_c (fun hz0 => ?_) (fun hz0 => ?_)
      · refine nm_r (e' := nI 0) (by rcases ef with e | e <;> rw [e] <;> decide) (nm_r (nI_1 i) (ih (i + 1) 0 (by omega) (by omega) ?_ m (by omega)))
        exact ⟨fun w => absurd w (by omega), fun w => absurd hz0 (w i (by omega))⟩
      · refine nm_r (e' := nI f) (by rcases ef with e | e <;> rw [e] <;> decide) (nm_r (nI_1 i) (ih (i + 1) f (by omega) hf ?_ m (by omega)))
        rw [inv]
        constructor
        · intro h j hj
          by_cases e : j = i
          · rw [e]; exact hz0
          · exact h j (by omega)
        · intro h j hj; exact h j (by omega)
/-- replay: nothing, or the whole log carried home -/
theorem zx_replay {post : SX → Prop} {N : Nat} (hl : l < 4) (hN : N ≤ 3) (hok : ∀ i, i < N → ze_ok (kd l i) (fa l i) (fb l i) (va l i) (vb l i))
    (hline : ∀ i, i < N → me (16 + 4 * l + i) = 0 ∨ me (16 + 4 * l + i) = lN (ze_v (kd l i) (fa l i) (fb l i) (va l i) (vb l i))) (hseal : me (16 + 4 * l + 3) = 0 ∨ me (16 + 4 * l + 3) = lN N)
    (hT : (me (16 + 4 * l + 3) = lN N ∧ ∀ i, i < N → me (16 + 4 * l + i) ≠ 0) → ∀ i, i < N → T (fa l i) = va l i ∧ (kd l i = 3 → T (fb l i) = vb l i))
    (H0 : ¬ (me (16 + 4 * l + 3) = lN N ∧ ∀ i, i < N → me (16 + 4 * l + i) ≠ 0) → post (fc, fs, fl, pe, lk, dn, rl, cur, sta, lst, me, ms, sb, ow, cS, cU, cH, ha, ct, tk, ll, en, ob))
    (H1 : ∀ pe' (me' : Nat → Int64), zp_ext pe me pe' me' → (∀ j, 16 ≤ j → me' j = me j) → (∀ s, me' s = me s ∨ me' s = lN (T s)) → (∀ i, i < N → ∀ s, zr_tc kd fa fb l i s → me' s = lN (T s)) → post (fc, fs, fl, pe', lk, dn, rl, cur, sta, lst, me', ms, sb, ow, cS, cU, cH, ha, ct, tk, ll, en, ob)) :
    wpX_replay post (fc, fs, fl, pe, lk, dn, rl, cur, sta, lst, me, ms, sb, ow, cS, cU, cH, ha, ct, tk, ll, en, ob) (nI (16 + 4 * l)) := by
  have e3 : nI (16 + 4 * l) + 3 = nI (16 + 4 * l + 3) := nI_add _ 3
  have hin : vp_in (nI (16 + 4 * l) + 3) 32 := by rw [e3]; exact vp_in_nI (by omega) (by omega)
  refine And.intro hin ?_
  rw [e3, nI_clamp (by omega)]
  have x0 : zp_ext pe me pe me := fun j _ h => ⟨h, rfl⟩
  by_cases sN : me (16 + 4 * l + 3) = lN N
  · refine nm_r sN (Exists.intro 4 ?_)
    refine zx_rep15 hl hN (fun hall => ⟨4, ?_⟩) (fun hnall => ⟨1, ?_⟩) N 0 1 (by omega) (by omega) ⟨fun _ i' hi' => absurd hi' (by omega), fun _ => rfl⟩ 4 (by omega)
    · exact zx_rep62 hl hN hok (fun i hi => (hline i hi).resolve_left (hall i hi)) (hT ⟨sN, hall⟩) H1 N 0 pe me (by omega) x0 (fun _ _ => rfl) (fun _ => Or.inl rfl) (fun i' hi' => absurd hi' (by omega)) 4 (by omega)
    · have fin := H0 (fun w => hnall w.2)
      exact br_c (fun _ => fin) (fun _ => br_c (fun _ => fin) (fun _ => br_t rfl fin))
  · have s0 := hseal.resolve_right sN
    have fin := H0 (fun w => sN w.1)
    refine nm_r s0 (Exists.intro 1 ?_)
    have e62 : ∀ x4 : Int32, ∃ n62, wX_replay_62 post (nI (16 + 4 * l)) 0 x4 n62 0 fc fs fl pe lk dn rl cur sta lst me ms sb ow cS cU cH ha ct tk ll en ob := fun x4 => ⟨1, br_c (fun _ => fin) (fun _ => br_t (by decide) fin)⟩
    exact br_c (fun _ => e62 1) (fun _ => br_t (by decide) (e62 1))
end
def zd_st (a : Nat) (st : Nat → Nat) : Nat → Nat := fun l => if a = 4 * l + 1 ∧ st l = 1 then 2 else st l
theorem zd_st_t {a l : Nat} {st : Nat → Nat} (q : a = 4 * l + 1 ∧ st l = 1) : zd_st a st l = 2 := if_pos q
theorem zd_st_f {a l : Nat} {st : Nat → Nat} (q : ¬ (a = 4 * l + 1 ∧ st l = 1)) : zd_st a st l = st l := if_neg q
theorem zn_m4 : ∀ a, a < 16 → nI a &&& (-4) = nI (4 * (a / 4)) := by decide +kernel
section
variable {fc fs fl pe lk dn rl : Int32} {cur sta lst sb ow cS cU cH ha ct tk ll ob : Nat → Int32} {me ms en : Nat → Int64} {S L : Nat} {T n st : Nat → Nat} {kd fa fb va vb : Nat → Nat → Nat} {a : Nat}
theorem zd_ok (hS : S ≤ 16) (hAP : zr_AP S n kd fa fb va vb) {l : Nat} (hl : l < 4) : ∀ i, i < n l → ze_ok (kd l i) (fa l i) (fb l i) (va l i) (vb l i) := fun i hi => by
  obtain ⟨b1, b2, b3, b4, b5, b6, b7, b8, b9⟩ := hAP l hl i hi
  exact ⟨by omega, by omega, by omega, b8, b9⟩
/-- a replay leaves all in order -/
theorem zd_rep {l : Nat} {pe' : Int32} {me' : Nat → Int64} (D : zr_DX a L T n st kd fa fb va vb pe me ms) (ha' : a = 4 * l) (hl : l < 4)
    (x : zp_ext pe me pe' me') (h1 : ∀ j, 16 ≤ j → me' j = me j) (h2 : ∀ s, me' s = me s ∨ me' s = lN (T s)) (h3 : st l = 1 → ∀ i, i < n l → ∀ s, zr_tc kd fa fb l i s → me' s = lN (T s)) :
    zr_DX (a + 1) L T n st kd fa fb va vb pe' me' ms := by
  obtain ⟨hPE, hDL, hDH, d1, d2, d3, d4⟩ := D
  refine ⟨zr_ext_PE hPE x, fun l' hl' => ?_, fun s hs' hn => ?_, fun l' hl' w i hi => ?_, fun l' hl' w hst i hi s t => ?_, fun l' hl' w => ?_, fun l' hl' w => by omega⟩
  · have := hDL l' hl'
    unfold zr_DL at this ⊢
    obtain ⟨e0, e1, e2, e3, e4, e5, e6⟩ := this
    refine ⟨e0, fun i hi => ?_, ?_, e3, fun w => ?_, fun w => ?_, e6⟩
    · rw [h1 _ (by omega)]; exact e1 i hi
    · rw [h1 _ (by omega)]; exact e2
    · obtain ⟨j, q1, q2, q3⟩ := e4 w
      exact ⟨j, q1, by rw [h1 _ (by omega)]; exact q2, q3⟩
    · obtain ⟨q1, q2, q3, q4⟩ := e5 w
      refine ⟨q1, fun i hi => ?_, ?_, q4⟩
      · rw [h1 _ (by omega)]; exact q2 i hi
      · rw [h1 _ (by omega)]; exact q3
  · obtain ⟨q1, q2⟩ := hDH s hs' hn
    refine ⟨?_, q2⟩
    rcases h2 s with e | e
    · rw [e]; exact q1
    · exact e
  · rw [h1 _ (by omega)]
    exact d1 l' hl' (by omega) i hi
  · have e : l' = l := by omega
    subst e
    exact h3 hst i hi s t
  · exact d3 l' hl' (by omega)
/-- everything stored is durable now -/
theorem zd_per {pe' : Int32} {ms' : Nat → Int64} (D : zr_DX a L T n st kd fa fb va vb pe me ms) (hm : ∀ j, j < 32 → ms' j = me j) (hodd : a % 2 = 1) (ha' : a < 4 * L) (hL : L ≤ 4) :
    zr_DX (a + 1) L T n (zd_st a st) kd fa fb va vb pe' me ms' := by
  obtain ⟨hPE, hDL, hDH, d1, d2, d3, d4⟩ := D
  refine ⟨fun j hj _ => (hm j hj).symm, fun l' hl' => ?_, fun s hs' hn => ?_, fun l' hl' w i hi => ?_, fun l' hl' w => by omega, fun l' hl' w => ?_, fun l' hl' w => by omega⟩
  · have := hDL l' hl'
    unfold zr_DL at this ⊢
    obtain ⟨e0, e1, e2, e3, e4, e5, e6⟩ := this
    by_cases q : a = 4 * l' + 1 ∧ st l' = 1
    · rw [zd_st_t q]
      refine ⟨e0, fun i hi => ?_, e2, ?_, fun w => absurd w (by omega), fun w => absurd w (by omega), fun _ => e6 (by omega)⟩
      · rw [hm _ (by omega)]; exact ⟨(e1 i hi).1, (e1 i hi).1⟩
      · rw [hm _ (by omega)]; exact e2
    · rw [zd_st_f q]
      refine ⟨e0, fun i hi => ?_, e2, ?_, fun w => ?_, fun w => ?_, e6⟩
      · rw [hm _ (by omega)]; exact ⟨(e1 i hi).1, (e1 i hi).1⟩
      · rw [hm _ (by omega)]; exact e2
      · obtain ⟨j, q1, q2, q3⟩ := e4 w
        exact ⟨j, q1, q2, by rw [hm _ (by omega)]; exact q2⟩
      · obtain ⟨q1, q2, q3, q4⟩ := e5 w
        refine ⟨q1, fun i hi => ?_, q3, ?_⟩
        · rw [hm _ (by omega)]; exact ⟨(q2 i hi).1, (q2 i hi).1⟩
        · rw [hm _ (by omega)]; exact q3
  · rw [hm s (by omega)]
    suffices h : me s = lN (T s) from ⟨h, h⟩
    by_cases q : ∃ l', l' < 4 ∧ (a = 4 * l' + 1 ∧ st l' = 1) ∧ ∃ i, i < n l' ∧ zr_tc kd fa fb l' i s
    · obtain ⟨l', hl', ⟨q1, q2⟩, i, hi, t⟩ := q
      exact d2 l' (by omega) q1 q2 i hi s t
    · refine (hDH s hs' (fun l' hl' w i hi t => ?_)).1
      by_cases q2 : a = 4 * l' + 1 ∧ st l' = 1
      · exact q ⟨l', hl', q2, i, hi, t⟩
      · refine hn l' hl' ?_ i hi t
        rw [zd_st_f q2]; exact w
  · rw [hm _ (by omega)]
    suffices h : me (16 + 4 * l' + i) = 0 from ⟨h, h⟩
    by_cases q : 4 * l' + 4 ≤ a ∨ L ≤ l'
    · exact (d1 l' hl' q i hi).1
    · exact d4 l' (by omega) (by omega) i hi
  · by_cases q : a = 4 * l' + 1 ∧ st l' = 1
    · rw [zd_st_t q]; decide
    · rw [zd_st_f q]
      by_cases q2 : a = 4 * l' + 1
      · exact fun w => q ⟨q2, w⟩
      · exact d3 l' hl' (by omega)
theorem zd_era {l : Nat} {pe' : Int32} {me' : Nat → Int64} (D : zr_DX a L T n st kd fa fb va vb pe me ms) (ha' : a = 4 * l + 2) (hl : l < L) (hL : L ≤ 4)
    (x : zp_ext pe me pe' me') (hm : ∀ j, me' j = if 16 + 4 * l ≤ j ∧ j < 20 + 4 * l then 0 else me j) :
    zr_DX (a + 1) L T n st kd fa fb va vb pe' me' ms := by
  obtain ⟨hPE, hDL, hDH, d1, d2, d3, d4⟩ := D
  have z : ∀ i, i < 4 → me' (16 + 4 * l + i) = 0 := fun i hi => by rw [hm, if_pos (by omega)]
  have o : ∀ l' i, l' ≠ l → i < 4 → me' (16 + 4 * l' + i) = me (16 + 4 * l' + i) := fun l' i h1 h2 => by rw [hm, if_neg (by omega)]
  refine ⟨zr_ext_PE hPE x, fun l' hl' => ?_, fun s hs' hn => ?_, fun l' hl' w i hi => ?_, fun l' hl' w => by omega, fun l' hl' w => d3 l' hl' (by omega), fun l' hl' w i hi => ?_⟩
  · have := hDL l' hl'
    unfold zr_DL at this ⊢
    obtain ⟨e0, e1, e2, e3, e4, e5, e6⟩ := this
    by_cases q : l' = l
    · subst q
      refine ⟨e0, fun i hi => ⟨Or.inl (z i (by omega)), (e1 i hi).2⟩, Or.inl (z 3 (by omega)), e3, fun w => ?_, fun w => absurd w (d3 l' hl (by omega)), e6⟩
      obtain ⟨j, q1, q2, q3⟩ := e4 w
      exact ⟨j, q1, z j (by omega), q3⟩
    · refine ⟨e0, fun i hi => ?_, ?_, e3, fun w => ?_, fun w => ?_, e6⟩
      · rw [o l' i q (by omega)]; exact e1 i hi
      · rw [o l' 3 q (by omega)]; exact e2
      · obtain ⟨j, q1, q2, q3⟩ := e4 w
        exact ⟨j, q1, by rw [o l' j q (by omega)]; exact q2, q3⟩
      · obtain ⟨q1, q2, q3, q4⟩ := e5 w
        refine ⟨q1, fun i hi => ?_, ?_, q4⟩
        · rw [o l' i q (by omega)]; exact q2 i hi
        · rw [o l' 3 q (by omega)]; exact q3
  · rw [hm, if_neg (by omega)]; exact hDH s hs' hn
  · rw [o l' i (by omega) hi]
    exact d1 l' hl' (by omega) i hi
  · have e : l' = l := by omega
    subst e
    exact z i hi
theorem zx_recstep {post : SX → Prop} (hS : S ≤ 16) (hL : L ≤ 4) (hAP : zr_AP S n kd fa fb va vb) (D : zr_DX a L T n st kd fa fb va vb pe me ms) (ha' : a < 4 * L)
    (H : ∀ st' pe' (me' ms' : Nat → Int64), zr_DX (a + 1) L T n st' kd fa fb va vb pe' me' ms' → post (fc, fs, nI L, pe', lk, dn, nI (4 * L - (a + 1)), cur, sta, lst, me', ms', sb, ow, cS, cU, cH, ha, ct, tk, ll, en, ob)) :
    wpX_recoverStep post (fc, fs, nI L, pe, lk, dn, nI (4 * L - a), cur, sta, lst, me, ms, sb, ow, cS, cU, cH, ha, ct, tk, ll, en, ob) := by
  have e1 : (4 : Int32) * nI L - nI (4 * L - a) = nI a := by
    rw [zn_4, pk_sub (by omega)]; congr 1; omega
  have e2 : (16 : Int32) + (nI a &&& (-4)) = nI (16 + 4 * (a / 4)) := by
    rw [zn_m4 a (by omega)]; exact nI_add 16 _
  have e3 : nI a &&& 3 = nI (a % 4) := pk_andN (by omega) 2 (by decide)
  have er : nI (4 * L - a) - 1 = nI (4 * L - (a + 1)) := by
    rw [show (1 : Int32) = nI 1 from rfl, pk_sub (by omega)]; congr 1
  refine nm_r e1 (nm_r e2 (nm_r e3 ?_))
  have D' := D
  obtain ⟨hPE, hDL, hDH, d1, d2, d3, d4⟩ := D'
  refine pk_eq (a % 4) 0 (fun p0 => ?_) (fun p0 => ?_)
  · have hl : a / 4 < 4 := by omega
    obtain ⟨g0, g1, g2, g3, g4, g5, g6⟩ := hDL (a / 4) hl
    have ea : a = 4 * (a / 4) := by omega
    have nb : (me (16 + 4 * (a / 4) + 3) = lN (n (a / 4)) ∧ ∀ i, i < n (a / 4) → me (16 + 4 * (a / 4) + i) ≠ 0) → ∀ i, i < n (a / 4) → st (a / 4) ≠ 0 := by
      intro w i hi w0
      obtain ⟨j, q1, q2, q3⟩ := g4 w0
      rcases q1 with q1 | q1
      · rw [q1, w.1] at q2
        have : n (a / 4) = 0 := (pk_lEQ (b := 0) (by omega) (by omega)).mp q2
        omega
      · exact w.2 j q1 q2
    refine zx_replay (T := T) hl g0 (zd_ok hS hAP hl) (fun i hi => (g1 i hi).1) g2 (fun w i hi => g6 (nb w i hi) i hi) (fun w => nm_r er (H st pe me ms (zd_rep D ea hl (fun j _ h => ⟨h, rfl⟩) (fun _ _ => rfl) (fun _ => Or.inl rfl) (fun w1 => ?_)))) (fun pe' me' x h1 h2 h3 => nm_r er (H st pe' me' ms (zd_rep D ea hl x h1 h2 (fun _ => h3))))
    refine absurd ?_ w
    obtain ⟨q1, q2, q3, q4⟩ := g5 w1
    refine ⟨q3, fun i hi => ?_⟩
    rw [(q2 i hi).1]
    exact ze_0 (zd_ok hS hAP hl i hi) (hAP (a / 4) hl i hi).1
  · refine pk_eq (a % 4) 2 (fun p2 => ?_) (fun p2 => ?_)
    · exact zx_erase (l := a / 4) (by omega) rfl (fun pe' me' x hm => nm_r er (H st pe' me' ms (zd_era D (by omega) (by omega) hL x hm)))
    · refine zx_persist' hPE (fun pe' ms' g1 g2 => nm_r er (H _ pe' me ms' (zd_per D (fun j hj => ?_) (by omega) ha' hL)))
      rw [g1 j hj]
      cases b : bt pe j
      · rw [if_neg (by decide)]; exact (hPE j hj b).symm
      · rw [if_pos rfl]
end
end
section
/-! rebuild, recover -/
def zb_up (T : Nat → Nat) (s : Nat) : Nat → Nat := fun κ => if κ < s then T κ else 0
theorem zb_lt {T : Nat → Nat} {s κ : Nat} (h : κ < s) : zb_up T s κ = T κ := if_pos h
theorem zb_ge {T : Nat → Nat} {s κ : Nat} (h : ¬ κ < s) : zb_up T s κ = 0 := if_neg h
theorem zb_PB {C s : Nat} {T : Nat → Nat} (P : za_PB C T) : za_PB C (zb_up T s) := by
  refine za_PB_map id P (fun κ hκ hn => ⟨hκ, ?_⟩) (fun _ _ _ _ _ _ e => e)
  by_cases h : κ < s
  · exact zb_lt h
  · exact absurd (zb_ge h) hn
theorem za_mk0 {h : Bool} {B cd : Nat → Nat} {U Z H O U' Z' H' : Nat → Int32} (M : za_mk h 0 U Z H U' Z' H') (X : za_IX B cd U Z H O) : za_IX B cd U' Z' H' O := by
  obtain ⟨X1, X2, X3, X4⟩ := X
  have ni : ∀ k, ¬ za_in 0 k := fun k w => by unfold za_in at w; omega
  have eb : ∀ k, k < 16 → ∀ i, i < 32 → (bt (U' k) i = true ↔ bt (U k) i = true) := by
    intro k hk i hi
    rw [(M k hk).1 i hi]
    have nc : ¬ (i < 8 ∧ za_cov 0 (8 * k + i)) := fun w => za_c0 w.2
    cases h <;> simp [nc]
  refine ⟨fun k hk i hi => by rw [eb k hk i hi]; exact X1 k hk i hi, fun k hk κ hκ i hi c => ?_, fun k hk hn => ?_, X4⟩
  · obtain ⟨e1, e2⟩ := (M k hk).2.2 (ni k)
    rw [e1, e2]; exact X2 k hk κ hκ i hi c
  · rw [((M k hk).2.2 (ni k)).1]; exact X3 k hk hn
section
variable {fc fs fl pe lk dn rl : Int32} {cur sta lst sb ow cS cU cH ha ct tk ll ob : Nat → Int32} {me ms en : Nat → Int64} {C S : Nat} {T : Nat → Nat}
theorem zx_reb2 {post : SX → Prop} (H : ∀ U' S' : Nat → Int32, (∀ j, j < 16 → U' j = 0 ∧ S' j = 0) → ∃ n30, wX_rebuild_30 post n30 0 fc fs fl pe lk dn rl cur sta lst me ms sb ow S' U' cH ha ct tk ll en ob) :
    ∀ d k (U' S' : Nat → Int32), k + d = 16 → (∀ j, j < k → U' j = 0 ∧ S' j = 0) → ∀ m, d < m → wX_rebuild_2 post fc fs fl pe lk dn rl m (nI k) cur sta lst me ms sb ow S' U' cH ha ct tk ll en ob := by
  intro d
  induction d with
  | zero =>
    intro k U' S' hk inv m hm
    obtain ⟨m, rfl⟩ : ∃ m', m = m' + 1 := ⟨m - 1, by omega⟩
    exact pk_le 16 k (fun _ => H U' S' (fun j hj => inv j (by omega))) (fun z => absurd z (by omega))
  | succ d ih =>
    intro k U' S' hk inv m hm
    obtain ⟨m, rfl⟩ : ∃ m', m = m' + 1 := ⟨m - 1, by omega⟩
    have hi : vp_in (nI k) 16 := vp_in_nI (by omega) (by omega)
    have hc : (nI k).toNatClampNeg = k := nI_clamp (by omega)
    refine pk_le 16 k (fun z => absurd z (by omega)) (fun _ => And.intro hi ?_)
    rw [hc]
    refine nm_e (And.intro hi (nm_e (nm_r (nI_1 k) (ih (k + 1) _ _ (by omega) (fun j hj => ?_) m (by omega)))))
    by_cases e : j = k
    · rw [e, pk_us, pk_us]; exact ⟨rfl, rfl⟩
    · rw [pk_un e, pk_un e]; exact inv j (by omega)
theorem zx_reb30 {post : SX → Prop} (hS : S ≤ 16) (hC : C ≤ 16) (P : za_PB C T) (hme : ∀ s, s < 16 → me s = lN (T s))
    (H : ∀ sb' ow' U' S' H', zr_SX S T sb' → za_IX (zb_up T S) zr_cd0 U' S' H' ow' → post (fc, nI S, fl, pe, lk, 0, rl, cur, sta, lst, me, ms, sb', ow', S', U', H', ha, ct, tk, ll, en, ob)) :
    ∀ d s sb' ow' U' S' H', s + d = S → (∀ s', s' < s → sb' s' = nI (T s')) → za_IX (zb_up T s) zr_cd0 U' S' H' ow' → ∀ m, d < m →
      wX_rebuild_30 post m (nI s) fc (nI S) fl pe lk dn rl cur sta lst me ms sb' ow' S' U' H' ha ct tk ll en ob := by
  intro d
  induction d with
  | zero =>
    intro s sb' ow' U' S' H' hs' hsb X m hm
    obtain ⟨m, rfl⟩ : ∃ m', m = m' + 1 := ⟨m - 1, by omega⟩
    have e : s = S := by omega
    subst e
    exact pk_le s s (fun _ => H sb' ow' U' S' H' hsb X) (fun z => absurd z (by omega))
  | succ d ih =>
    intro s sb' ow' U' S' H' hs' hsb X m hm
    obtain ⟨m, rfl⟩ : ∃ m', m = m' + 1 := ⟨m - 1, by omega⟩
    have hi : vp_in (nI s) 16 := vp_in_nI (by omega) (by omega)
    have hi32 : vp_in (nI s) 32 := vp_in_nI (by omega) (by omega)
    have hc : (nI s).toNatClampNeg = s := nI_clamp (by omega)
    have hlt := za_PB_lt hC P (κ := s) (by omega)
    refine pk_le S s (fun z => absurd z (by omega)) (fun _ => And.intro hi32 ?_)
    rw [hc, hme s (by omega), lN_i]
    refine zx_name (s := s) (b := T s) (by omega) hlt rfl rfl (And.intro hi ?_)
    rw [pk_us]
    refine zx_mark true (q := 1) rfl ((P.1 _ (by omega)).imp id (za_wf_up hC)) (fun U2 S2 H2 M => ?_)
    have hsb2 : ∀ s', s' < s + 1 → upd sb' s (nI (T s)) s' = nI (T s') := fun s' h => by
      by_cases e : s' = s
      · rw [e, pk_us]
      · rw [pk_un e]; exact hsb s' (by omega)
    have ezu : zu (zb_up T s) s (T s) = zb_up T (s + 1) := by
      funext κ
      by_cases e : κ = s
      · rw [e, zu_s, zb_lt (by omega)]
      · rw [zu_n e]
        by_cases q : κ < s
        · rw [zb_lt q, zb_lt (by omega)]
        · rw [zb_ge q, zb_ge (by omega)]
    refine nm_r (nI_1 s) (ih (s + 1) _ _ _ _ _ (by omega) hsb2 ?_ m (by omega))
    rcases P.1 s (by omega) with e | e
    · have e0 : zb_up T (s + 1) = zb_up T s := by
        rw [← ezu, e]
        funext κ
        by_cases q : κ = s
        · rw [q, zu_s, zb_ge (by omega)]
        · rw [zu_n q]
      rw [if_pos e, e0]
      rw [e] at M
      exact za_mk0 M X
    · have hne := (za_wf_lt hC e).2.1
      have tk' := za_take (κ := s) hC (zb_PB (s := s) P) X (by omega) (zb_ge (by omega)) e (fun κ' w a1 a2 a3 => ?_) (fun κ' w w' a1 a2 a3 a4 => ?_) M
      · rw [ezu, zr_CD0.1 s (by omega)] at tk'
        rw [if_neg hne]; exact tk'.2
      · by_cases q : κ' < s
        · rw [zb_lt q] at a3
          have := P.2.1 κ' s w a1 (by omega) a3 a2
          omega
        · rw [zb_ge q] at a3; exact za_c0 a3
      · by_cases q : κ' < s
        · rw [zb_lt q] at a4 ⊢
          exact P.2.2 κ' s w' w a1 (by omega) a2.symm a4 a3
        · rw [zb_ge q] at a4; exact absurd a4 za_c0
theorem zx_rebuild {post : SX → Prop} (hS : S ≤ 16) (hC : C ≤ 16) (P : za_PB C T) (hme : ∀ s, s < 16 → me s = lN (T s)) (h0 : ∀ κ, S ≤ κ → T κ = 0)
    (H : ∀ sb' ow' U' S' H', zr_SX S T sb' → za_IX T zr_cd0 U' S' H' ow' → post (fc, nI S, fl, pe, lk, 0, rl, cur, sta, lst, me, ms, sb', ow', S', U', H', ha, ct, tk, ll, en, ob)) :
    wpX_rebuild post (fc, nI S, fl, pe, lk, dn, rl, cur, sta, lst, me, ms, sb, ow, cS, cU, cH, ha, ct, tk, ll, en, ob) := by
  refine Exists.intro 17 (zx_reb2 (fun U' S' hz0 => Exists.intro 17 ?_) 16 0 _ _ (by omega) (fun j hj => absurd hj (by omega)) 17 (by omega))
  have e0 : zb_up T 0 = fun _ => 0 := by funext κ; exact zb_ge (by omega)
  have eS : zb_up T S = T := by
    funext κ
    by_cases q : κ < S
    · exact zb_lt q
    · rw [zb_ge q, h0 κ (by omega)]
  refine zx_reb30 hS hC P hme (fun sb' ow' U' S' H' a b => H sb' ow' U' S' H' a (by rw [eS] at b; exact b)) S 0 _ _ _ _ _ (by omega) (fun s' hs' => absurd hs' (by omega)) ?_ 17 (by omega)
  rw [e0]
  exact zr_IX0 _ _ _ (fun k hk => hz0 k hk)
end
section
variable {fc fs fl lf : Int32} {cur sta lst ss sz hs hz ct tk kn fi se nS nZ oS oZ : Nat → Int32}
theorem zy_rec_l {post : Int32 → SY → Prop} {v1 : Int32} {r T : Nat} (hr : r ≤ 16) (t1 : T ≤ r) (t3 : ∀ i, i < T → ¬ v1 ≤ nI i) (t4 : T < r → v1 ≤ nI T) (H : post (nI (r - T)) (fc, fs, fl, nI (r - T), cur, sta, lst, ss, sz, hs, hz, ct, tk, kn, fi, se, nS, nZ, oS, oZ)) :
    ∀ d i q, i + d = 16 → ((i ≤ T ∧ q = r - i) ∨ (T ≤ i ∧ q = r - T)) → ∀ m, d < m → wY_recover_2 post v1 fc fs fl cur sta lst ss sz hs hz ct tk kn fi se nS nZ oS oZ m (nI i) (nI q) := by
  intro d
  induction d with
  | zero =>
    intro i q hi hq m hm
    obtain ⟨m, rfl⟩ : ∃ m', m = m' + 1 := ⟨m - 1, by omega⟩
    have e : q = r - T := by omega
    rw [e]
    exact pk_le 16 i (fun _ => H) (fun z => absurd z (by omega))
  | succ d ih =>
    intro i q hi hq m hm
    obtain ⟨m, rfl⟩ : ∃ m', m = m' + 1 := ⟨m - 1, by omega⟩
    refine pk_le 16 i (fun z => absurd z (by omega)) (fun _ => ?_)
    by_cases hT : i < T
    · have e : q = r - i := by omega
      have ed : nI q - 1 = nI (q - 1) := by rw [show (1 : Int32) = nI 1 from rfl, pk_sub (by omega)]
      refine br_f (t3 i hT) (br_f (nI_nle (by omega) (by omega)) (nm_r ed (nm_r (nI_1 i) (ih (i + 1) (q - 1) (by omega) (Or.inl ⟨by omega, by omega⟩) m (by omega)))))
    · have e : q = r - T := by omega
      refine br_c (fun _ => by rw [e]; exact H) (fun hv => ?_)
      have hTr : ¬ T < r := fun w => hv (Int32.le_trans (t4 w) (nI_le (by omega) (by omega)))
      have e0 : q = 0 := by omega
      refine br_t (by rw [e0]; decide) (nm_r (nI_1 i) (ih (i + 1) q (by omega) (Or.inr ⟨by omega, e⟩) m (by omega)))
theorem zy_rec {post : Int32 → SY → Prop} {v1 : Int32} {r T : Nat} (hr : r ≤ 16) (t1 : T ≤ r) (t3 : ∀ i, i < T → ¬ v1 ≤ nI i) (t4 : T < r → v1 ≤ nI T) (H : post (nI (r - T)) (fc, fs, fl, nI (r - T), cur, sta, lst, ss, sz, hs, hz, ct, tk, kn, fi, se, nS, nZ, oS, oZ)) :
    wpY_recover post (fc, fs, fl, nI r, cur, sta, lst, ss, sz, hs, hz, ct, tk, kn, fi, se, nS, nZ, oS, oZ) v1 :=
  Exists.intro 17 (zy_rec_l hr t1 t3 t4 H 16 0 r (by omega) (Or.inl ⟨by omega, by omega⟩) 17 (by omega))
end
section
variable {fc fs fl pe lk dn rl : Int32} {cur sta lst sb ow cS cU cH ha ct tk ll ob : Nat → Int32} {me ms en : Nat → Int64} {S L : Nat} {T n : Nat → Nat} {kd fa fb va vb : Nat → Nat → Nat}
theorem zx_rec_l {post : Int32 → SX → Prop} {r t : Nat} (hS : S ≤ 16) (hL : L ≤ 4) (hAP : zr_AP S n kd fa fb va vb) (hr : r ≤ 4 * L) (ht : t ≤ r)
    (H0 : r = t → ∀ st pe (me ms : Nat → Int64), zr_DX (4 * L) L T n st kd fa fb va vb pe me ms → wpX_rebuild (fun u => post u.2.2.2.2.2.2.1 u) (fc, fs, nI L, pe, lk, dn, 0, cur, sta, lst, me, ms, sb, ow, cS, cU, cH, ha, ct, tk, ll, en, ob))
    (H1 : r ≠ t → ∀ st pe (me ms : Nat → Int64), zr_DX (4 * L - (r - t)) L T n st kd fa fb va vb pe me ms → post (nI (r - t)) (fc, fs, nI L, pe, lk, dn, nI (r - t), cur, sta, lst, me, ms, sb, ow, cS, cU, cH, ha, ct, tk, ll, en, ob)) :
    ∀ d i st pe (me ms : Nat → Int64), i + d = t → zr_DX (4 * L - r + i) L T n st kd fa fb va vb pe me ms → ∀ m, d < m → wX_recover_22 post (nI t) m (nI i) fc fs (nI L) pe lk dn (nI (r - i)) cur sta lst me ms sb ow cS cU cH ha ct tk ll en ob := by
  intro d
  induction d with
  | zero =>
    intro i st pe me ms hi D m hm
    obtain ⟨m, rfl⟩ : ∃ m', m = m' + 1 := ⟨m - 1, by omega⟩
    have e : i = t := by omega
    subst e
    refine pk_le i i (fun _ => ?_) (fun z => absurd z (by omega))
    by_cases q : r = i
    · have e0 : nI (r - i) = 0 := by rw [show r - i = 0 by omega]; rfl
      rw [e0]
      rw [show 4 * L - r + i = 4 * L by omega] at D
      exact br_t rfl (H0 q st pe me ms D)
    · rw [show 4 * L - r + i = 4 * L - (r - i) by omega] at D
      exact br_f (nI_ne0 (by omega) (by omega)) (H1 q st pe me ms D)
  | succ d ih =>
    intro i st pe me ms hi D m hm
    obtain ⟨m, rfl⟩ : ∃ m', m = m' + 1 := ⟨m - 1, by omega⟩
    refine pk_le t i (fun z => absurd z (by omega)) (fun _ => ?_)
    have e : r - i = 4 * L - (4 * L - r + i) := by omega
    rw [e]
    refine zx_recstep hS hL hAP D (by omega) (fun st' pe' me' ms' D' => nm_r (nI_1 i) ?_)
    have := ih (i + 1) st' pe' me' ms' (by omega) (by rw [show 4 * L - r + (i + 1) = 4 * L - r + i + 1 by omega]; exact D') m (by omega)
    rw [show 4 * L - (4 * L - r + i + 1) = r - (i + 1) by omega]
    exact this
end
theorem i_vc_recover {k : Nat} {u : SX} {v : SY} (I : i_Rel k u v) (hk : k + 4 ≤ 2051) (v1 : Int32) : wpX_recover (fun r u' => wpY_recover (fun r' v' => r' = r ∧ i_Rel (k + 4) u' v') v v1) u v1 := by
  refine zz_el (P := fun u v => wpX_recover (fun r u' => wpY_recover (fun r' v' => r' = r ∧ i_Rel (k + 4) u' v') v v1) u v1) ?_ I
  intro fc fs fl pe lk dn rl lf cur sta lst me ms sb ow cS cU cH ha ct tk ll en ob ss sz hs hz kn fi se nS nZ oS oZ hr0
  have hI : i_Rel (k + 4) (fc, fs, fl, pe, lk, dn, rl, cur, sta, lst, me, ms, sb, ow, cS, cU, cH, ha, ct, tk, ll, en, ob) (fc, fs, fl, lf, cur, sta, lst, ss, sz, hs, hz, ct, tk, kn, fi, se, nS, nZ, oS, oZ) := zz_mk hr0
  rcases hr0 with ⟨C, S, L, B, cd, n, p, kd, fa, fb, va, vb, hU⟩ | ⟨C, S, L, r, T, n, st, kd, fa, fb, va, vb, hD⟩
  · obtain ⟨⟨rfl, rfl, rfl, rfl, rfl⟩, hcfg, hlst, hPB, hIX, hLN, ⟨hSY, hSX⟩, ⟨hHX, hHY⟩, hCD, ⟨hAP, hAX, hAY⟩, ⟨hKE, hOX, hOY⟩, ⟨hLU, hLX⟩, ⟨hPE, hPL, hPH⟩⟩ := hU
    obtain ⟨t, t1, t2, t3, t4⟩ := zc_T v1 0 (by omega)
    have t0 : t = 0 := by omega
    subst t0
    exact br_t rfl (zy_rec (r := 0) (T := 0) (by omega) (by omega) t3 t4 ⟨rfl, hI⟩)
  · obtain ⟨⟨rfl, rfl, rfl, rfl, rfl, rfl⟩, hcfg, hr, hlst, hPB, hT0, hSY, ⟨hid, hlk⟩, hAP, ⟨hPE, hDL, hDH, hDP⟩⟩ := hD
    have hC := hcfg.2.1
    have hS := hcfg.2.2.2.1
    have hL := hcfg.2.2.2.2.2
    obtain ⟨t, t1, t2, t3, t4⟩ := zc_T v1 r (by omega)
    refine br_f (by decide) (zx_cl t2 rfl rfl (Exists.intro 17 ?_))
    refine zx_rec_l hS hL hAP hr.2 t1 (fun e st' pe' me' ms' D => ?_) (fun e st' pe' me' ms' D => ?_) t 0 st pe me ms (by omega) ⟨hPE, hDL, hDH, hDP⟩ 17 (by omega)
    · obtain ⟨hPE', hDL', hDH', d1, d2, d3, d4⟩ := D
      have logs : ∀ l, l < 4 → ∀ i, i < 4 → me' (16 + 4 * l + i) = 0 ∧ ms' (16 + 4 * l + i) = 0 := fun l hl i hi => d1 l hl (by omega) i hi
      have homes : ∀ s, s < 16 → me' s = lN (T s) ∧ ms' s = lN (T s) := fun s hs' => hDH' s hs' (fun l hl w i hi _ => by
        obtain ⟨g0, g1, g2, g3, g4, g5, g6⟩ := hDL' l hl
        obtain ⟨q1, q2, q3, q4⟩ := g5 w
        rw [(logs l hl 3 (by omega)).1] at q3
        have : 0 = n l := (pk_lEQ (a := 0) (by omega) (by omega)).mp q3
        omega)
      have hT1 : ∀ κ, S ≤ κ → T κ = 0 := fun κ hκ => by
        by_cases q : κ < 16
        · exact (hSY κ q).2 hκ
        · exact hT0 κ (by omega)
      refine zx_rebuild hS hC hPB (fun s hs' => (homes s hs').1) hT1 (fun sb' ow' U' S' H' a b => ?_)
      refine zy_rec (T := t) (by omega) t1 t3 t4 ?_
      have e0 : nI (r - t) = 0 := by rw [show r - t = 0 by omega]; rfl
      rw [e0]
      refine ⟨rfl, zz_mk (Or.inl ⟨C, S, L, T, zr_cd0, zr_z1, zr_z1, zr_z2, zr_z2, zr_z2, zr_z2, zr_z2, ?_⟩)⟩
      exact zr_U0 hcfg (fun j _ h => hlst j h) hPB b hSY a hT0 hid hlk hPE' logs homes
    · refine zy_rec (T := t) (by omega) t1 t3 t4 ⟨rfl, ?_⟩
      exact zz_mk (Or.inr ⟨C, S, L, r - t, T, n, st', kd, fa, fb, va, vb, ⟨rfl, rfl, rfl, rfl, rfl, rfl⟩, hcfg, ⟨by omega, by omega⟩, hlst, hPB, hT0, hSY, ⟨hid, hlk⟩, hAP, D⟩)
end
section
/-! crash, the plain part -/
theorem zw_ex (p : Nat → Prop) : ∃ wh : Nat → Bool, ∀ l, wh l = true ↔ p l :=
  ⟨fun l => @decide (p l) (Classical.propDecidable _), fun l => @decide_eq_true_iff (p l) (Classical.propDecidable _)⟩
def zT (wh : Nat → Bool) (kd fa fb : Nat → Nat → Nat) (n B : Nat → Nat) : Nat → Nat → Nat
  | 0 => B
  | l + 1 => if wh l = true then zc_B kd fa fb l (zT wh kd fa fb n B l) (n l) else zT wh kd fa fb n B l
def zE (wh : Nat → Bool) (E : Nat → Nat → Prop) (l : Nat) : Nat → Nat → Prop := fun l' i' => (l' < l ∧ wh l' = true) ∨ E l' i'
theorem zT_t {wh : Nat → Bool} {kd fa fb : Nat → Nat → Nat} {n B : Nat → Nat} {l : Nat} (h : wh l = true) : zT wh kd fa fb n B (l + 1) = zc_B kd fa fb l (zT wh kd fa fb n B l) (n l) := if_pos h
theorem zT_f {wh : Nat → Bool} {kd fa fb : Nat → Nat → Nat} {n B : Nat → Nat} {l : Nat} (h : ¬ wh l = true) : zT wh kd fa fb n B (l + 1) = zT wh kd fa fb n B l := if_neg h
section
variable {C S L : Nat} {B cd n p : Nat → Nat} {kd fa fb va vb : Nat → Nat → Nat} {E : Nat → Nat → Prop} {wh : Nat → Bool}
theorem zE_0 {l : Nat} (hw : wh l = true → ∀ i, ¬ E l i) (h : wh l = true) : ∀ l', l' < 4 → ∀ i, i < n l' → (zE wh E l l' i ↔ zc_E (zE wh E l) l 0 l' i) := by
  intro l' _ i _
  unfold zc_E
  constructor
  · intro w
    refine Or.inr ⟨fun e => ?_, w⟩
    subst e
    rcases w with w | w
    · omega
    · exact hw h i w
  · rintro (w | w)
    · omega
    · exact w.2
theorem zE_1 {l : Nat} (hw : wh l = true → ∀ i, ¬ E l i) (h : wh l = true) : ∀ l', l' < 4 → ∀ i, i < n l' → (zc_E (zE wh E l) l (n l) l' i ↔ zE wh E (l + 1) l' i) := by
  intro l' _ i hi
  unfold zc_E zE
  constructor
  · rintro (w | ⟨w1, w2 | w2⟩)
    · exact Or.inl ⟨by omega, by rw [w.1]; exact h⟩
    · exact Or.inl ⟨by omega, w2.2⟩
    · exact Or.inr w2
  · rintro (w | w)
    · by_cases e : l' = l
      · subst e; exact Or.inl ⟨rfl, hi⟩
      · exact Or.inr ⟨e, Or.inl ⟨by omega, w.2⟩⟩
    · by_cases e : l' = l
      · subst e; exact absurd w (hw h i)
      · exact Or.inr ⟨e, Or.inr w⟩
theorem zE_f {l : Nat} (h : ¬ wh l = true) : ∀ l', l' < 4 → ∀ i, i < n l' → (zE wh E l l' i ↔ zE wh E (l + 1) l' i) := by
  intro l' _ i _
  unfold zE
  constructor
  · rintro (w | w)
    · exact Or.inl ⟨by omega, w.2⟩
    · exact Or.inr w
  · rintro (w | w)
    · have : l' ≠ l := fun e => h (by rw [← e]; exact w.2)
      exact Or.inl ⟨by omega, w.2⟩
    · exact Or.inr w
theorem zT_K (hS : S ≤ 16) (hL : L ≤ 4) (n3 : ∀ l', l' < 4 → n l' ≤ 3) (hAP : zr_AP S n kd fa fb va vb) (hLU : zr_LU n kd fa fb) (hw : ∀ l, l < 4 → wh l = true → ∀ i, ¬ E l i)
    (K : zr_KE E n kd fa fb va vb B cd) : ∀ l, l ≤ L → zr_KE (zE wh E l) n kd fa fb va vb (zT wh kd fa fb n B l) cd := by
  intro l
  induction l with
  | zero =>
    intro _
    refine zr_KE_c (fun l' _ i _ => ?_) K
    unfold zE
    exact ⟨Or.inr, fun w => w.resolve_left (fun q => by omega)⟩
  | succ l ih =>
    intro hl
    have K0 := ih (by omega)
    by_cases h : wh l = true
    · rw [zT_t h]
      exact zr_KE_c (zE_1 (hw l (by omega)) h) (zc_Kall hS (by omega) n3 hAP hLU (zr_KE_c (zE_0 (hw l (by omega)) h) K0) (n l) (Nat.le_refl _))
    · rw [zT_f h]
      exact zr_KE_c (zE_f h) K0
theorem zc_PIall {U Z H : Nat → Int32} {l : Nat} (hS : S ≤ 16) (hl : l < 4) (n3 : ∀ l', l' < 4 → n l' ≤ 3) (hAP : zr_AP S n kd fa fb va vb) (hCD : zr_CD cd)
    (hK : ∀ j, j ≤ n l → zr_KE (zc_E E l j) n kd fa fb va vb (zc_B kd fa fb l B j) cd) (P : za_PB C B) (X : ∃ O, za_IX B cd U Z H O) :
    ∀ j, j ≤ n l → za_PB C (zc_B kd fa fb l B j) ∧ ∃ O, za_IX (zc_B kd fa fb l B j) cd U Z H O := by
  intro j
  induction j with
  | zero => intro _; exact ⟨P, X⟩
  | succ j ih =>
    intro hj
    have hn3 := n3 l hl
    obtain ⟨P', O, X'⟩ := ih (by omega)
    obtain ⟨b1, b2, b3, b4, b5, b6, b7, b8, b9⟩ := hAP l hl j (by omega)
    obtain ⟨w0, w3⟩ := zc_sw (by omega) (by omega) hl (hK j (by omega))
    by_cases k3 : kd l j = 3
    · have := zc_PI (O' := if zc_B kd fa fb l B j (fa l j) = 0 then (if zc_B kd fa fb l B j (fb l j) = 0 then O else upd O (zc_B kd fa fb l B j (fb l j) / 256) (nI (fa l j))) else upd (if zc_B kd fa fb l B j (fb l j) = 0 then O else upd O (zc_B kd fa fb l B j (fb l j) / 256) (nI (fa l j))) (zc_B kd fa fb l B j (fa l j) / 256) (nI (fb l j))) hl (by omega) hS b3 b4 b7 P' X' hCD w0 (fun _ => ⟨_, rfl, rfl⟩) (fun w => absurd k3 w)
      exact ⟨this.1, _, this.2⟩
    · have := zc_PI (O' := if zc_B kd fa fb l B j (16 + 3 * l + j) = 0 then (if zc_B kd fa fb l B j (fa l j) = 0 then O else upd O (zc_B kd fa fb l B j (fa l j) / 256) (nI (96 + l))) else upd (if zc_B kd fa fb l B j (fa l j) = 0 then O else upd O (zc_B kd fa fb l B j (fa l j) / 256) (nI (96 + l))) (zc_B kd fa fb l B j (16 + 3 * l + j) / 256) (nI (fa l j))) hl (by omega) hS b3 b4 b7 P' X' hCD w0 (fun w => absurd w k3) (fun _ => ⟨_, rfl, rfl⟩)
      exact ⟨this.1, _, this.2⟩
theorem zT_P {U Z H : Nat → Int32} (hS : S ≤ 16) (hL : L ≤ 4) (n3 : ∀ l', l' < 4 → n l' ≤ 3) (hAP : zr_AP S n kd fa fb va vb) (hLU : zr_LU n kd fa fb) (hCD : zr_CD cd) (hw : ∀ l, l < 4 → wh l = true → ∀ i, ¬ E l i)
    (K : zr_KE E n kd fa fb va vb B cd) (P : za_PB C B) (X : ∃ O, za_IX B cd U Z H O) : ∀ l, l ≤ L → za_PB C (zT wh kd fa fb n B l) ∧ ∃ O, za_IX (zT wh kd fa fb n B l) cd U Z H O := by
  intro l
  induction l with
  | zero => intro _; exact ⟨P, X⟩
  | succ l ih =>
    intro hl
    obtain ⟨P', X'⟩ := ih (by omega)
    by_cases h : wh l = true
    · rw [zT_t h]
      exact zc_PIall hS (by omega) n3 hAP hCD (zc_Kall hS (by omega) n3 hAP hLU (zr_KE_c (zE_0 (hw l (by omega)) h) (zT_K hS hL n3 hAP hLU hw K l (by omega)))) P' X' (n l) (Nat.le_refl _)
    · rw [zT_f h]; exact ⟨P', X'⟩
/-- slots that no whole lane touches keep their blocks -/
theorem zT_o (n3 : ∀ l', l' < 4 → n l' ≤ 3) (hL : L ≤ 4) {s : Nat} (hs' : s < 16) (hn : ∀ l, l < 4 → wh l = true → ∀ i, i < n l → ¬ zr_tc kd fa fb l i s) : ∀ l, l ≤ L → zT wh kd fa fb n B l s = B s := by
  intro l
  induction l with
  | zero => intro _; rfl
  | succ l ih =>
    intro hl
    by_cases h : wh l = true
    · rw [zT_t h, zc_Bo (by omega) (by omega) (n l) (n3 l (by omega)) (hn l (by omega) h)]
      exact ih (by omega)
    · rw [zT_f h]; exact ih (by omega)
end
/-- torn lines keep a lane's state -/
theorem zd_mix {st l n : Nat} {kd fa fb va vb : Nat → Nat → Nat} {T : Nat → Nat} {me ms M M' : Nat → Int64} (hl : l < 4) (h : zr_DL st l n kd fa fb va vb T me ms) (hM : ∀ j, j < 32 → M j = me j ∨ M j = ms j) (hM' : ∀ j, j < 32 → M' j = M j) : zr_DL st l n kd fa fb va vb T M' M := by
  obtain ⟨e0, e1, e2, e3, e4, e5, e6⟩ := h
  have P : ∀ j, j < 32 → ∀ Q : Int64 → Prop, Q (me j) → Q (ms j) → Q (M' j) ∧ Q (M j) := by
    intro j hj Q q1 q2
    rw [hM' j hj]
    rcases hM j hj with e | e <;> rw [e]
    · exact ⟨q1, q1⟩
    · exact ⟨q2, q2⟩
  refine ⟨e0, fun i hi => P _ (by omega) (fun z => z = 0 ∨ z = lN (ze_v (kd l i) (fa l i) (fb l i) (va l i) (vb l i))) (e1 i hi).1 (e1 i hi).2, ?_, ?_, fun w => ?_, fun w => ?_, e6⟩
  · exact (P _ (by omega) (fun z => z = 0 ∨ z = lN n) e2 e3).1
  · exact (P _ (by omega) (fun z => z = 0 ∨ z = lN n) e2 e3).2
  · obtain ⟨j, q1, q2, q3⟩ := e4 w
    exact ⟨j, q1, P _ (by omega) (fun z => z = 0) q2 q3⟩
  · obtain ⟨q1, q2, q3, q4⟩ := e5 w
    refine ⟨q1, fun i hi => P _ (by omega) (fun z => z = lN (ze_v (kd l i) (fa l i) (fb l i) (va l i) (vb l i))) (q2 i hi).1 (q2 i hi).2, ?_, ?_⟩
    · exact (P _ (by omega) (fun z => z = lN n) q3 q4).1
    · exact (P _ (by omega) (fun z => z = lN n) q3 q4).2
/-! data lines -/
def zD (v : Int32) (t : (Nat → Int32) × (Nat → Int32) × (Nat → Int32)) : Nat → (Nat → Int32) × (Nat → Int32) × (Nat → Int32)
  | 0 => t
  | i + 1 => if (zD v t i).2.2 i = 0 then zD v t i else (zs_c (if bt v i = true then 1 else 0) i (4 * i + 4) (zD v t i).1 (zD v t i).2.1, zs_s (if bt v i = true then 1 else 0) i (4 * i + 4) (zD v t i).1 (zD v t i).2.1, upd (zD v t i).2.2 i 0)
theorem zD_t {v : Int32} {t : (Nat → Int32) × (Nat → Int32) × (Nat → Int32)} {i : Nat} (h : (zD v t i).2.2 i = 0) : zD v t (i + 1) = zD v t i := if_pos h
theorem zD_f {v : Int32} {t : (Nat → Int32) × (Nat → Int32) × (Nat → Int32)} {i : Nat} (h : ¬ (zD v t i).2.2 i = 0) : zD v t (i + 1) = (zs_c (if bt v i = true then 1 else 0) i (4 * i + 4) (zD v t i).1 (zD v t i).2.1, zs_s (if bt v i = true then 1 else 0) i (4 * i + 4) (zD v t i).1 (zD v t i).2.1, upd (zD v t i).2.2 i 0) := if_neg h
theorem zD_l {v : Int32} {t : (Nat → Int32) × (Nat → Int32) × (Nat → Int32)} : ∀ i, (∀ j, j < i → (zD v t i).2.2 j = 0) ∧ (∀ j, i ≤ j → (zD v t i).2.2 j = t.2.2 j) := by
  intro i
  induction i with
  | zero => exact ⟨fun j hj => absurd hj (by omega), fun j _ => rfl⟩
  | succ i ih =>
    by_cases h : (zD v t i).2.2 i = 0
    · rw [zD_t h]
      refine ⟨fun j hj => ?_, fun j hj => ih.2 j (by omega)⟩
      by_cases e : j = i
      · rw [e]; exact h
      · exact ih.1 j (by omega)
    · rw [zD_f h]
      refine ⟨fun j hj => ?_, fun j hj => ?_⟩
      · show upd (zD v t i).2.2 i 0 j = 0
        by_cases e : j = i
        · rw [e, pk_us]
        · rw [pk_un e]; exact ih.1 j (by omega)
      · show upd (zD v t i).2.2 i 0 j = t.2.2 j
        rw [pk_un (by omega)]; exact ih.2 j (by omega)
theorem zD_z {v : Int32} {t : (Nat → Int32) × (Nat → Int32) × (Nat → Int32)} {a : Nat} (h : ∀ j, a ≤ j → j < 32 → t.2.2 j = 0) : ∀ d, a + d ≤ 32 → zD v t (a + d) = zD v t a := by
  intro d
  induction d with
  | zero => intro _; rfl
  | succ d ih =>
    intro hd
    have e : a + (d + 1) = a + d + 1 := by omega
    rw [e, zD_t ?_]
    · exact ih (by omega)
    · rw [(zD_l (a + d)).2 (a + d) (Nat.le_refl _)]
      exact h _ (by omega) (by omega)
/-! idle lanes -/
def zi_z (f : Nat → Int32) : Nat → Nat → Int32
  | 0 => f
  | l + 1 => upd (zi_z f l) l 0
theorem zi_lt {f : Nat → Int32} : ∀ l j, (j < l → zi_z f l j = 0) ∧ (l ≤ j → zi_z f l j = f j) := by
  intro l
  induction l with
  | zero => intro j; exact ⟨fun h => absurd h (by omega), fun _ => rfl⟩
  | succ l ih =>
    intro j
    by_cases e : j = l
    · rw [e]; exact ⟨fun _ => pk_us, fun h => absurd h (by omega)⟩
    · have : zi_z f (l + 1) j = zi_z f l j := pk_un e
      rw [this]
      exact ⟨fun h => (ih j).1 (by omega), fun h => (ih j).2 (by omega)⟩
end
section
/-! crash, X's walk -/
section
variable {fc fs fl pe lk dn rl : Int32} {cur sta lst sb ow cS cU cH ha ct tk ll ob : Nat → Int32} {me ms en : Nat → Int64} {L : Nat} {n p : Nat → Nat}
theorem zx_sur5 {post : Int32 → Prop} {v1 : Int32} (hL : L ≤ 4) (hLN : ∀ l, l < 4 → ct l = nI (n l) ∧ tk l = nI (p l) ∧ n l ≤ 3 ∧ p l ≤ 10)
    (H : ∀ kp : Int32, (∀ l, l < L → 0 < p l → p l ≤ n l + 1 → ∀ i, i < 4 → bt kp (16 + 4 * l + i) = bt v1 (4 * l + i)) → post kp) :
    ∀ d l (kp : Int32), l + d = L → (∀ l', l' < l → 0 < p l' → p l' ≤ n l' + 1 → ∀ i, i < 4 → bt kp (16 + 4 * l' + i) = bt v1 (4 * l' + i)) → ∀ m, d < m →
      wX_survivors_5 post v1 fc fs (nI L) pe lk dn rl cur sta lst me ms sb ow cS cU cH ha ct tk ll en ob m kp (nI l) := by
  intro d
  induction d with
  | zero =>
    intro l kp hl inv m hm
    obtain ⟨m, rfl⟩ : ∃ m', m = m' + 1 := ⟨m - 1, by omega⟩
    exact pk_le L l (fun _ => H kp (fun l' hl' => inv l' (by omega))) (fun z => absurd z (by omega))
  | succ d ih =>
    intro l kp hl inv m hm
    obtain ⟨m, rfl⟩ : ∃ m', m = m' + 1 := ⟨m - 1, by omega⟩
    have hi : vp_in (nI l) 4 := vp_in_nI (by omega) (by omega)
    have hc : (nI l).toNatClampNeg = l := nI_clamp (by omega)
    obtain ⟨n1, n2, n3, n4⟩ := hLN l (by omega)
    refine pk_le L l (fun z => absurd z (by omega)) (fun _ => nm_e (And.intro hi ?_))
    rw [hc, n2]
    have no : (0 < p l → ¬ p l ≤ n l + 1) → wX_survivors_5 post v1 fc fs (nI L) pe lk dn rl cur sta lst me ms sb ow cS cU cH ha ct tk ll en ob m kp (nI (l + 1)) := fun hno =>
      ih (l + 1) kp (by omega) (fun l' hl' h1 h2 => by
        by_cases e : l' = l
        · rw [e] at h1 h2; exact absurd h2 (hno h1)
        · exact inv l' (by omega) h1 h2) m (by omega)
    refine pk_le (p l) 0 (fun h0 => ?_) (fun h0 => And.intro hi (And.intro hi ?_))
    · exact br_t rfl (nm_r (nI_1 l) (no (fun w => by omega)))
    · rw [n1]
      refine pk_lt (n l + 1) (p l) (fun h1 => ?_) (fun h1 => ?_) (nI_1 _)
      · exact br_t rfl (nm_r (nI_1 l) (no (fun _ => by omega)))
      · refine br_f (by decide) (nm_e (nm_r (nI_1 l) (ih (l + 1) _ (by omega) (fun l' hl' g1 g2 i hi' => ?_) m (by omega))))
        have hj : 16 + 4 * l' + i < 32 := by omega
        rw [b_or, b_and, b_and, zb_nt _ _ hj, zb_15 l (by omega) _ hj, b_shl16 _ hj]
        by_cases e : l' = l
        · have q : 16 + 4 * l ≤ 16 + 4 * l' + i ∧ 16 + 4 * l' + i < 20 + 4 * l := by omega
          rw [decide_eq_true q, show 16 + 4 * l' + i - 16 = 4 * l' + i by omega, decide_eq_true (show 16 ≤ 16 + 4 * l' + i by omega)]
          simp
        · have q : ¬ (16 + 4 * l ≤ 16 + 4 * l' + i ∧ 16 + 4 * l' + i < 20 + 4 * l) := by omega
          rw [decide_eq_false q, inv l' (by omega) g1 g2 i hi']
          simp
theorem zx_cr86 {post : SX → Prop} (hL : L ≤ 4)
    (H : ∀ lk', (∀ j, j < 32 → bt lk' j = true → bt lk j = true ∧ ∀ l, l < L → bt (ll l) j = false) → post (fc, fs, nI L, pe, lk', 1, nI (4 * L), cur, sta, lst, me, ms, sb, ow, cS, cU, cH, zi_z ha L, zi_z ct L, zi_z tk L, zi_z ll L, en, ob)) :
    ∀ d l lk', l + d = L → (∀ j, j < 32 → bt lk' j = true → bt lk j = true ∧ ∀ l', l' < l → bt (ll l') j = false) → ∀ m, d < m →
      wX_crash_86 post m (nI l) fc fs (nI L) pe lk' dn rl cur sta lst me ms sb ow cS cU cH (zi_z ha l) (zi_z ct l) (zi_z tk l) (zi_z ll l) en ob := by
  intro d
  induction d with
  | zero =>
    intro l lk' hl inv m hm
    obtain ⟨m, rfl⟩ : ∃ m', m = m' + 1 := ⟨m - 1, by omega⟩
    have e : l = L := by omega
    subst e
    exact pk_le l l (fun _ => nm_r (zn_4 l) (H lk' inv)) (fun z => absurd z (by omega))
  | succ d ih =>
    intro l lk' hl inv m hm
    obtain ⟨m, rfl⟩ : ∃ m', m = m' + 1 := ⟨m - 1, by omega⟩
    refine pk_le L l (fun z => absurd z (by omega)) (fun _ => ?_)
    refine zx_idle (by omega) rfl (nm_r (nI_1 l) (ih (l + 1) _ (by omega) (fun j hj w => ?_) m (by omega)))
    rw [b_and, zb_nt _ _ hj, Bool.and_eq_true, (zi_lt l l).2 (Nat.le_refl _)] at w
    obtain ⟨w1, w2⟩ := w
    obtain ⟨g1, g2⟩ := inv j hj w1
    refine ⟨g1, fun l' hl' => ?_⟩
    by_cases e : l' = l
    · rw [e]; cases q : bt (ll l) j
      · rfl
      · rw [q] at w2; exact absurd w2 (by decide)
    · exact g2 l' (by omega)
theorem zx_cr22 {post : SX → Prop} {v3 : Int32}
    (H : ∀ me' : Nat → Int64, (∀ j, j < 32 → me' j = ms j) → ∃ n86, wX_crash_86 post n86 0 fc fs fl pe lk dn rl ((zD v3 (cur, sta, lst) 32).1) ((zD v3 (cur, sta, lst) 32).2.1) ((zD v3 (cur, sta, lst) 32).2.2) me' ms sb ow cS cU cH ha ct tk ll en ob) :
    ∀ d i (me' : Nat → Int64), i + d = 32 → (∀ j, j < i → me' j = ms j) → ∀ m, d < m →
      wX_crash_22 post v3 m (nI i) fc fs fl pe lk dn rl ((zD v3 (cur, sta, lst) i).1) ((zD v3 (cur, sta, lst) i).2.1) ((zD v3 (cur, sta, lst) i).2.2) me' ms sb ow cS cU cH ha ct tk ll en ob := by
  intro d
  induction d with
  | zero =>
    intro i me' hi inv m hm
    obtain ⟨m, rfl⟩ : ∃ m', m = m' + 1 := ⟨m - 1, by omega⟩
    have e : i = 32 := by omega
    subst e
    exact pk_le 32 32 (fun _ => H me' inv) (fun z => absurd z (by omega))
  | succ d ih =>
    intro i me' hi inv m hm
    obtain ⟨m, rfl⟩ : ∃ m', m = m' + 1 := ⟨m - 1, by omega⟩
    have hi32 : vp_in (nI i) 32 := vp_in_nI (by omega) (by omega)
    have hc : (nI i).toNatClampNeg = i := nI_clamp (by omega)
    refine pk_le 32 i (fun z => absurd z (by omega)) (fun _ => And.intro hi32 (And.intro hi32 ?_))
    rw [hc]
    refine nm_e ?_
    have nx := ih (i + 1) (vp_updL me' i (ms i)) (by omega) (fun j hj => by
      by_cases e : j = i
      · rw [e, pk_uLs]
      · rw [pk_uLn e]; exact inv j (by omega)) m (by omega)
    have both : ∀ z0 : Int32, z0 = (if bt v3 i = true then 1 else 0) → wX_crash_57 post (wX_crash_22 post v3 m) v3 (nI i) z0 fc fs fl pe lk dn rl ((zD v3 (cur, sta, lst) i).1) ((zD v3 (cur, sta, lst) i).2.1) ((zD v3 (cur, sta, lst) i).2.2) (vp_updL me' i (ms i)) ms sb ow cS cU cH ha ct tk ll en ob := by
      intro z0 ez
      refine And.intro hi32 ?_
      rw [hc]
      refine br_c (fun h0 => ?_) (fun h0 => ?_)
      · rw [zD_t h0] at nx
        exact nm_r (nI_1 i) nx
      · rw [zD_f h0, ← ez] at nx
        exact zx_settle (by omega) (nm_r (nI_1 i) nx)
    refine br_c (fun hb => both 0 ?_) (fun hb => both 1 ?_)
    · rw [zb_us _ i (by omega)] at hb
      rw [hb]; rfl
    · rw [zb_us _ i (by omega)] at hb
      rw [ts_nf hb]; rfl
theorem zx_crash {post : SX → Prop} {v1 v2 v3 : Int32} (hL : L ≤ 4) (hLN : ∀ l, l < 4 → ct l = nI (n l) ∧ tk l = nI (p l) ∧ n l ≤ 3 ∧ p l ≤ 10) (hPE : zr_PE pe me ms)
    (H : ∀ (kp lk' : Int32) (me' ms' : Nat → Int64), (∀ l, l < L → 0 < p l → p l ≤ n l + 1 → ∀ i, i < 4 → bt kp (16 + 4 * l + i) = bt v1 (4 * l + i)) → (∀ j, j < 32 → ms' j = if bt kp j = true then me j else ms j) → (∀ j, j < 32 → me' j = ms' j) →
      (∀ j, j < 32 → bt lk' j = true → bt lk j = true ∧ ∀ l, l < L → bt (ll l) j = false) →
      post (fc, fs, nI L, 0, lk', 1, nI (4 * L), (zD v3 (cur, sta, lst) 32).1, (zD v3 (cur, sta, lst) 32).2.1, (zD v3 (cur, sta, lst) 32).2.2, me', ms', sb, ow, cS, cU, cH, zi_z ha L, zi_z ct L, zi_z tk L, zi_z ll L, en, ob)) :
    wpX_crash post (fc, fs, nI L, pe, lk, dn, rl, cur, sta, lst, me, ms, sb, ow, cS, cU, cH, ha, ct, tk, ll, en, ob) v1 v2 v3 := by
  refine Exists.intro 5 (zx_sur5 hL hLN (fun kp hkp => ?_) L 0 v2 (by omega) (fun l' hl' => absurd hl' (by omega)) 5 (by omega))
  refine zx_persist' hPE (fun pe' ms' h1 h2 => Exists.intro 33 ?_)
  refine zx_cr22 (fun me' hme => Exists.intro 5 ?_) 32 0 me (by omega) (fun j hj => absurd hj (by omega)) 33 (by omega)
  exact zx_cr86 hL (fun lk' hlk => H kp lk' me' ms' hkp h1 hme hlk) L 0 lk (by omega) (fun j hj w => ⟨w, fun l' hl' => absurd hl' (by omega)⟩) 5 (by omega)
end
/-! crash, Y's walk -/
section
variable {fc fs fl lf : Int32} {cur sta lst ss sz hs hz ct tk kn fi se nS nZ oS oZ : Nat → Int32} {C L : Nat}
theorem zy_cr151 {post : SY → Prop} {v3 : Int32} (hC : C ≤ 16) (H : post (nI C, fs, nI L, nI (4 * L), (zD v3 (cur, sta, lst) (2 * C)).1, (zD v3 (cur, sta, lst) (2 * C)).2.1, (zD v3 (cur, sta, lst) (2 * C)).2.2, ss, sz, hs, hz, ct, tk, kn, fi, se, nS, nZ, oS, oZ)) :
    ∀ d i, i + d = 2 * C → ∀ m, d < m → wY_crash_151 post v3 m (nI i) (nI C) fs (nI L) lf ((zD v3 (cur, sta, lst) i).1) ((zD v3 (cur, sta, lst) i).2.1) ((zD v3 (cur, sta, lst) i).2.2) ss sz hs hz ct tk kn fi se nS nZ oS oZ := by
  intro d
  induction d with
  | zero =>
    intro i hi m hm
    obtain ⟨m, rfl⟩ : ∃ m', m = m' + 1 := ⟨m - 1, by omega⟩
    have e : i = 2 * C := by omega
    subst e
    exact pk_le (2 * C) (2 * C) (fun _ => nm_r (zn_4 L) H) (fun z => absurd z (by omega)) (zn_2 C)
  | succ d ih =>
    intro i hi m hm
    obtain ⟨m, rfl⟩ : ∃ m', m = m' + 1 := ⟨m - 1, by omega⟩
    have hi32 : vp_in (nI i) 32 := vp_in_nI (by omega) (by omega)
    have hc : (nI i).toNatClampNeg = i := nI_clamp (by omega)
    refine pk_le (2 * C) i (fun z => absurd z (by omega)) (fun _ => And.intro hi32 ?_) (zn_2 C)
    rw [hc]
    have nx := ih (i + 1) (by omega) m (by omega)
    refine br_c (fun h0 => ?_) (fun h0 => ?_)
    · rw [zD_t h0] at nx
      exact nm_r (nI_1 i) nx
    · rw [zD_f h0] at nx
      refine br_c (fun hb => ?_) (fun hb => ?_)
      · rw [zb_us' _ i (by omega)] at hb
        rw [if_pos hb] at nx
        exact zy_settle (by omega) (nm_r (nI_1 i) nx)
      · rw [zb_us' _ i (by omega)] at hb
        rw [if_neg hb] at nx
        exact zy_settle (by omega) (nm_r (nI_1 i) nx)
theorem zy_cr127 {post : SY → Prop} {v3 : Int32} (hL : L ≤ 4) (H : ∃ n151, wY_crash_151 post v3 n151 0 fc fs (nI L) lf cur sta lst ss sz hs (zi_z hz L) (zi_z ct L) (zi_z tk L) kn fi se nS nZ oS oZ) :
    ∀ d l, l + d = L → ∀ m, d < m → wY_crash_127 post v3 m (nI l) fc fs (nI L) lf cur sta lst ss sz hs (zi_z hz l) (zi_z ct l) (zi_z tk l) kn fi se nS nZ oS oZ := by
  intro d
  induction d with
  | zero =>
    intro l hl m hm
    obtain ⟨m, rfl⟩ : ∃ m', m = m' + 1 := ⟨m - 1, by omega⟩
    have e : l = L := by omega
    subst e
    exact pk_le l l (fun _ => H) (fun z => absurd z (by omega))
  | succ d ih =>
    intro l hl m hm
    obtain ⟨m, rfl⟩ : ∃ m', m = m' + 1 := ⟨m - 1, by omega⟩
    refine pk_le L l (fun z => absurd z (by omega)) (fun _ => ?_)
    exact zy_idle (by omega) rfl (nm_r (nI_1 l) (ih (l + 1) (by omega) m (by omega)))
theorem zy_cr72 {post : SY → Prop} {J : Int32 → Int32 → Int32 → Int32 → Int32 → (Nat → Int32) → (Nat → Int32) → (Nat → Int32) → (Nat → Int32) → (Nat → Int32) → (Nat → Int32) → (Nat → Int32) → (Nat → Int32) → (Nat → Int32) → (Nat → Int32) → (Nat → Int32) → (Nat → Int32) → (Nat → Int32) → (Nat → Int32) → (Nat → Int32) → (Nat → Int32) → Prop} {v1 v3 : Int32} {l N b0 : Nat} {ss' sz' oS' oZ' : Nat → Int32} (hl : l < 4) (hct : ct l = nI N) (hN : N ≤ 3)
    (heff : b0 = 1 → (∀ i, i < N → bt v1 (4 * l + i) = true) → ∀ post' : SY → Prop, post' (fc, fs, fl, lf, cur, sta, lst, ss', sz', hs, hz, ct, tk, kn, fi, se, nS, nZ, oS', oZ') → wpY_effect post' (fc, fs, fl, lf, cur, sta, lst, ss, sz, hs, hz, ct, tk, kn, fi, se, nS, nZ, oS, oZ) (nI l))
    (H1 : b0 = 1 → (∀ i, i < N → bt v1 (4 * l + i) = true) → J (nI (l + 1)) fc fs fl lf cur sta lst ss' sz' hs hz ct tk kn fi se nS nZ oS' oZ')
    (H0 : ¬ (b0 = 1 ∧ ∀ i, i < N → bt v1 (4 * l + i) = true) → J (nI (l + 1)) fc fs fl lf cur sta lst ss sz hs hz ct tk kn fi se nS nZ oS oZ) :
    ∀ d i f, i + d = N → f < 2 → (f = 1 ↔ b0 = 1 ∧ ∀ i', i' < i → bt v1 (4 * l + i') = true) → ∀ m, d < m → wY_crash_72 post J v1 v3 (nI l) fc fs fl lf cur sta lst ss sz hs hz ct tk kn fi se nS nZ oS oZ m (nI f) (nI i) := by
  have hi4 : vp_in (nI l) 4 := vp_in_nI (by omega) (by omega)
  have hc : (nI l).toNatClampNeg = l := nI_clamp (by omega)
  intro d
  induction d with
  | zero =>
    intro i f hi hf inv m hm
    obtain ⟨m, rfl⟩ : ∃ m', m = m' + 1 := ⟨m - 1, by omega⟩
    have e : i = N := by omega
    subst e
    refine And.intro hi4 ?_
    rw [hc, hct]
    refine pk_le i i (fun _ => ?_) (fun z => absurd z (by omega))
    refine pk_eq f 0 (fun e => nm_r (nI_1 l) (H0 (fun w => by have := inv.mpr w; omega))) (fun e => ?_)
    have w := inv.mp (by omega)
    exact heff w.1 w.2 _ (nm_r (nI_1 l) (H1 w.1 w.2))
  | succ d ih =>
    intro i f hi hf inv m hm
    obtain ⟨m, rfl⟩ : ∃ m', m = m' + 1 := ⟨m - 1, by omega⟩
    refine And.intro hi4 ?_
    rw [hc, hct]
    refine pk_le N i (fun z => absurd z (by omega)) (fun _ => ?_)
    rw [zn_4, nI_add]
    refine br_c (fun hb => ?_) (fun hb => ?_)
    · rw [zb_us _ _ (by omega)] at hb
      refine nm_r (nI_1 i) (ih (i + 1) 0 (by omega) (by omega) ?_ m (by omega))
      refine ⟨fun w => absurd w (by omega), fun w => ?_⟩
      have := w.2 i (by omega)
      rw [hb] at this; exact absurd this (by decide)
    · rw [zb_us _ _ (by omega)] at hb
      refine nm_r (nI_1 i) (ih (i + 1) f (by omega) hf ?_ m (by omega))
      rw [inv]
      constructor
      · rintro ⟨w1, w2⟩
        refine ⟨w1, fun j hj => ?_⟩
        by_cases e : j = i
        · rw [e]; exact ts_nf hb
        · exact w2 j (by omega)
      · rintro ⟨w1, w2⟩; exact ⟨w1, fun j hj => w2 j (by omega)⟩
end
section
variable {fc fs fl lf : Int32} {cur sta lst ss sz hs hz ct tk kn fi se nS nZ oS oZ : Nat → Int32} {C S L : Nat} {B cd n p : Nat → Nat} {kd fa fb va vb : Nat → Nat → Nat} {E : Nat → Nat → Prop} {wh : Nat → Bool}
theorem zy_cr10 {v1 v3 : Int32} (hS : S ≤ 16) (hL : L ≤ 4) (hLN : zr_LN L n p ct tk) (hAP : zr_AP S n kd fa fb va vb) (hAY : zr_AY n kd fa fb va kn fi se nS nZ) (hLU : zr_LU n kd fa fb)
    (hwh : ∀ l, wh l = true ↔ (0 < n l ∧ p l = n l + 1 ∧ bt v1 (4 * l + 3) = true ∧ ∀ i, i < n l → bt v1 (4 * l + i) = true)) (hw : ∀ l, l < 4 → wh l = true → ∀ i, ¬ E l i)
    (hK : ∀ l, l ≤ L → zr_KE (zE wh E l) n kd fa fb va vb (zT wh kd fa fb n B l) cd) :
    ∀ d l (ss sz oS oZ : Nat → Int32), l + d = L → zr_SY S (zT wh kd fa fb n B l) ss sz → zr_OY (zE wh E l) n kd (zT wh kd fa fb n B l) oS oZ →
      ∃ ss' sz' oS' oZ' : Nat → Int32, zr_SY S (zT wh kd fa fb n B L) ss' sz' ∧
        ∀ (post : SY → Prop) m, d < m → (∃ n127, wY_crash_127 post v3 n127 0 fc fs (nI L) lf cur sta lst ss' sz' hs hz ct tk kn fi se nS nZ oS' oZ') → wY_crash_10 post v1 v3 m (nI l) fc fs (nI L) lf cur sta lst ss sz hs hz ct tk kn fi se nS nZ oS oZ := by
  have n3 : ∀ l', l' < 4 → n l' ≤ 3 := fun l' h => (hLN l' h).2.2.1
  intro d
  induction d with
  | zero =>
    intro l ss sz oS oZ hl sy oy
    have e : l = L := by omega
    subst e
    refine ⟨ss, sz, oS, oZ, sy, fun post m hm hp => ?_⟩
    obtain ⟨m, rfl⟩ : ∃ m', m = m' + 1 := ⟨m - 1, by omega⟩
    exact pk_le l l (fun _ => hp) (fun z => absurd z (by omega))
  | succ d ih =>
    intro l ss sz oS oZ hl sy oy
    have hl4 : l < 4 := by omega
    have hi4 : vp_in (nI l) 4 := vp_in_nI hl4 (by omega)
    have hc : (nI l).toNatClampNeg = l := nI_clamp (by omega)
    obtain ⟨e1, e2, e3, e4, e5, e6⟩ := hLN l hl4
    have e3' : (4 : Int32) * nI l + 3 = nI (4 * l + 3) := by rw [zn_4]; exact nI_add _ 3
    -- the walk of one lane, given what comes behind it
    have lane : ∀ (ss1 sz1 oS1 oZ1 : Nat → Int32), (wh l = true → ∀ post' : SY → Prop, post' (fc, fs, nI L, lf, cur, sta, lst, ss1, sz1, hs, hz, ct, tk, kn, fi, se, nS, nZ, oS1, oZ1) → wpY_effect post' (fc, fs, nI L, lf, cur, sta, lst, ss, sz, hs, hz, ct, tk, kn, fi, se, nS, nZ, oS, oZ) (nI l)) →
        ∀ (post : SY → Prop) m, (wh l = true → wY_crash_10 post v1 v3 m (nI (l + 1)) fc fs (nI L) lf cur sta lst ss1 sz1 hs hz ct tk kn fi se nS nZ oS1 oZ1) → (¬ wh l = true → wY_crash_10 post v1 v3 m (nI (l + 1)) fc fs (nI L) lf cur sta lst ss sz hs hz ct tk kn fi se nS nZ oS oZ) →
          wY_crash_10 post v1 v3 (m + 1) (nI l) fc fs (nI L) lf cur sta lst ss sz hs hz ct tk kn fi se nS nZ oS oZ := by
      intro ss1 sz1 oS1 oZ1 heff post m H1 H0
      have fin : ∀ (b0 f : Nat), f = b0 → b0 < 2 → (b0 = 1 ↔ (0 < n l ∧ p l = n l + 1 ∧ bt v1 (4 * l + 3) = true)) → ∃ n72, wY_crash_72 post (wY_crash_10 post v1 v3 m) v1 v3 (nI l) fc fs (nI L) lf cur sta lst ss sz hs hz ct tk kn fi se nS nZ oS oZ n72 (nI f) 0 := by
        intro b0 f ef hb0 hb
        subst ef
        have all : f = 1 → (∀ i, i < n l → bt v1 (4 * l + i) = true) → wh l = true := fun w1 w2 => (hwh l).mpr ⟨(hb.mp w1).1, (hb.mp w1).2.1, (hb.mp w1).2.2, w2⟩
        refine ⟨4, zy_cr72 (b0 := f) hl4 e1 e3 (fun w1 w2 => heff (all w1 w2)) (fun w1 w2 => H1 (all w1 w2)) (fun w => H0 (fun q => w ?_)) (n l) 0 f (by omega) hb0 ⟨fun w => ⟨w, fun i' hi' => absurd hi' (by omega)⟩, fun w => w.1⟩ 4 (by omega)⟩
        obtain ⟨g1, g2, g3, g4⟩ := (hwh l).mp q
        exact ⟨hb.mpr ⟨g1, g2, g3⟩, g4⟩
      refine pk_le L l (fun z => absurd z (by omega)) (fun _ => And.intro hi4 ?_)
      rw [hc, e1]
      refine pk_le (n l) 0 (fun h0 => fin 0 0 rfl (by omega) ⟨fun w => absurd w (by omega), fun w => by omega⟩) (fun h0 => And.intro hi4 (And.intro hi4 ?_))
      rw [e2]
      refine pk_eq (p l) (n l + 1) (fun hp => ?_) (fun hp => fin 0 0 rfl (by omega) ⟨fun w => absurd w (by omega), fun w => absurd w.2.1 hp⟩) rfl (nI_1 _)
      rw [e3']
      refine br_c (fun hb => ?_) (fun hb => ?_)
      · rw [zb_us' _ _ (by omega)] at hb
        exact fin 1 1 rfl (by omega) ⟨fun _ => ⟨h0, hp, hb⟩, fun _ => rfl⟩
      · rw [zb_us' _ _ (by omega)] at hb
        exact fin 0 0 rfl (by omega) ⟨fun w => absurd w (by omega), fun w => absurd w.2.2 hb⟩
    by_cases h : wh l = true
    · have K0 := zc_Kall hS hl4 n3 hAP hLU (zr_KE_c (zE_0 (hw l hl4) h) (hK l (by omega)))
      obtain ⟨ss1, sz1, oS1, oZ1, r1, r2, r3⟩ := zy_eff_l (fc := fc) (fs := fs) (fl := nI L) (lf := lf) (cur := cur) (sta := sta) (lst := lst) (hs := hs) (hz := hz) (tk := tk) hS hl4 n3 e1 hAP hAY K0 (n l) 0 ss sz oS oZ (by omega) sy (zr_OY_c (zE_0 (hw l hl4) h) oy)
      obtain ⟨ss', sz', oS', oZ', q1, q2⟩ := ih (l + 1) ss1 sz1 oS1 oZ1 (by omega) (by rw [zT_t h]; exact r1) (by rw [zT_t h]; exact zr_OY_c (zE_1 (hw l hl4) h) r2)
      refine ⟨ss', sz', oS', oZ', q1, fun post m hm hp => ?_⟩
      obtain ⟨m, rfl⟩ : ∃ m', m = m' + 1 := ⟨m - 1, by omega⟩
      exact lane ss1 sz1 oS1 oZ1 (fun _ post' hp' => Exists.intro 4 (r3 post' 4 (by omega) hp')) post m (fun _ => q2 post m (by omega) hp) (fun w => absurd h w)
    · obtain ⟨ss', sz', oS', oZ', q1, q2⟩ := ih (l + 1) ss sz oS oZ (by omega) (by rw [zT_f h]; exact sy) (by rw [zT_f h]; exact zr_OY_c (zE_f h) oy)
      refine ⟨ss', sz', oS', oZ', q1, fun post m hm hp => ?_⟩
      obtain ⟨m, rfl⟩ : ∃ m', m = m' + 1 := ⟨m - 1, by omega⟩
      exact lane ss sz oS oZ (fun w => absurd w h) post m (fun w => absurd w h) (fun _ => q2 post m (by omega) hp)
end
end
section
/-! crash -/
def zd_s (w : Bool) (N P : Nat) : Nat := if w = true then 1 else if P ≤ N + 1 then 0 else if P ≤ 2 * N + 2 then 1 else 2
theorem zd_cr {l N P : Nat} {kd fa fb va vb : Nat → Nat → Nat} {T : Nat → Nat} {me ms en me' ms' : Nat → Int64} {kp v1 : Int32} {w : Bool} (hl : l < 4) (hN : N ≤ 3) (hNP : N = 0 → P = 0)
    (hPL : zr_PL l N P me ms en) (hen : ∀ i, i < N → en (4 * l + i) = lN (ze_v (kd l i) (fa l i) (fb l i) (va l i) (vb l i)))
    (hms : ∀ j, j < 32 → ms' j = if bt kp j = true then me j else ms j) (hme : ∀ j, j < 32 → me' j = ms' j)
    (hkp : 0 < P → P ≤ N + 1 → ∀ i, i < 4 → bt kp (16 + 4 * l + i) = bt v1 (4 * l + i))
    (hw : w = true ↔ (0 < N ∧ P = N + 1 ∧ bt v1 (4 * l + 3) = true ∧ ∀ i, i < N → bt v1 (4 * l + i) = true))
    (hT : (w = true ∨ N + 2 ≤ P) → ∀ i, i < N → T (fa l i) = va l i ∧ (kd l i = 3 → T (fb l i) = vb l i)) :
    zr_DL (zd_s w N P) l N kd fa fb va vb T me' ms' := by
  obtain ⟨r1, r2, r3, r4⟩ := hPL
  have mix : ∀ j, j < 32 → ms' j = me j ∨ ms' j = ms j := fun j hj => by
    rw [hms j hj]
    by_cases q : bt kp j = true
    · rw [if_pos q]; exact Or.inl rfl
    · rw [if_neg q]; exact Or.inr rfl
  by_cases hA : P ≤ N + 1
  · obtain ⟨a1, a2, a3⟩ := r1 hA
    have line : ∀ i, i < N → ms' (16 + 4 * l + i) = 0 ∨ ms' (16 + 4 * l + i) = lN (ze_v (kd l i) (fa l i) (fb l i) (va l i) (vb l i)) := by
      intro i hi
      rcases mix (16 + 4 * l + i) (by omega) with e | e
      · rw [e, a2 i (by omega)]
        by_cases q : i < P ∧ i < N
        · rw [if_pos q, hen i hi]; exact Or.inr rfl
        · rw [if_neg q]; exact Or.inl rfl
      · rw [e, a1 i (by omega)]; exact Or.inl rfl
    have sea : ms' (16 + 4 * l + 3) = 0 ∨ ms' (16 + 4 * l + 3) = lN N := by
      rcases mix (16 + 4 * l + 3) (by omega) with e | e
      · rw [e, a3]
        by_cases q : P = N + 1
        · rw [if_pos q]; exact Or.inr rfl
        · rw [if_neg q]; exact Or.inl rfl
      · rw [e, a1 3 (by omega)]; exact Or.inl rfl
    refine zd_mix (me := ms') (ms := ms') hl ⟨hN, fun i hi => ⟨line i hi, line i hi⟩, sea, sea, fun hst => ?_, fun hst => ?_, fun hst => ?_⟩ (fun j _ => Or.inl rfl) hme
    · have nw : ¬ w = true := fun q => by unfold zd_s at hst; rw [if_pos q] at hst; omega
      suffices h : ∃ j, (j = 3 ∨ j < N) ∧ ms' (16 + 4 * l + j) = 0 by
        obtain ⟨j, h1, h2⟩ := h
        exact ⟨j, h1, h2, h2⟩
      by_cases q : P = N + 1
      · have hk := hkp (by omega) hA
        by_cases b3 : bt v1 (4 * l + 3) = true
        · have : ¬ ∀ i, i < N → bt v1 (4 * l + i) = true := fun z => nw (hw.mpr ⟨by omega, q, b3, z⟩)
          have : ∃ i, ¬ (i < N → bt v1 (4 * l + i) = true) := Classical.not_forall.mp this
          obtain ⟨i, hi⟩ := this
          have hiN : i < N := Classical.byContradiction (fun z => hi (fun y => absurd y z))
          have hb : ¬ bt v1 (4 * l + i) = true := fun z => hi (fun _ => z)
          refine ⟨i, Or.inr hiN, ?_⟩
          rw [hms _ (by omega), hk i (by omega), if_neg hb]
          exact a1 i (by omega)
        · refine ⟨3, Or.inl rfl, ?_⟩
          rw [hms _ (by omega), hk 3 (by omega), if_neg b3]
          exact a1 3 (by omega)
      · refine ⟨3, Or.inl rfl, ?_⟩
        rcases mix (16 + 4 * l + 3) (by omega) with e | e
        · rw [e, a3, if_neg q]
        · rw [e]; exact a1 3 (by omega)
    · have yw : w = true := by
        by_cases q : w = true
        · exact q
        · unfold zd_s at hst; rw [if_neg q, if_pos hA] at hst; omega
      obtain ⟨g1, g2, g3, g4⟩ := hw.mp yw
      have hk := hkp (by omega) hA
      have ln : ∀ i, i < N → ms' (16 + 4 * l + i) = lN (ze_v (kd l i) (fa l i) (fb l i) (va l i) (vb l i)) := fun i hi => by
        rw [hms _ (by omega), hk i (by omega), if_pos (g4 i hi), a2 i (by omega), if_pos (by omega), hen i hi]
      have sl : ms' (16 + 4 * l + 3) = lN N := by
        rw [hms _ (by omega), hk 3 (by omega), if_pos g3, a3, if_pos g2]
      exact ⟨g1, fun i hi => ⟨ln i hi, ln i hi⟩, sl, sl⟩
    · refine hT (Or.inl ?_)
      by_cases q : w = true
      · exact q
      · unfold zd_s at hst; rw [if_neg q, if_pos hA] at hst; exact absurd rfl hst
  · have nw : ¬ w = true := fun q => by have := (hw.mp q).2.1; omega
    refine zd_mix (me := me) (ms := ms) hl ?_ mix hme
    by_cases hB : P ≤ 2 * N + 2
    · obtain ⟨a1, a2, a3⟩ := r2 (by omega) hB
      have es : zd_s w N P = 1 := by unfold zd_s; rw [if_neg nw, if_neg hA, if_pos hB]
      rw [es]
      refine ⟨hN, fun i hi => ?_, Or.inr a2, Or.inr a3, fun q => absurd q (by omega), fun _ => ⟨by omega, fun i hi => ?_, a2, a3⟩, fun _ => hT (Or.inr (by omega))⟩
      · rw [← hen i hi]; exact ⟨Or.inr (a1 i hi).1, Or.inr (a1 i hi).2⟩
      · rw [← hen i hi]; exact a1 i hi
    · obtain ⟨a1, a2, a3⟩ := r3 (by omega)
      have es : zd_s w N P = 2 := by unfold zd_s; rw [if_neg nw, if_neg hA, if_neg hB]
      rw [es]
      refine ⟨hN, fun i hi => ?_, a2, a3, fun q => absurd q (by omega), fun q => absurd q (by omega), fun _ => hT (Or.inr (by omega))⟩
      rw [← hen i hi]; exact a1 i hi
theorem i_vc_crash {k : Nat} {u : SX} {v : SY} (I : i_Rel k u v) (hk : k + 4 ≤ 2051) (v1 : Int32) (v2 : Int32) (v3 : Int32) : wpX_crash (fun u' => wpY_crash (fun v' => i_Rel (k + 4) u' v') v v1 v2 v3) u v1 v2 v3 := by
  refine zz_el (P := fun u v => wpX_crash (fun u' => wpY_crash (fun v' => i_Rel (k + 4) u' v') v v1 v2 v3) u v1 v2 v3) ?_ I
  intro fc fs fl pe lk dn rl lf cur sta lst me ms sb ow cS cU cH ha ct tk ll en ob ss sz hs hz kn fi se nS nZ oS oZ hr0
  rcases hr0 with ⟨C, S, L, B, cd, n, p, kd, fa, fb, va, vb, hU⟩ | ⟨C, S, L, r, T, n, st, kd, fa, fb, va, vb, hD⟩
  · obtain ⟨⟨rfl, rfl, rfl, rfl, rfl⟩, hcfg, hlst, hPB, hIX, hLN, ⟨hSY, hSX⟩, ⟨hHX, hHY⟩, hCD, ⟨hAP, hAX, hAY⟩, ⟨hKE, hOX, hOY⟩, ⟨hLU, hLX⟩, ⟨hPE, hPL, hPH⟩⟩ := hU
    have hC := hcfg.2.1
    have hS := hcfg.2.2.2.1
    have hL := hcfg.2.2.2.2.2
    have n3 : ∀ l', l' < 4 → n l' ≤ 3 := fun l' h => (hLN l' h).2.2.1
    obtain ⟨wh, hwh⟩ := zw_ex (fun l => 0 < n l ∧ p l = n l + 1 ∧ bt v1 (4 * l + 3) = true ∧ ∀ i, i < n l → bt v1 (4 * l + i) = true)
    have hw : ∀ l, l < 4 → wh l = true → ∀ i, ¬ zr_E n p l i := fun l _ w i q => by
      have := ((hwh l).mp w).2.1
      unfold zr_E at q; omega
    have hK := zT_K hS hL n3 hAP hLU hw hKE
    obtain ⟨hP, _⟩ := zT_P (U := cU) (Z := cS) (H := cH) hS hL n3 hAP hLU hCD hw hKE hPB ⟨ow, hIX⟩ L (Nat.le_refl _)
    obtain ⟨ss', sz', oS', oZ', q1, q2⟩ := zy_cr10 (fc := nI C) (fs := nI S) (lf := 0) (cur := cur) (sta := sta) (lst := lst) (hs := hs) (hz := hz) (v3 := v3) hS hL hLN hAP hAY hLU hwh hw hK L 0 ss sz oS oZ (by omega) hSY (zr_OY_c (fun l' _ i _ => by
      unfold zE
      exact ⟨Or.inr, fun w => w.resolve_left (fun q => by omega)⟩) hOY)
    refine zx_crash (n := n) (p := p) hL (fun l hl => ?_) hPE (fun kp lk' me' ms' hkp hms hme hlk => ?_)
    · obtain ⟨a1, a2, a3, a4, a5, a6⟩ := hLN l hl
      exact ⟨a1, a2, a3, by omega⟩
    · refine br_t rfl (Exists.intro 5 (q2 _ 5 (by omega) ⟨5, zy_cr127 hL ⟨33, zy_cr151 hC ?_ (2 * C) 0 (by omega) 33 (by omega)⟩ L 0 (by omega) 5 (by omega)⟩))
      have ez : zD v3 (cur, sta, lst) 32 = zD v3 (cur, sta, lst) (2 * C) := by
        have := zD_z (v := v3) (t := (cur, sta, lst)) (a := 2 * C) (fun j a b => hlst j a b) (32 - 2 * C) (by omega)
        rw [show 2 * C + (32 - 2 * C) = 32 by omega] at this
        exact this
      have hl32 : ∀ j, j < 32 → (zD v3 (cur, sta, lst) (2 * C)).2.2 j = 0 := fun j hj => by
        rw [← ez]; exact (zD_l 32).1 j hj
      rw [ez]
      have KL := hK L (Nat.le_refl _)
      have idl : ∀ l, l < 4 → L ≤ l → n l = 0 ∧ p l = 0 := fun l hl h => by
        obtain ⟨a1, a2, a3, a4, a5, a6⟩ := hLN l hl
        exact ⟨a6 h, a5 (a6 h)⟩
      have mixs : ∀ s, s < 32 → ∀ z : Int64, me s = z → ms s = z → me' s = z ∧ ms' s = z := fun s hs' z e1 e2 => by
        rw [hme s hs', hms s hs', e1, e2]
        by_cases q : bt kp s = true
        · rw [if_pos q]; exact ⟨rfl, rfl⟩
        · rw [if_neg q]; exact ⟨rfl, rfl⟩
      refine zz_mk (Or.inr ⟨C, S, L, 4 * L, zb_up (zT wh kd fa fb n B L) 16, n, fun l => zd_s (wh l) (n l) (p l), kd, fa, fb, va, vb, ⟨rfl, rfl, rfl, rfl, rfl, rfl⟩, hcfg, ⟨by have := hcfg.2.2.2.2.1; omega, Nat.le_refl _⟩, hl32, zb_PB hP, fun κ hκ => zb_ge (by omega), fun s hs' => ?_, ⟨fun l hl => ?_, ?_⟩, hAP, ?_, fun l hl => ?_, fun s hs' hn => ?_, ?_⟩)
      · rw [zb_lt hs']; exact q1 s hs'
      · -- idle lanes
        by_cases h : l < L
        · exact ⟨(zi_lt L l).1 h, (zi_lt L l).1 h, (zi_lt L l).1 h, (zi_lt L l).1 h, (zi_lt L l).1 h⟩
        · have hge : L ≤ l := by omega
          obtain ⟨a1, a2, a3, a4, a5, a6⟩ := hLN l hl
          obtain ⟨i1, i2⟩ := idl l hl hge
          obtain ⟨⟨y1, y2⟩, y3, y4⟩ := hHY l hl
          rw [(zi_lt L l).2 hge, (zi_lt L l).2 hge, (zi_lt L l).2 hge, (zi_lt L l).2 hge, (zi_lt L l).2 hge, a1, a2, hHX l hl, y1, y3 hge, i1, i2]
          refine ⟨rfl, rfl, rfl, rfl, zb_zero _ (fun j hj => ts_nt (fun w => ?_))⟩
          obtain ⟨i, hi, _⟩ := (hLX.1 l hl j hj).mp w
          omega
      · refine zb_zero _ (fun j hj => ts_nt (fun w => ?_))
        obtain ⟨g1, g2⟩ := hlk j hj w
        obtain ⟨l, hl, t⟩ := (hLX.2 j hj).mp g1
        by_cases h : l < L
        · rw [g2 l h] at t; exact absurd t (by decide)
        · obtain ⟨i, hi, _⟩ := (hLX.1 l hl j hj).mp t
          have := (idl l hl (by omega)).1
          omega
      · exact fun j hj _ => hme j hj
      · obtain ⟨a1, a2, a3, a4, a5, a6⟩ := hLN l hl
        refine zd_cr hl a3 a5 (hPL l hl) (fun i hi => hAX l hl i hi) hms hme (fun g1 g2 => ?_) (hwh l) (fun g i hi => ?_)
        · by_cases h : l < L
          · exact hkp l h g1 g2
          · have := (idl l hl (by omega)).2
            omega
        · obtain ⟨b1, b2, b3, b4, b5, b6, b7, b8, b9⟩ := hAP l hl i hi
          have hlL : l < L := by
            by_cases h : l < L
            · exact h
            · have := (idl l hl (by omega)).1
              omega
          obtain ⟨o1, o2⟩ := (KL l hl i (by omega)).2.2.1 hi (by
            rcases g with g | g
            · exact Or.inl ⟨hlL, g⟩
            · exact Or.inr g)
          rw [zb_lt (by omega), zb_lt (by omega)]
          exact ⟨o1, o2⟩
      · -- homes
        have nwh : ∀ l, l < 4 → wh l = true → ∀ i, i < n l → ¬ zr_tc kd fa fb l i s := fun l hl w i hi => hn l hl (by show zd_s (wh l) (n l) (p l) = 1; unfold zd_s; rw [if_pos w]) i hi
        rw [zb_lt hs', zT_o n3 hL hs' nwh L (Nat.le_refl _)]
        obtain ⟨g1, g2⟩ := hPH.1 s hs' (fun l hl i hi t w => by
          refine hn l hl ?_ i hi t
          have nw : ¬ wh l = true := fun q => by have := ((hwh l).mp q).2.1; omega
          show zd_s (wh l) (n l) (p l) = 1
          unfold zd_s; rw [if_neg nw, if_neg (by omega), if_pos w.2])
        exact mixs s (by omega) _ g1 g2
      · refine ⟨fun l hl w i hi => ?_, fun l hl w => by omega, fun l hl w => by omega, fun l hl w => by omega⟩
        have hge : L ≤ l := by omega
        obtain ⟨i1, i2⟩ := idl l hl hge
        obtain ⟨r1, r2, r3⟩ := (hPL l hl).1 (by omega)
        refine mixs _ (by omega) _ ?_ (r1 i hi)
        by_cases h3 : i < 3
        · rw [r2 i h3, if_neg (by omega)]
        · have e : i = 3 := by omega
          rw [e, r3, if_neg (by omega)]
  · obtain ⟨⟨rfl, rfl, rfl, rfl, rfl, rfl⟩, hcfg, hr, hlst, hPB, hT0, hSY, ⟨hid, hlk⟩, hAP, ⟨hPE, hDL, hDH, hDP⟩⟩ := hD
    have hC := hcfg.2.1
    have hL := hcfg.2.2.2.2.2
    have h0 := zi_r hr hL
    refine zx_crash (n := zr_z1) (p := zr_z1) hL (fun l hl => ?_) hPE (fun kp lk' me' ms' hkp hms hme hlk' => ?_)
    · obtain ⟨a1, a2, _⟩ := hid l hl
      exact ⟨a1, a2, by unfold zr_z1; omega, by unfold zr_z1; omega⟩
    · refine br_f h0.2.2 (nm_r (zn_4 L) ?_)
      have ez : zD v3 (cur, sta, lst) 32 = (cur, sta, lst) := by
        have := zD_z (v := v3) (t := (cur, sta, lst)) (a := 0) (fun j _ b => hlst j b) 32 (by omega)
        rw [show 0 + 32 = 32 by omega] at this
        exact this
      have zi0 : ∀ f : Nat → Int32, (∀ l, l < 4 → f l = 0) → zi_z f L = f := fun f hf => by
        funext j
        by_cases h : j < L
        · rw [(zi_lt L j).1 h, hf j (by omega)]
        · exact (zi_lt L j).2 (by omega)
      rw [ez, zi0 ct (fun l hl => (hid l hl).1), zi0 tk (fun l hl => (hid l hl).2.1), zi0 ha (fun l hl => (hid l hl).2.2.1), zi0 ll (fun l hl => (hid l hl).2.2.2.2)]
      have mixs : ∀ s, s < 32 → ∀ z : Int64, me s = z → ms s = z → me' s = z ∧ ms' s = z := fun s hs' z e1 e2 => by
        rw [hme s hs', hms s hs', e1, e2]
        by_cases q : bt kp s = true
        · rw [if_pos q]; exact ⟨rfl, rfl⟩
        · rw [if_neg q]; exact ⟨rfl, rfl⟩
      refine zz_mk (Or.inr ⟨C, S, L, 4 * L, T, n, st, kd, fa, fb, va, vb, ⟨rfl, rfl, rfl, rfl, rfl, rfl⟩, hcfg, ⟨by omega, Nat.le_refl _⟩, hlst, hPB, hT0, hSY, ⟨hid, ?_⟩, hAP, fun j hj _ => hme j hj, fun l hl => zd_mix hl (hDL l hl) (fun j hj => ?_) hme, fun s hs' hn => ?_, ?_⟩)
      · refine zb_zero _ (fun j hj => ts_nt (fun w => ?_))
        have g1 := (hlk' j hj w).1
        rw [hlk, b_0] at g1; exact absurd g1 (by decide)
      · rw [hms j hj]
        by_cases q : bt kp j = true
        · rw [if_pos q]; exact Or.inl rfl
        · rw [if_neg q]; exact Or.inr rfl
      · obtain ⟨g1, g2⟩ := hDH s hs' hn
        exact mixs s (by omega) _ g1 g2
      · refine ⟨fun l hl w i hi => ?_, fun l hl w => by omega, fun l hl w => by omega, fun l hl w => by omega⟩
        obtain ⟨g1, g2⟩ := hDP.1 l hl (Or.inr (by omega)) i hi
        exact mixs _ (by omega) _ g1 g2
end
