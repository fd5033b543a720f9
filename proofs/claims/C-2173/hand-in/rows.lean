section
/-! pure rows to paste: stores, nI and lN arithmetic, masks, shifts, narrowing, branches by naturals (pk_le, pk_lt, pk_eq), loops (lp1 .. lp16: the measure of the state; rp1 ..: recursion), negatives. Take what you need -/
theorem pk_us {f : Nat → Int32} {k : Nat} {x : Int32} : upd f k x k = x := if_pos rfl
theorem pk_un {f : Nat → Int32} {k j : Nat} {x : Int32} (h : j ≠ k) : upd f k x j = f j := if_neg h
theorem pk_uLs {f : Nat → Int64} {k : Nat} {x : Int64} : vp_updL f k x k = x := if_pos rfl
theorem pk_uLn {f : Nat → Int64} {k j : Nat} {x : Int64} (h : j ≠ k) : vp_updL f k x j = f j := if_neg h
theorem pk_sub {a b : Nat} (h : b ≤ a) : nI a - nI b = nI (a - b) := by
  obtain ⟨c, rfl⟩ : ∃ c, a = c + b := ⟨a - b, by omega⟩
  rw [← nI_add, Int32.add_sub_cancel, Nat.add_sub_cancel]
theorem pk_m1 (n : Nat) : nI (n + 1) + (-1) = nI n := by
  rw [← nI_1, Int32.add_assoc, show (1 : Int32) + (-1) = 0 from rfl, Int32.add_zero]
theorem pk_mul (a b : Nat) : nI a * nI b = nI (a * b) := (Int32.ofNat_mul a b).symm
theorem pk_div {a d : Nat} (ha : a < 2 ^ 31) (h0 : 0 < d) (hd : d < 2 ^ 31) : nI a / nI d = nI (a / d) := by
  apply Int32.toInt_inj.mp
  rw [lg_idiv_nonneg (by rw [nI_toInt ha]; omega) (by rw [nI_toInt hd]; omega), nI_toInt ha, nI_toInt hd, nI_toInt (Nat.lt_of_le_of_lt (Nat.div_le_self a d) ha)]
  first | rfl | exact (Int.natCast_ediv _ _).symm
theorem pk_rem {a d : Nat} (ha : a < 2 ^ 31) (h0 : 0 < d) (hd : d < 2 ^ 31) : nI a - nI a / nI d * nI d = nI (a % d) := by
  rw [pk_div ha h0 hd, pk_mul, pk_sub (Nat.div_mul_le_self a d)]
  exact congrArg nI (by have := Nat.div_add_mod' a d; omega)
theorem pk_sub_toInt {a b : Nat} (ha : a < 2 ^ 30) (hb : b < 2 ^ 30) : (nI a - nI b).toInt = (a : Int) - b := by
  rw [Int32.toInt_sub, nI_toInt (by omega), nI_toInt (by omega)]
  exact Int.bmod_eq_of_le (by omega) (by omega)
theorem pk_sneg {a b : Nat} (hb : b < 2 ^ 30) (h : a < b) : nI a - nI b < 0 := by
  rw [Int32.lt_iff_toInt_lt, pk_sub_toInt (by omega) hb, show (0 : Int32).toInt = 0 from by decide]
  omega
theorem pk_ix (x : Int32) {n : Nat} (hn : n < 2 ^ 31) : x < 0 ∨ nI n ≤ x ∨ ∃ j : Nat, j < n ∧ x = nI j := by
  by_cases h : x < 0
  · exact Or.inl h
  · obtain ⟨j, hj, rfl⟩ := nI_of h
    by_cases h2 : j < n
    · exact Or.inr (Or.inr ⟨j, h2, rfl⟩)
    · exact Or.inr (Or.inl (nI_le (by omega) hj))
theorem pk_le {x y : Int32} {A B : Prop} (a b : Nat) (f : a ≤ b → A) (g : b < a → B) (hx : x = nI a := by rfl) (hy : y = nI b := by rfl) (ha : a < 2 ^ 31 := by omega) (hb : b < 2 ^ 31 := by omega) : (x ≤ y → A) ∧ (¬ x ≤ y → B) := by
  subst hx hy
  rw [nI_leI ha hb]
  exact ⟨f, fun z => g (by omega)⟩
theorem pk_lt {x y : Int32} {A B : Prop} (a b : Nat) (f : a < b → A) (g : b ≤ a → B) (hx : x = nI a := by rfl) (hy : y = nI b := by rfl) (ha : a < 2 ^ 31 := by omega) (hb : b < 2 ^ 31 := by omega) : (x < y → A) ∧ (¬ x < y → B) := by
  subst hx hy
  rw [nI_ltI ha hb]
  exact ⟨f, fun z => g (by omega)⟩
theorem pk_eq {x y : Int32} {A B : Prop} (a b : Nat) (f : a = b → A) (g : a ≠ b → B) (hx : x = nI a := by rfl) (hy : y = nI b := by rfl) (ha : a < 2 ^ 31 := by omega) (hb : b < 2 ^ 31 := by omega) : (x = y → A) ∧ (¬ x = y → B) := by
  subst hx hy
  rw [nI_eq ha hb]
  exact ⟨f, g⟩
theorem pk_in {x : Int32} (n N : Nat) (h : n < N) (hx : x = nI n := by rfl) (hN : N < 2 ^ 31 := by omega) : vp_in x N := by
  subst hx
  exact vp_in_nI h hN
theorem pk_cl {x : Int32} (n : Nat) (hx : x = nI n := by rfl) (h : n < 2 ^ 31 := by omega) : x.toNatClampNeg = n := by
  subst hx
  exact nI_clamp h
theorem pk_tn {n : Nat} (h : n < 2 ^ 32) : (nI n).toBitVec.toNat = n := Nat.mod_eq_of_lt h
theorem pk_and (x : Int32) {m : Int32} (k : Nat) (hm : m.toBitVec.toNat = 2 ^ k - 1) : x &&& m = nI (x.toBitVec.toNat % 2 ^ k) := by
  apply Int32.toBitVec_inj.mp
  apply BitVec.eq_of_toNat_eq
  rw [Int32.toBitVec_and, BitVec.toNat_and, hm, Nat.and_two_pow_sub_one_eq_mod]
  show _ = (BitVec.ofNat 32 _).toNat
  rw [BitVec.toNat_ofNat]
  exact (Nat.mod_eq_of_lt (Nat.lt_of_le_of_lt (Nat.mod_le _ _) x.toBitVec.isLt)).symm
theorem pk_andN {n : Nat} (h : n < 2 ^ 32) {m : Int32} (k : Nat) (hm : m.toBitVec.toNat = 2 ^ k - 1) : nI n &&& m = nI (n % 2 ^ k) := by
  rw [pk_and _ k hm, pk_tn h]
theorem pk_andE (x : Int32) {m : Int32} (k : Nat) (hm : m.toBitVec.toNat = 2 ^ k - 1) : ∃ j : Nat, j < 2 ^ k ∧ x &&& m = nI j := ⟨_, Nat.mod_lt _ (Nat.two_pow_pos k), pk_and x k hm⟩
theorem pk_andIn (x : Int32) {m : Int32} (k : Nat) (hm : m.toBitVec.toNat = 2 ^ k - 1) (hk : k ≤ 30) : vp_in (x &&& m) (2 ^ k) := by
  obtain ⟨j, hj, e⟩ := pk_andE x k hm
  rw [e]
  exact vp_in_nI hj (Nat.lt_of_le_of_lt (Nat.pow_le_pow_right (by decide) hk) (by decide))
theorem pk_shl (a s : Int32) (k : Nat) (hs : (s.toBitVec.smod 32).toNat = k) : (a <<< s).toBitVec.toNat = a.toBitVec.toNat * 2 ^ k % 2 ^ 32 := by
  show (a.toBitVec <<< (s.toBitVec.smod 32).toNat).toNat = _
  rw [hs, BitVec.toNat_shiftLeft, Nat.shiftLeft_eq]
theorem pk_shlN {n : Nat} (s : Int32) (k : Nat) (hs : (s.toBitVec.smod 32).toNat = k) (h : n * 2 ^ k < 2 ^ 32) : nI n <<< s = nI (n * 2 ^ k) := by
  apply Int32.toBitVec_inj.mp
  apply BitVec.eq_of_toNat_eq
  have hn : n < 2 ^ 32 := Nat.lt_of_le_of_lt (Nat.le_mul_of_pos_right n (Nat.two_pow_pos k)) h
  rw [pk_shl _ _ k hs, pk_tn hn, pk_tn h, Nat.mod_eq_of_lt h]
theorem pk_shr (a s : Int32) (k : Nat) (hs : (s.toBitVec.smod 32).toNat = k) : (a >>> s).toInt = a.toInt >>> k := by
  show (a.toBitVec.sshiftRight (s.toBitVec.smod 32).toNat).toInt = _
  rw [hs, BitVec.toInt_sshiftRight]
  rfl
theorem pk_shrN {n : Nat} (h : n < 2 ^ 31) (s : Int32) (k : Nat) (hs : (s.toBitVec.smod 32).toNat = k) : nI n >>> s = nI (n / 2 ^ k) := by
  apply Int32.toInt_inj.mp
  have h2 : n / 2 ^ k ≤ n := Nat.div_le_self _ _
  rw [pk_shr _ _ k hs, nI_toInt h, nI_toInt (by omega), Int.shiftRight_eq_div_pow]
  rfl
theorem pk_ushr (x s : Int32) (k : Nat) (hs : ((s.toUInt32 &&& Int32.toUInt32 31).toBitVec % 32).toNat = k) : (x.toUInt32 >>> (s.toUInt32 &&& Int32.toUInt32 31)).toInt32.toBitVec.toNat = x.toBitVec.toNat / 2 ^ k := by
  have e : (x.toUInt32 >>> (s.toUInt32 &&& Int32.toUInt32 31)).toInt32.toBitVec = x.toBitVec >>> k := by
    rw [← hs]
    exact UInt32.toBitVec_shiftRight _ _
  rw [e, BitVec.toNat_ushiftRight, Nat.shiftRight_eq_div_pow]
theorem pk_ushrN {n : Nat} (hn : n < 2 ^ 32) (s : Int32) (k : Nat) (hs : ((s.toUInt32 &&& Int32.toUInt32 31).toBitVec % 32).toNat = k) : ((nI n).toUInt32 >>> (s.toUInt32 &&& Int32.toUInt32 31)).toInt32 = nI (n / 2 ^ k) := by
  apply Int32.toBitVec_inj.mp
  apply BitVec.eq_of_toNat_eq
  rw [pk_ushr _ s k hs, pk_tn hn, pk_tn (Nat.lt_of_le_of_lt (Nat.div_le_self _ _) hn)]
theorem pk_nb (z : Int32) : narrow .byte (.int z.toInt8.toInt32) = .int z.toInt8.toInt32 := congrArg Value.int (by simp)
theorem pk_ns (z : Int32) : narrow .short (.int z.toInt16.toInt32) = .int z.toInt16.toInt32 := congrArg Value.int (by simp)
theorem pk_fb (r : Int32) : fits .byte (.int r.toInt8.toInt32) = true := by
  have ⟨a, b⟩ := lg_i2b_range r
  have h1 : (-128 : Int32).toInt = -128 := by decide
  have h2 : (127 : Int32).toInt = 127 := by decide
  simp only [fits, Bool.and_eq_true, decide_eq_true_eq, Int32.le_iff_toInt_le, h1, h2]
  omega
theorem pk_fs (r : Int32) : fits .short (.int r.toInt16.toInt32) = true := by
  have ⟨a, b⟩ := lg_i2s_range r
  have h1 : (-32768 : Int32).toInt = -32768 := by decide
  have h2 : (32767 : Int32).toInt = 32767 := by decide
  simp only [fits, Bool.and_eq_true, decide_eq_true_eq, Int32.le_iff_toInt_le, h1, h2]
  omega
theorem pk_charN {q : Nat} (hq : q < 65536) : narrow .char (.int (nI q)) = .int (nI q) ∧ fits .char (.int (nI q)) = true := by
  constructor
  · have e : (nI q).toUInt32.toUInt16.toUInt32.toInt32 = nI q := by
      apply Int32.toBitVec_inj.mp
      apply BitVec.eq_of_toNat_eq
      show (nI q).toUInt32.toUInt16.toUInt32.toNat = q % 2 ^ 32
      rw [UInt16.toNat_toUInt32, UInt32.toNat_toUInt16, show (nI q).toUInt32.toNat = q % 2 ^ 32 from rfl]
      omega
    exact congrArg Value.int e
  · have a : (0 : Int32) ≤ nI q := nI_pos' (by omega)
    have b : nI q ≤ 65535 := nI_le (b := 65535) (by omega) (by decide)
    show (decide ((0 : Int32) ≤ nI q) && decide (nI q ≤ 65535)) = true
    rw [decide_eq_true a, decide_eq_true b]
    rfl
theorem pk_char (x : Int32) : (x.toUInt32 % 65536).toInt32 = nI (x.toBitVec.toNat % 65536) := by
  apply Int32.toBitVec_inj.mp
  apply BitVec.eq_of_toNat_eq
  rw [pk_tn (by omega)]
  show (x.toUInt32 % 65536).toNat = _
  rw [UInt32.toNat_mod]
  rfl
theorem pk_nc (x : Int32) : narrow .char (.int (x.toUInt32 % 65536).toInt32) = .int (x.toUInt32 % 65536).toInt32 := by
  rw [pk_char]
  exact (pk_charN (Nat.mod_lt _ (by decide))).1
theorem pk_fc (x : Int32) : fits .char (.int (x.toUInt32 % 65536).toInt32) = true := by
  rw [pk_char]
  exact (pk_charN (Nat.mod_lt _ (by decide))).2
theorem pk_vb (z : Int32) : vp_nar .byte z.toInt8.toInt32 = z.toInt8.toInt32 := by rw [vp_nar_byte]; simp
theorem pk_vs (z : Int32) : vp_nar .short z.toInt16.toInt32 = z.toInt16.toInt32 := by rw [vp_nar_short]; simp
theorem pk_vc (z : Int32) : vp_nar .char (z.toUInt32 % 65536).toInt32 = (z.toUInt32 % 65536).toInt32 := Value.int.inj (pk_nc z)
theorem pk_lT {n : Nat} (h : n < 2 ^ 63) : (lN n).toInt = (n : Int) := lg_ofNat_toInt h
theorem pk_lLT {a b : Nat} (ha : a < 2 ^ 63) (hb : b < 2 ^ 63) : lN a < lN b ↔ a < b := by
  rw [Int64.lt_iff_toInt_lt, pk_lT ha, pk_lT hb]; omega
theorem pk_lLE {a b : Nat} (ha : a < 2 ^ 63) (hb : b < 2 ^ 63) : lN a ≤ lN b ↔ a ≤ b := by
  rw [Int64.le_iff_toInt_le, pk_lT ha, pk_lT hb]; omega
theorem pk_lEQ {a b : Nat} (ha : a < 2 ^ 63) (hb : b < 2 ^ 63) : lN a = lN b ↔ a = b := by
  rw [← Int64.toInt_inj, pk_lT ha, pk_lT hb]; omega
theorem pk_lOf {x : Int64} (h : ¬ x < 0) : ∃ k : Nat, k < 2 ^ 63 ∧ x = lN k := by
  rw [Int64.lt_iff_toInt_lt] at h
  have h0 : (0 : Int64).toInt = 0 := by decide
  have hx := Int64.toInt_lt x
  refine ⟨x.toInt.toNat, by omega, Int64.toInt_inj.mp ?_⟩
  rw [pk_lT (by omega)]
  omega
theorem pk_lDiv {a b : Nat} (ha : a < 2 ^ 63) (h0 : 0 < b) (hb : b < 2 ^ 63) : lN a / lN b = lN (a / b) := by
  apply Int64.toInt_inj.mp
  rw [lg_ldiv_nonneg (by rw [pk_lT ha]; omega) (by rw [pk_lT hb]; omega), pk_lT ha, pk_lT hb, pk_lT (Nat.lt_of_le_of_lt (Nat.div_le_self a b) ha)]
  rfl
theorem pk_lRem {a b : Nat} (ha : a < 2 ^ 63) (h0 : 0 < b) (hb : b < 2 ^ 63) : lN a - lN a / lN b * lN b = lN (a % b) := by
  rw [pk_lDiv ha h0 hb, lN_mul, lN_sub (Nat.div_mul_le_self a b)]
  exact congrArg lN (by have := Nat.div_add_mod' a b; omega)
theorem pk_loop {σ : Type} (W : Nat → Nat → σ → Prop) (I : Nat → σ → Prop) (e i0 : Nat) (s : σ) (hi : i0 ≤ e) (h0 : I i0 s) (hx : ∀ n s, I e s → W (n + 1) e s)
    (hs : ∀ n i s, i < e → I i s → (∀ s', I (i + 1) s' → W n (i + 1) s') → W (n + 1) i s) : ∃ n, W n i0 s :=
  ⟨e + 1, loop_i W I e hx hs (e + 1) i0 s hi (by omega) h0⟩
theorem pk_loopD {σ : Type} (W : Nat → Nat → σ → Prop) (I : Nat → σ → Prop) (hx : ∀ n s, I 0 s → W (n + 1) 0 s)
    (hs : ∀ n i s, I (i + 1) s → (∀ s', I i s' → W n i s') → W (n + 1) (i + 1) s) : ∀ (e : Nat) (s : σ), I e s → W (e + 1) e s := by
  intro e
  induction e with
  | zero => exact fun s h => hx 0 s h
  | succ e ih => exact fun s h => hs (e + 1) e s h (fun s' h' => ih s' h')
theorem lp1 {A1 : Type} (W : Nat → A1 → Prop) (I : A1 → Prop) (μ : A1 → Nat) (hs : ∀ (n : Nat) (a1 : A1), I a1 → (∀ (b1 : A1), I b1 → μ b1 < μ a1 → W n b1) → W (n + 1) a1) (a1 : A1) (h : I a1) : ∃ n, W n a1 :=
  loop_m (σ := A1) (fun n s => W n s) (fun s => I s) (fun s => μ s) (fun n s hI hk => hs n s hI (fun b1 h9 hm => hk b1 h9 hm)) a1 h
theorem lp2 {A1 A2 : Type} (W : Nat → A1 → A2 → Prop) (I : A1 → A2 → Prop) (μ : A1 → A2 → Nat) (hs : ∀ (n : Nat) (a1 : A1) (a2 : A2), I a1 a2 → (∀ (b1 : A1) (b2 : A2), I b1 b2 → μ b1 b2 < μ a1 a2 → W n b1 b2) → W (n + 1) a1 a2) (a1 : A1) (a2 : A2) (h : I a1 a2) : ∃ n, W n a1 a2 :=
  loop_m (σ := A1 × A2) (fun n s => W n s.1 s.2) (fun s => I s.1 s.2) (fun s => μ s.1 s.2) (fun n s hI hk => hs n s.1 s.2 hI (fun b1 b2 h9 hm => hk (b1, b2) h9 hm)) (a1, a2) h
theorem lp3 {A1 A2 A3 : Type} (W : Nat → A1 → A2 → A3 → Prop) (I : A1 → A2 → A3 → Prop) (μ : A1 → A2 → A3 → Nat) (hs : ∀ (n : Nat) (a1 : A1) (a2 : A2) (a3 : A3), I a1 a2 a3 → (∀ (b1 : A1) (b2 : A2) (b3 : A3), I b1 b2 b3 → μ b1 b2 b3 < μ a1 a2 a3 → W n b1 b2 b3) → W (n + 1) a1 a2 a3) (a1 : A1) (a2 : A2) (a3 : A3) (h : I a1 a2 a3) : ∃ n, W n a1 a2 a3 :=
  loop_m (σ := A1 × A2 × A3) (fun n s => W n s.1 s.2.1 s.2.2) (fun s => I s.1 s.2.1 s.2.2) (fun s => μ s.1 s.2.1 s.2.2) (fun n s hI hk => hs n s.1 s.2.1 s.2.2 hI (fun b1 b2 b3 h9 hm => hk (b1, b2, b3) h9 hm)) (a1, a2, a3) h
theorem lp4 {A1 A2 A3 A4 : Type} (W : Nat → A1 → A2 → A3 → A4 → Prop) (I : A1 → A2 → A3 → A4 → Prop) (μ : A1 → A2 → A3 → A4 → Nat) (hs : ∀ (n : Nat) (a1 : A1) (a2 : A2) (a3 : A3) (a4 : A4), I a1 a2 a3 a4 → (∀ (b1 : A1) (b2 : A2) (b3 : A3) (b4 : A4), I b1 b2 b3 b4 → μ b1 b2 b3 b4 < μ a1 a2 a3 a4 → W n b1 b2 b3 b4) → W (n + 1) a1 a2 a3 a4) (a1 : A1) (a2 : A2) (a3 : A3) (a4 : A4) (h : I a1 a2 a3 a4) : ∃ n, W n a1 a2 a3 a4 :=
  loop_m (σ := A1 × A2 × A3 × A4) (fun n s => W n s.1 s.2.1 s.2.2.1 s.2.2.2) (fun s => I s.1 s.2.1 s.2.2.1 s.2.2.2) (fun s => μ s.1 s.2.1 s.2.2.1 s.2.2.2) (fun n s hI hk => hs n s.1 s.2.1 s.2.2.1 s.2.2.2 hI (fun b1 b2 b3 b4 h9 hm => hk (b1, b2, b3, b4) h9 hm)) (a1, a2, a3, a4) h
theorem lp5 {A1 A2 A3 A4 A5 : Type} (W : Nat → A1 → A2 → A3 → A4 → A5 → Prop) (I : A1 → A2 → A3 → A4 → A5 → Prop) (μ : A1 → A2 → A3 → A4 → A5 → Nat) (hs : ∀ (n : Nat) (a1 : A1) (a2 : A2) (a3 : A3) (a4 : A4) (a5 : A5), I a1 a2 a3 a4 a5 → (∀ (b1 : A1) (b2 : A2) (b3 : A3) (b4 : A4) (b5 : A5), I b1 b2 b3 b4 b5 → μ b1 b2 b3 b4 b5 < μ a1 a2 a3 a4 a5 → W n b1 b2 b3 b4 b5) → W (n + 1) a1 a2 a3 a4 a5) (a1 : A1) (a2 : A2) (a3 : A3) (a4 : A4) (a5 : A5) (h : I a1 a2 a3 a4 a5) : ∃ n, W n a1 a2 a3 a4 a5 :=
  loop_m (σ := A1 × A2 × A3 × A4 × A5) (fun n s => W n s.1 s.2.1 s.2.2.1 s.2.2.2.1 s.2.2.2.2) (fun s => I s.1 s.2.1 s.2.2.1 s.2.2.2.1 s.2.2.2.2) (fun s => μ s.1 s.2.1 s.2.2.1 s.2.2.2.1 s.2.2.2.2) (fun n s hI hk => hs n s.1 s.2.1 s.2.2.1 s.2.2.2.1 s.2.2.2.2 hI (fun b1 b2 b3 b4 b5 h9 hm => hk (b1, b2, b3, b4, b5) h9 hm)) (a1, a2, a3, a4, a5) h
theorem lp6 {A1 A2 A3 A4 A5 A6 : Type} (W : Nat → A1 → A2 → A3 → A4 → A5 → A6 → Prop) (I : A1 → A2 → A3 → A4 → A5 → A6 → Prop) (μ : A1 → A2 → A3 → A4 → A5 → A6 → Nat) (hs : ∀ (n : Nat) (a1 : A1) (a2 : A2) (a3 : A3) (a4 : A4) (a5 : A5) (a6 : A6), I a1 a2 a3 a4 a5 a6 → (∀ (b1 : A1) (b2 : A2) (b3 : A3) (b4 : A4) (b5 : A5) (b6 : A6), I b1 b2 b3 b4 b5 b6 → μ b1 b2 b3 b4 b5 b6 < μ a1 a2 a3 a4 a5 a6 → W n b1 b2 b3 b4 b5 b6) → W (n + 1) a1 a2 a3 a4 a5 a6) (a1 : A1) (a2 : A2) (a3 : A3) (a4 : A4) (a5 : A5) (a6 : A6) (h : I a1 a2 a3 a4 a5 a6) : ∃ n, W n a1 a2 a3 a4 a5 a6 :=
  loop_m (σ := A1 × A2 × A3 × A4 × A5 × A6) (fun n s => W n s.1 s.2.1 s.2.2.1 s.2.2.2.1 s.2.2.2.2.1 s.2.2.2.2.2) (fun s => I s.1 s.2.1 s.2.2.1 s.2.2.2.1 s.2.2.2.2.1 s.2.2.2.2.2) (fun s => μ s.1 s.2.1 s.2.2.1 s.2.2.2.1 s.2.2.2.2.1 s.2.2.2.2.2) (fun n s hI hk => hs n s.1 s.2.1 s.2.2.1 s.2.2.2.1 s.2.2.2.2.1 s.2.2.2.2.2 hI (fun b1 b2 b3 b4 b5 b6 h9 hm => hk (b1, b2, b3, b4, b5, b6) h9 hm)) (a1, a2, a3, a4, a5, a6) h
theorem lp7 {A1 A2 A3 A4 A5 A6 A7 : Type} (W : Nat → A1 → A2 → A3 → A4 → A5 → A6 → A7 → Prop) (I : A1 → A2 → A3 → A4 → A5 → A6 → A7 → Prop) (μ : A1 → A2 → A3 → A4 → A5 → A6 → A7 → Nat) (hs : ∀ (n : Nat) (a1 : A1) (a2 : A2) (a3 : A3) (a4 : A4) (a5 : A5) (a6 : A6) (a7 : A7), I a1 a2 a3 a4 a5 a6 a7 → (∀ (b1 : A1) (b2 : A2) (b3 : A3) (b4 : A4) (b5 : A5) (b6 : A6) (b7 : A7), I b1 b2 b3 b4 b5 b6 b7 → μ b1 b2 b3 b4 b5 b6 b7 < μ a1 a2 a3 a4 a5 a6 a7 → W n b1 b2 b3 b4 b5 b6 b7) → W (n + 1) a1 a2 a3 a4 a5 a6 a7) (a1 : A1) (a2 : A2) (a3 : A3) (a4 : A4) (a5 : A5) (a6 : A6) (a7 : A7) (h : I a1 a2 a3 a4 a5 a6 a7) : ∃ n, W n a1 a2 a3 a4 a5 a6 a7 :=
  loop_m (σ := A1 × A2 × A3 × A4 × A5 × A6 × A7) (fun n s => W n s.1 s.2.1 s.2.2.1 s.2.2.2.1 s.2.2.2.2.1 s.2.2.2.2.2.1 s.2.2.2.2.2.2) (fun s => I s.1 s.2.1 s.2.2.1 s.2.2.2.1 s.2.2.2.2.1 s.2.2.2.2.2.1 s.2.2.2.2.2.2) (fun s => μ s.1 s.2.1 s.2.2.1 s.2.2.2.1 s.2.2.2.2.1 s.2.2.2.2.2.1 s.2.2.2.2.2.2) (fun n s hI hk => hs n s.1 s.2.1 s.2.2.1 s.2.2.2.1 s.2.2.2.2.1 s.2.2.2.2.2.1 s.2.2.2.2.2.2 hI (fun b1 b2 b3 b4 b5 b6 b7 h9 hm => hk (b1, b2, b3, b4, b5, b6, b7) h9 hm)) (a1, a2, a3, a4, a5, a6, a7) h
theorem lp8 {A1 A2 A3 A4 A5 A6 A7 A8 : Type} (W : Nat → A1 → A2 → A3 → A4 → A5 → A6 → A7 → A8 → Prop) (I : A1 → A2 → A3 → A4 → A5 → A6 → A7 → A8 → Prop) (μ : A1 → A2 → A3 → A4 → A5 → A6 → A7 → A8 → Nat) (hs : ∀ (n : Nat) (a1 : A1) (a2 : A2) (a3 : A3) (a4 : A4) (a5 : A5) (a6 : A6) (a7 : A7) (a8 : A8), I a1 a2 a3 a4 a5 a6 a7 a8 → (∀ (b1 : A1) (b2 : A2) (b3 : A3) (b4 : A4) (b5 : A5) (b6 : A6) (b7 : A7) (b8 : A8), I b1 b2 b3 b4 b5 b6 b7 b8 → μ b1 b2 b3 b4 b5 b6 b7 b8 < μ a1 a2 a3 a4 a5 a6 a7 a8 → W n b1 b2 b3 b4 b5 b6 b7 b8) → W (n + 1) a1 a2 a3 a4 a5 a6 a7 a8) (a1 : A1) (a2 : A2) (a3 : A3) (a4 : A4) (a5 : A5) (a6 : A6) (a7 : A7) (a8 : A8) (h : I a1 a2 a3 a4 a5 a6 a7 a8) : ∃ n, W n a1 a2 a3 a4 a5 a6 a7 a8 :=
  loop_m (σ := A1 × A2 × A3 × A4 × A5 × A6 × A7 × A8) (fun n s => W n s.1 s.2.1 s.2.2.1 s.2.2.2.1 s.2.2.2.2.1 s.2.2.2.2.2.1 s.2.2.2.2.2.2.1 s.2.2.2.2.2.2.2) (fun s => I s.1 s.2.1 s.2.2.1 s.2.2.2.1 s.2.2.2.2.1 s.2.2.2.2.2.1 s.2.2.2.2.2.2.1 s.2.2.2.2.2.2.2) (fun s => μ s.1 s.2.1 s.2.2.1 s.2.2.2.1 s.2.2.2.2.1 s.2.2.2.2.2.1 s.2.2.2.2.2.2.1 s.2.2.2.2.2.2.2) (fun n s hI hk => hs n s.1 s.2.1 s.2.2.1 s.2.2.2.1 s.2.2.2.2.1 s.2.2.2.2.2.1 s.2.2.2.2.2.2.1 s.2.2.2.2.2.2.2 hI (fun b1 b2 b3 b4 b5 b6 b7 b8 h9 hm => hk (b1, b2, b3, b4, b5, b6, b7, b8) h9 hm)) (a1, a2, a3, a4, a5, a6, a7, a8) h
theorem lp9 {A1 A2 A3 A4 A5 A6 A7 A8 A9 : Type} (W : Nat → A1 → A2 → A3 → A4 → A5 → A6 → A7 → A8 → A9 → Prop) (I : A1 → A2 → A3 → A4 → A5 → A6 → A7 → A8 → A9 → Prop) (μ : A1 → A2 → A3 → A4 → A5 → A6 → A7 → A8 → A9 → Nat) (hs : ∀ (n : Nat) (a1 : A1) (a2 : A2) (a3 : A3) (a4 : A4) (a5 : A5) (a6 : A6) (a7 : A7) (a8 : A8) (a9 : A9), I a1 a2 a3 a4 a5 a6 a7 a8 a9 → (∀ (b1 : A1) (b2 : A2) (b3 : A3) (b4 : A4) (b5 : A5) (b6 : A6) (b7 : A7) (b8 : A8) (b9 : A9), I b1 b2 b3 b4 b5 b6 b7 b8 b9 → μ b1 b2 b3 b4 b5 b6 b7 b8 b9 < μ a1 a2 a3 a4 a5 a6 a7 a8 a9 → W n b1 b2 b3 b4 b5 b6 b7 b8 b9) → W (n + 1) a1 a2 a3 a4 a5 a6 a7 a8 a9) (a1 : A1) (a2 : A2) (a3 : A3) (a4 : A4) (a5 : A5) (a6 : A6) (a7 : A7) (a8 : A8) (a9 : A9) (h : I a1 a2 a3 a4 a5 a6 a7 a8 a9) : ∃ n, W n a1 a2 a3 a4 a5 a6 a7 a8 a9 :=
  loop_m (σ := A1 × A2 × A3 × A4 × A5 × A6 × A7 × A8 × A9) (fun n s => W n s.1 s.2.1 s.2.2.1 s.2.2.2.1 s.2.2.2.2.1 s.2.2.2.2.2.1 s.2.2.2.2.2.2.1 s.2.2.2.2.2.2.2.1 s.2.2.2.2.2.2.2.2) (fun s => I s.1 s.2.1 s.2.2.1 s.2.2.2.1 s.2.2.2.2.1 s.2.2.2.2.2.1 s.2.2.2.2.2.2.1 s.2.2.2.2.2.2.2.1 s.2.2.2.2.2.2.2.2) (fun s => μ s.1 s.2.1 s.2.2.1 s.2.2.2.1 s.2.2.2.2.1 s.2.2.2.2.2.1 s.2.2.2.2.2.2.1 s.2.2.2.2.2.2.2.1 s.2.2.2.2.2.2.2.2) (fun n s hI hk => hs n s.1 s.2.1 s.2.2.1 s.2.2.2.1 s.2.2.2.2.1 s.2.2.2.2.2.1 s.2.2.2.2.2.2.1 s.2.2.2.2.2.2.2.1 s.2.2.2.2.2.2.2.2 hI (fun b1 b2 b3 b4 b5 b6 b7 b8 b9 h9 hm => hk (b1, b2, b3, b4, b5, b6, b7, b8, b9) h9 hm)) (a1, a2, a3, a4, a5, a6, a7, a8, a9) h
theorem lp10 {A1 A2 A3 A4 A5 A6 A7 A8 A9 A10 : Type} (W : Nat → A1 → A2 → A3 → A4 → A5 → A6 → A7 → A8 → A9 → A10 → Prop) (I : A1 → A2 → A3 → A4 → A5 → A6 → A7 → A8 → A9 → A10 → Prop) (μ : A1 → A2 → A3 → A4 → A5 → A6 → A7 → A8 → A9 → A10 → Nat) (hs : ∀ (n : Nat) (a1 : A1) (a2 : A2) (a3 : A3) (a4 : A4) (a5 : A5) (a6 : A6) (a7 : A7) (a8 : A8) (a9 : A9) (a10 : A10), I a1 a2 a3 a4 a5 a6 a7 a8 a9 a10 → (∀ (b1 : A1) (b2 : A2) (b3 : A3) (b4 : A4) (b5 : A5) (b6 : A6) (b7 : A7) (b8 : A8) (b9 : A9) (b10 : A10), I b1 b2 b3 b4 b5 b6 b7 b8 b9 b10 → μ b1 b2 b3 b4 b5 b6 b7 b8 b9 b10 < μ a1 a2 a3 a4 a5 a6 a7 a8 a9 a10 → W n b1 b2 b3 b4 b5 b6 b7 b8 b9 b10) → W (n + 1) a1 a2 a3 a4 a5 a6 a7 a8 a9 a10) (a1 : A1) (a2 : A2) (a3 : A3) (a4 : A4) (a5 : A5) (a6 : A6) (a7 : A7) (a8 : A8) (a9 : A9) (a10 : A10) (h : I a1 a2 a3 a4 a5 a6 a7 a8 a9 a10) : ∃ n, W n a1 a2 a3 a4 a5 a6 a7 a8 a9 a10 :=
  loop_m (σ := A1 × A2 × A3 × A4 × A5 × A6 × A7 × A8 × A9 × A10) (fun n s => W n s.1 s.2.1 s.2.2.1 s.2.2.2.1 s.2.2.2.2.1 s.2.2.2.2.2.1 s.2.2.2.2.2.2.1 s.2.2.2.2.2.2.2.1 s.2.2.2.2.2.2.2.2.1 s.2.2.2.2.2.2.2.2.2) (fun s => I s.1 s.2.1 s.2.2.1 s.2.2.2.1 s.2.2.2.2.1 s.2.2.2.2.2.1 s.2.2.2.2.2.2.1 s.2.2.2.2.2.2.2.1 s.2.2.2.2.2.2.2.2.1 s.2.2.2.2.2.2.2.2.2) (fun s => μ s.1 s.2.1 s.2.2.1 s.2.2.2.1 s.2.2.2.2.1 s.2.2.2.2.2.1 s.2.2.2.2.2.2.1 s.2.2.2.2.2.2.2.1 s.2.2.2.2.2.2.2.2.1 s.2.2.2.2.2.2.2.2.2) (fun n s hI hk => hs n s.1 s.2.1 s.2.2.1 s.2.2.2.1 s.2.2.2.2.1 s.2.2.2.2.2.1 s.2.2.2.2.2.2.1 s.2.2.2.2.2.2.2.1 s.2.2.2.2.2.2.2.2.1 s.2.2.2.2.2.2.2.2.2 hI (fun b1 b2 b3 b4 b5 b6 b7 b8 b9 b10 h9 hm => hk (b1, b2, b3, b4, b5, b6, b7, b8, b9, b10) h9 hm)) (a1, a2, a3, a4, a5, a6, a7, a8, a9, a10) h
theorem lp11 {A1 A2 A3 A4 A5 A6 A7 A8 A9 A10 A11 : Type} (W : Nat → A1 → A2 → A3 → A4 → A5 → A6 → A7 → A8 → A9 → A10 → A11 → Prop) (I : A1 → A2 → A3 → A4 → A5 → A6 → A7 → A8 → A9 → A10 → A11 → Prop) (μ : A1 → A2 → A3 → A4 → A5 → A6 → A7 → A8 → A9 → A10 → A11 → Nat) (hs : ∀ (n : Nat) (a1 : A1) (a2 : A2) (a3 : A3) (a4 : A4) (a5 : A5) (a6 : A6) (a7 : A7) (a8 : A8) (a9 : A9) (a10 : A10) (a11 : A11), I a1 a2 a3 a4 a5 a6 a7 a8 a9 a10 a11 → (∀ (b1 : A1) (b2 : A2) (b3 : A3) (b4 : A4) (b5 : A5) (b6 : A6) (b7 : A7) (b8 : A8) (b9 : A9) (b10 : A10) (b11 : A11), I b1 b2 b3 b4 b5 b6 b7 b8 b9 b10 b11 → μ b1 b2 b3 b4 b5 b6 b7 b8 b9 b10 b11 < μ a1 a2 a3 a4 a5 a6 a7 a8 a9 a10 a11 → W n b1 b2 b3 b4 b5 b6 b7 b8 b9 b10 b11) → W (n + 1) a1 a2 a3 a4 a5 a6 a7 a8 a9 a10 a11) (a1 : A1) (a2 : A2) (a3 : A3) (a4 : A4) (a5 : A5) (a6 : A6) (a7 : A7) (a8 : A8) (a9 : A9) (a10 : A10) (a11 : A11) (h : I a1 a2 a3 a4 a5 a6 a7 a8 a9 a10 a11) : ∃ n, W n a1 a2 a3 a4 a5 a6 a7 a8 a9 a10 a11 :=
  loop_m (σ := A1 × A2 × A3 × A4 × A5 × A6 × A7 × A8 × A9 × A10 × A11) (fun n s => W n s.1 s.2.1 s.2.2.1 s.2.2.2.1 s.2.2.2.2.1 s.2.2.2.2.2.1 s.2.2.2.2.2.2.1 s.2.2.2.2.2.2.2.1 s.2.2.2.2.2.2.2.2.1 s.2.2.2.2.2.2.2.2.2.1 s.2.2.2.2.2.2.2.2.2.2) (fun s => I s.1 s.2.1 s.2.2.1 s.2.2.2.1 s.2.2.2.2.1 s.2.2.2.2.2.1 s.2.2.2.2.2.2.1 s.2.2.2.2.2.2.2.1 s.2.2.2.2.2.2.2.2.1 s.2.2.2.2.2.2.2.2.2.1 s.2.2.2.2.2.2.2.2.2.2) (fun s => μ s.1 s.2.1 s.2.2.1 s.2.2.2.1 s.2.2.2.2.1 s.2.2.2.2.2.1 s.2.2.2.2.2.2.1 s.2.2.2.2.2.2.2.1 s.2.2.2.2.2.2.2.2.1 s.2.2.2.2.2.2.2.2.2.1 s.2.2.2.2.2.2.2.2.2.2) (fun n s hI hk => hs n s.1 s.2.1 s.2.2.1 s.2.2.2.1 s.2.2.2.2.1 s.2.2.2.2.2.1 s.2.2.2.2.2.2.1 s.2.2.2.2.2.2.2.1 s.2.2.2.2.2.2.2.2.1 s.2.2.2.2.2.2.2.2.2.1 s.2.2.2.2.2.2.2.2.2.2 hI (fun b1 b2 b3 b4 b5 b6 b7 b8 b9 b10 b11 h9 hm => hk (b1, b2, b3, b4, b5, b6, b7, b8, b9, b10, b11) h9 hm)) (a1, a2, a3, a4, a5, a6, a7, a8, a9, a10, a11) h
theorem lp12 {A1 A2 A3 A4 A5 A6 A7 A8 A9 A10 A11 A12 : Type} (W : Nat → A1 → A2 → A3 → A4 → A5 → A6 → A7 → A8 → A9 → A10 → A11 → A12 → Prop) (I : A1 → A2 → A3 → A4 → A5 → A6 → A7 → A8 → A9 → A10 → A11 → A12 → Prop) (μ : A1 → A2 → A3 → A4 → A5 → A6 → A7 → A8 → A9 → A10 → A11 → A12 → Nat) (hs : ∀ (n : Nat) (a1 : A1) (a2 : A2) (a3 : A3) (a4 : A4) (a5 : A5) (a6 : A6) (a7 : A7) (a8 : A8) (a9 : A9) (a10 : A10) (a11 : A11) (a12 : A12), I a1 a2 a3 a4 a5 a6 a7 a8 a9 a10 a11 a12 → (∀ (b1 : A1) (b2 : A2) (b3 : A3) (b4 : A4) (b5 : A5) (b6 : A6) (b7 : A7) (b8 : A8) (b9 : A9) (b10 : A10) (b11 : A11) (b12 : A12), I b1 b2 b3 b4 b5 b6 b7 b8 b9 b10 b11 b12 → μ b1 b2 b3 b4 b5 b6 b7 b8 b9 b10 b11 b12 < μ a1 a2 a3 a4 a5 a6 a7 a8 a9 a10 a11 a12 → W n b1 b2 b3 b4 b5 b6 b7 b8 b9 b10 b11 b12) → W (n + 1) a1 a2 a3 a4 a5 a6 a7 a8 a9 a10 a11 a12) (a1 : A1) (a2 : A2) (a3 : A3) (a4 : A4) (a5 : A5) (a6 : A6) (a7 : A7) (a8 : A8) (a9 : A9) (a10 : A10) (a11 : A11) (a12 : A12) (h : I a1 a2 a3 a4 a5 a6 a7 a8 a9 a10 a11 a12) : ∃ n, W n a1 a2 a3 a4 a5 a6 a7 a8 a9 a10 a11 a12 :=
  loop_m (σ := A1 × A2 × A3 × A4 × A5 × A6 × A7 × A8 × A9 × A10 × A11 × A12) (fun n s => W n s.1 s.2.1 s.2.2.1 s.2.2.2.1 s.2.2.2.2.1 s.2.2.2.2.2.1 s.2.2.2.2.2.2.1 s.2.2.2.2.2.2.2.1 s.2.2.2.2.2.2.2.2.1 s.2.2.2.2.2.2.2.2.2.1 s.2.2.2.2.2.2.2.2.2.2.1 s.2.2.2.2.2.2.2.2.2.2.2) (fun s => I s.1 s.2.1 s.2.2.1 s.2.2.2.1 s.2.2.2.2.1 s.2.2.2.2.2.1 s.2.2.2.2.2.2.1 s.2.2.2.2.2.2.2.1 s.2.2.2.2.2.2.2.2.1 s.2.2.2.2.2.2.2.2.2.1 s.2.2.2.2.2.2.2.2.2.2.1 s.2.2.2.2.2.2.2.2.2.2.2) (fun s => μ s.1 s.2.1 s.2.2.1 s.2.2.2.1 s.2.2.2.2.1 s.2.2.2.2.2.1 s.2.2.2.2.2.2.1 s.2.2.2.2.2.2.2.1 s.2.2.2.2.2.2.2.2.1 s.2.2.2.2.2.2.2.2.2.1 s.2.2.2.2.2.2.2.2.2.2.1 s.2.2.2.2.2.2.2.2.2.2.2) (fun n s hI hk => hs n s.1 s.2.1 s.2.2.1 s.2.2.2.1 s.2.2.2.2.1 s.2.2.2.2.2.1 s.2.2.2.2.2.2.1 s.2.2.2.2.2.2.2.1 s.2.2.2.2.2.2.2.2.1 s.2.2.2.2.2.2.2.2.2.1 s.2.2.2.2.2.2.2.2.2.2.1 s.2.2.2.2.2.2.2.2.2.2.2 hI (fun b1 b2 b3 b4 b5 b6 b7 b8 b9 b10 b11 b12 h9 hm => hk (b1, b2, b3, b4, b5, b6, b7, b8, b9, b10, b11, b12) h9 hm)) (a1, a2, a3, a4, a5, a6, a7, a8, a9, a10, a11, a12) h
theorem lp13 {A1 A2 A3 A4 A5 A6 A7 A8 A9 A10 A11 A12 A13 : Type} (W : Nat → A1 → A2 → A3 → A4 → A5 → A6 → A7 → A8 → A9 → A10 → A11 → A12 → A13 → Prop) (I : A1 → A2 → A3 → A4 → A5 → A6 → A7 → A8 → A9 → A10 → A11 → A12 → A13 → Prop) (μ : A1 → A2 → A3 → A4 → A5 → A6 → A7 → A8 → A9 → A10 → A11 → A12 → A13 → Nat) (hs : ∀ (n : Nat) (a1 : A1) (a2 : A2) (a3 : A3) (a4 : A4) (a5 : A5) (a6 : A6) (a7 : A7) (a8 : A8) (a9 : A9) (a10 : A10) (a11 : A11) (a12 : A12) (a13 : A13), I a1 a2 a3 a4 a5 a6 a7 a8 a9 a10 a11 a12 a13 → (∀ (b1 : A1) (b2 : A2) (b3 : A3) (b4 : A4) (b5 : A5) (b6 : A6) (b7 : A7) (b8 : A8) (b9 : A9) (b10 : A10) (b11 : A11) (b12 : A12) (b13 : A13), I b1 b2 b3 b4 b5 b6 b7 b8 b9 b10 b11 b12 b13 → μ b1 b2 b3 b4 b5 b6 b7 b8 b9 b10 b11 b12 b13 < μ a1 a2 a3 a4 a5 a6 a7 a8 a9 a10 a11 a12 a13 → W n b1 b2 b3 b4 b5 b6 b7 b8 b9 b10 b11 b12 b13) → W (n + 1) a1 a2 a3 a4 a5 a6 a7 a8 a9 a10 a11 a12 a13) (a1 : A1) (a2 : A2) (a3 : A3) (a4 : A4) (a5 : A5) (a6 : A6) (a7 : A7) (a8 : A8) (a9 : A9) (a10 : A10) (a11 : A11) (a12 : A12) (a13 : A13) (h : I a1 a2 a3 a4 a5 a6 a7 a8 a9 a10 a11 a12 a13) : ∃ n, W n a1 a2 a3 a4 a5 a6 a7 a8 a9 a10 a11 a12 a13 :=
  loop_m (σ := A1 × A2 × A3 × A4 × A5 × A6 × A7 × A8 × A9 × A10 × A11 × A12 × A13) (fun n s => W n s.1 s.2.1 s.2.2.1 s.2.2.2.1 s.2.2.2.2.1 s.2.2.2.2.2.1 s.2.2.2.2.2.2.1 s.2.2.2.2.2.2.2.1 s.2.2.2.2.2.2.2.2.1 s.2.2.2.2.2.2.2.2.2.1 s.2.2.2.2.2.2.2.2.2.2.1 s.2.2.2.2.2.2.2.2.2.2.2.1 s.2.2.2.2.2.2.2.2.2.2.2.2) (fun s => I s.1 s.2.1 s.2.2.1 s.2.2.2.1 s.2.2.2.2.1 s.2.2.2.2.2.1 s.2.2.2.2.2.2.1 s.2.2.2.2.2.2.2.1 s.2.2.2.2.2.2.2.2.1 s.2.2.2.2.2.2.2.2.2.1 s.2.2.2.2.2.2.2.2.2.2.1 s.2.2.2.2.2.2.2.2.2.2.2.1 s.2.2.2.2.2.2.2.2.2.2.2.2) (fun s => μ s.1 s.2.1 s.2.2.1 s.2.2.2.1 s.2.2.2.2.1 s.2.2.2.2.2.1 s.2.2.2.2.2.2.1 s.2.2.2.2.2.2.2.1 s.2.2.2.2.2.2.2.2.1 s.2.2.2.2.2.2.2.2.2.1 s.2.2.2.2.2.2.2.2.2.2.1 s.2.2.2.2.2.2.2.2.2.2.2.1 s.2.2.2.2.2.2.2.2.2.2.2.2) (fun n s hI hk => hs n s.1 s.2.1 s.2.2.1 s.2.2.2.1 s.2.2.2.2.1 s.2.2.2.2.2.1 s.2.2.2.2.2.2.1 s.2.2.2.2.2.2.2.1 s.2.2.2.2.2.2.2.2.1 s.2.2.2.2.2.2.2.2.2.1 s.2.2.2.2.2.2.2.2.2.2.1 s.2.2.2.2.2.2.2.2.2.2.2.1 s.2.2.2.2.2.2.2.2.2.2.2.2 hI (fun b1 b2 b3 b4 b5 b6 b7 b8 b9 b10 b11 b12 b13 h9 hm => hk (b1, b2, b3, b4, b5, b6, b7, b8, b9, b10, b11, b12, b13) h9 hm)) (a1, a2, a3, a4, a5, a6, a7, a8, a9, a10, a11, a12, a13) h
theorem lp14 {A1 A2 A3 A4 A5 A6 A7 A8 A9 A10 A11 A12 A13 A14 : Type} (W : Nat → A1 → A2 → A3 → A4 → A5 → A6 → A7 → A8 → A9 → A10 → A11 → A12 → A13 → A14 → Prop) (I : A1 → A2 → A3 → A4 → A5 → A6 → A7 → A8 → A9 → A10 → A11 → A12 → A13 → A14 → Prop) (μ : A1 → A2 → A3 → A4 → A5 → A6 → A7 → A8 → A9 → A10 → A11 → A12 → A13 → A14 → Nat) (hs : ∀ (n : Nat) (a1 : A1) (a2 : A2) (a3 : A3) (a4 : A4) (a5 : A5) (a6 : A6) (a7 : A7) (a8 : A8) (a9 : A9) (a10 : A10) (a11 : A11) (a12 : A12) (a13 : A13) (a14 : A14), I a1 a2 a3 a4 a5 a6 a7 a8 a9 a10 a11 a12 a13 a14 → (∀ (b1 : A1) (b2 : A2) (b3 : A3) (b4 : A4) (b5 : A5) (b6 : A6) (b7 : A7) (b8 : A8) (b9 : A9) (b10 : A10) (b11 : A11) (b12 : A12) (b13 : A13) (b14 : A14), I b1 b2 b3 b4 b5 b6 b7 b8 b9 b10 b11 b12 b13 b14 → μ b1 b2 b3 b4 b5 b6 b7 b8 b9 b10 b11 b12 b13 b14 < μ a1 a2 a3 a4 a5 a6 a7 a8 a9 a10 a11 a12 a13 a14 → W n b1 b2 b3 b4 b5 b6 b7 b8 b9 b10 b11 b12 b13 b14) → W (n + 1) a1 a2 a3 a4 a5 a6 a7 a8 a9 a10 a11 a12 a13 a14) (a1 : A1) (a2 : A2) (a3 : A3) (a4 : A4) (a5 : A5) (a6 : A6) (a7 : A7) (a8 : A8) (a9 : A9) (a10 : A10) (a11 : A11) (a12 : A12) (a13 : A13) (a14 : A14) (h : I a1 a2 a3 a4 a5 a6 a7 a8 a9 a10 a11 a12 a13 a14) : ∃ n, W n a1 a2 a3 a4 a5 a6 a7 a8 a9 a10 a11 a12 a13 a14 :=
  loop_m (σ := A1 × A2 × A3 × A4 × A5 × A6 × A7 × A8 × A9 × A10 × A11 × A12 × A13 × A14) (fun n s => W n s.1 s.2.1 s.2.2.1 s.2.2.2.1 s.2.2.2.2.1 s.2.2.2.2.2.1 s.2.2.2.2.2.2.1 s.2.2.2.2.2.2.2.1 s.2.2.2.2.2.2.2.2.1 s.2.2.2.2.2.2.2.2.2.1 s.2.2.2.2.2.2.2.2.2.2.1 s.2.2.2.2.2.2.2.2.2.2.2.1 s.2.2.2.2.2.2.2.2.2.2.2.2.1 s.2.2.2.2.2.2.2.2.2.2.2.2.2) (fun s => I s.1 s.2.1 s.2.2.1 s.2.2.2.1 s.2.2.2.2.1 s.2.2.2.2.2.1 s.2.2.2.2.2.2.1 s.2.2.2.2.2.2.2.1 s.2.2.2.2.2.2.2.2.1 s.2.2.2.2.2.2.2.2.2.1 s.2.2.2.2.2.2.2.2.2.2.1 s.2.2.2.2.2.2.2.2.2.2.2.1 s.2.2.2.2.2.2.2.2.2.2.2.2.1 s.2.2.2.2.2.2.2.2.2.2.2.2.2) (fun s => μ s.1 s.2.1 s.2.2.1 s.2.2.2.1 s.2.2.2.2.1 s.2.2.2.2.2.1 s.2.2.2.2.2.2.1 s.2.2.2.2.2.2.2.1 s.2.2.2.2.2.2.2.2.1 s.2.2.2.2.2.2.2.2.2.1 s.2.2.2.2.2.2.2.2.2.2.1 s.2.2.2.2.2.2.2.2.2.2.2.1 s.2.2.2.2.2.2.2.2.2.2.2.2.1 s.2.2.2.2.2.2.2.2.2.2.2.2.2) (fun n s hI hk => hs n s.1 s.2.1 s.2.2.1 s.2.2.2.1 s.2.2.2.2.1 s.2.2.2.2.2.1 s.2.2.2.2.2.2.1 s.2.2.2.2.2.2.2.1 s.2.2.2.2.2.2.2.2.1 s.2.2.2.2.2.2.2.2.2.1 s.2.2.2.2.2.2.2.2.2.2.1 s.2.2.2.2.2.2.2.2.2.2.2.1 s.2.2.2.2.2.2.2.2.2.2.2.2.1 s.2.2.2.2.2.2.2.2.2.2.2.2.2 hI (fun b1 b2 b3 b4 b5 b6 b7 b8 b9 b10 b11 b12 b13 b14 h9 hm => hk (b1, b2, b3, b4, b5, b6, b7, b8, b9, b10, b11, b12, b13, b14) h9 hm)) (a1, a2, a3, a4, a5, a6, a7, a8, a9, a10, a11, a12, a13, a14) h
theorem lp15 {A1 A2 A3 A4 A5 A6 A7 A8 A9 A10 A11 A12 A13 A14 A15 : Type} (W : Nat → A1 → A2 → A3 → A4 → A5 → A6 → A7 → A8 → A9 → A10 → A11 → A12 → A13 → A14 → A15 → Prop) (I : A1 → A2 → A3 → A4 → A5 → A6 → A7 → A8 → A9 → A10 → A11 → A12 → A13 → A14 → A15 → Prop) (μ : A1 → A2 → A3 → A4 → A5 → A6 → A7 → A8 → A9 → A10 → A11 → A12 → A13 → A14 → A15 → Nat) (hs : ∀ (n : Nat) (a1 : A1) (a2 : A2) (a3 : A3) (a4 : A4) (a5 : A5) (a6 : A6) (a7 : A7) (a8 : A8) (a9 : A9) (a10 : A10) (a11 : A11) (a12 : A12) (a13 : A13) (a14 : A14) (a15 : A15), I a1 a2 a3 a4 a5 a6 a7 a8 a9 a10 a11 a12 a13 a14 a15 → (∀ (b1 : A1) (b2 : A2) (b3 : A3) (b4 : A4) (b5 : A5) (b6 : A6) (b7 : A7) (b8 : A8) (b9 : A9) (b10 : A10) (b11 : A11) (b12 : A12) (b13 : A13) (b14 : A14) (b15 : A15), I b1 b2 b3 b4 b5 b6 b7 b8 b9 b10 b11 b12 b13 b14 b15 → μ b1 b2 b3 b4 b5 b6 b7 b8 b9 b10 b11 b12 b13 b14 b15 < μ a1 a2 a3 a4 a5 a6 a7 a8 a9 a10 a11 a12 a13 a14 a15 → W n b1 b2 b3 b4 b5 b6 b7 b8 b9 b10 b11 b12 b13 b14 b15) → W (n + 1) a1 a2 a3 a4 a5 a6 a7 a8 a9 a10 a11 a12 a13 a14 a15) (a1 : A1) (a2 : A2) (a3 : A3) (a4 : A4) (a5 : A5) (a6 : A6) (a7 : A7) (a8 : A8) (a9 : A9) (a10 : A10) (a11 : A11) (a12 : A12) (a13 : A13) (a14 : A14) (a15 : A15) (h : I a1 a2 a3 a4 a5 a6 a7 a8 a9 a10 a11 a12 a13 a14 a15) : ∃ n, W n a1 a2 a3 a4 a5 a6 a7 a8 a9 a10 a11 a12 a13 a14 a15 :=
  loop_m (σ := A1 × A2 × A3 × A4 × A5 × A6 × A7 × A8 × A9 × A10 × A11 × A12 × A13 × A14 × A15) (fun n s => W n s.1 s.2.1 s.2.2.1 s.2.2.2.1 s.2.2.2.2.1 s.2.2.2.2.2.1 s.2.2.2.2.2.2.1 s.2.2.2.2.2.2.2.1 s.2.2.2.2.2.2.2.2.1 s.2.2.2.2.2.2.2.2.2.1 s.2.2.2.2.2.2.2.2.2.2.1 s.2.2.2.2.2.2.2.2.2.2.2.1 s.2.2.2.2.2.2.2.2.2.2.2.2.1 s.2.2.2.2.2.2.2.2.2.2.2.2.2.1 s.2.2.2.2.2.2.2.2.2.2.2.2.2.2) (fun s => I s.1 s.2.1 s.2.2.1 s.2.2.2.1 s.2.2.2.2.1 s.2.2.2.2.2.1 s.2.2.2.2.2.2.1 s.2.2.2.2.2.2.2.1 s.2.2.2.2.2.2.2.2.1 s.2.2.2.2.2.2.2.2.2.1 s.2.2.2.2.2.2.2.2.2.2.1 s.2.2.2.2.2.2.2.2.2.2.2.1 s.2.2.2.2.2.2.2.2.2.2.2.2.1 s.2.2.2.2.2.2.2.2.2.2.2.2.2.1 s.2.2.2.2.2.2.2.2.2.2.2.2.2.2) (fun s => μ s.1 s.2.1 s.2.2.1 s.2.2.2.1 s.2.2.2.2.1 s.2.2.2.2.2.1 s.2.2.2.2.2.2.1 s.2.2.2.2.2.2.2.1 s.2.2.2.2.2.2.2.2.1 s.2.2.2.2.2.2.2.2.2.1 s.2.2.2.2.2.2.2.2.2.2.1 s.2.2.2.2.2.2.2.2.2.2.2.1 s.2.2.2.2.2.2.2.2.2.2.2.2.1 s.2.2.2.2.2.2.2.2.2.2.2.2.2.1 s.2.2.2.2.2.2.2.2.2.2.2.2.2.2) (fun n s hI hk => hs n s.1 s.2.1 s.2.2.1 s.2.2.2.1 s.2.2.2.2.1 s.2.2.2.2.2.1 s.2.2.2.2.2.2.1 s.2.2.2.2.2.2.2.1 s.2.2.2.2.2.2.2.2.1 s.2.2.2.2.2.2.2.2.2.1 s.2.2.2.2.2.2.2.2.2.2.1 s.2.2.2.2.2.2.2.2.2.2.2.1 s.2.2.2.2.2.2.2.2.2.2.2.2.1 s.2.2.2.2.2.2.2.2.2.2.2.2.2.1 s.2.2.2.2.2.2.2.2.2.2.2.2.2.2 hI (fun b1 b2 b3 b4 b5 b6 b7 b8 b9 b10 b11 b12 b13 b14 b15 h9 hm => hk (b1, b2, b3, b4, b5, b6, b7, b8, b9, b10, b11, b12, b13, b14, b15) h9 hm)) (a1, a2, a3, a4, a5, a6, a7, a8, a9, a10, a11, a12, a13, a14, a15) h
theorem lp16 {A1 A2 A3 A4 A5 A6 A7 A8 A9 A10 A11 A12 A13 A14 A15 A16 : Type} (W : Nat → A1 → A2 → A3 → A4 → A5 → A6 → A7 → A8 → A9 → A10 → A11 → A12 → A13 → A14 → A15 → A16 → Prop) (I : A1 → A2 → A3 → A4 → A5 → A6 → A7 → A8 → A9 → A10 → A11 → A12 → A13 → A14 → A15 → A16 → Prop) (μ : A1 → A2 → A3 → A4 → A5 → A6 → A7 → A8 → A9 → A10 → A11 → A12 → A13 → A14 → A15 → A16 → Nat) (hs : ∀ (n : Nat) (a1 : A1) (a2 : A2) (a3 : A3) (a4 : A4) (a5 : A5) (a6 : A6) (a7 : A7) (a8 : A8) (a9 : A9) (a10 : A10) (a11 : A11) (a12 : A12) (a13 : A13) (a14 : A14) (a15 : A15) (a16 : A16), I a1 a2 a3 a4 a5 a6 a7 a8 a9 a10 a11 a12 a13 a14 a15 a16 → (∀ (b1 : A1) (b2 : A2) (b3 : A3) (b4 : A4) (b5 : A5) (b6 : A6) (b7 : A7) (b8 : A8) (b9 : A9) (b10 : A10) (b11 : A11) (b12 : A12) (b13 : A13) (b14 : A14) (b15 : A15) (b16 : A16), I b1 b2 b3 b4 b5 b6 b7 b8 b9 b10 b11 b12 b13 b14 b15 b16 → μ b1 b2 b3 b4 b5 b6 b7 b8 b9 b10 b11 b12 b13 b14 b15 b16 < μ a1 a2 a3 a4 a5 a6 a7 a8 a9 a10 a11 a12 a13 a14 a15 a16 → W n b1 b2 b3 b4 b5 b6 b7 b8 b9 b10 b11 b12 b13 b14 b15 b16) → W (n + 1) a1 a2 a3 a4 a5 a6 a7 a8 a9 a10 a11 a12 a13 a14 a15 a16) (a1 : A1) (a2 : A2) (a3 : A3) (a4 : A4) (a5 : A5) (a6 : A6) (a7 : A7) (a8 : A8) (a9 : A9) (a10 : A10) (a11 : A11) (a12 : A12) (a13 : A13) (a14 : A14) (a15 : A15) (a16 : A16) (h : I a1 a2 a3 a4 a5 a6 a7 a8 a9 a10 a11 a12 a13 a14 a15 a16) : ∃ n, W n a1 a2 a3 a4 a5 a6 a7 a8 a9 a10 a11 a12 a13 a14 a15 a16 :=
  loop_m (σ := A1 × A2 × A3 × A4 × A5 × A6 × A7 × A8 × A9 × A10 × A11 × A12 × A13 × A14 × A15 × A16) (fun n s => W n s.1 s.2.1 s.2.2.1 s.2.2.2.1 s.2.2.2.2.1 s.2.2.2.2.2.1 s.2.2.2.2.2.2.1 s.2.2.2.2.2.2.2.1 s.2.2.2.2.2.2.2.2.1 s.2.2.2.2.2.2.2.2.2.1 s.2.2.2.2.2.2.2.2.2.2.1 s.2.2.2.2.2.2.2.2.2.2.2.1 s.2.2.2.2.2.2.2.2.2.2.2.2.1 s.2.2.2.2.2.2.2.2.2.2.2.2.2.1 s.2.2.2.2.2.2.2.2.2.2.2.2.2.2.1 s.2.2.2.2.2.2.2.2.2.2.2.2.2.2.2) (fun s => I s.1 s.2.1 s.2.2.1 s.2.2.2.1 s.2.2.2.2.1 s.2.2.2.2.2.1 s.2.2.2.2.2.2.1 s.2.2.2.2.2.2.2.1 s.2.2.2.2.2.2.2.2.1 s.2.2.2.2.2.2.2.2.2.1 s.2.2.2.2.2.2.2.2.2.2.1 s.2.2.2.2.2.2.2.2.2.2.2.1 s.2.2.2.2.2.2.2.2.2.2.2.2.1 s.2.2.2.2.2.2.2.2.2.2.2.2.2.1 s.2.2.2.2.2.2.2.2.2.2.2.2.2.2.1 s.2.2.2.2.2.2.2.2.2.2.2.2.2.2.2) (fun s => μ s.1 s.2.1 s.2.2.1 s.2.2.2.1 s.2.2.2.2.1 s.2.2.2.2.2.1 s.2.2.2.2.2.2.1 s.2.2.2.2.2.2.2.1 s.2.2.2.2.2.2.2.2.1 s.2.2.2.2.2.2.2.2.2.1 s.2.2.2.2.2.2.2.2.2.2.1 s.2.2.2.2.2.2.2.2.2.2.2.1 s.2.2.2.2.2.2.2.2.2.2.2.2.1 s.2.2.2.2.2.2.2.2.2.2.2.2.2.1 s.2.2.2.2.2.2.2.2.2.2.2.2.2.2.1 s.2.2.2.2.2.2.2.2.2.2.2.2.2.2.2) (fun n s hI hk => hs n s.1 s.2.1 s.2.2.1 s.2.2.2.1 s.2.2.2.2.1 s.2.2.2.2.2.1 s.2.2.2.2.2.2.1 s.2.2.2.2.2.2.2.1 s.2.2.2.2.2.2.2.2.1 s.2.2.2.2.2.2.2.2.2.1 s.2.2.2.2.2.2.2.2.2.2.1 s.2.2.2.2.2.2.2.2.2.2.2.1 s.2.2.2.2.2.2.2.2.2.2.2.2.1 s.2.2.2.2.2.2.2.2.2.2.2.2.2.1 s.2.2.2.2.2.2.2.2.2.2.2.2.2.2.1 s.2.2.2.2.2.2.2.2.2.2.2.2.2.2.2 hI (fun b1 b2 b3 b4 b5 b6 b7 b8 b9 b10 b11 b12 b13 b14 b15 b16 h9 hm => hk (b1, b2, b3, b4, b5, b6, b7, b8, b9, b10, b11, b12, b13, b14, b15, b16) h9 hm)) (a1, a2, a3, a4, a5, a6, a7, a8, a9, a10, a11, a12, a13, a14, a15, a16) h
theorem pk_least (P : Nat → Prop) (h : ∃ k, P k) : ∃ k, P k ∧ ∀ j, j < k → ¬ P j := by
  obtain ⟨k, hk⟩ := h
  induction k using Nat.strongRecOn with
  | ind k ih =>
    by_cases e : ∃ j, j < k ∧ P j
    · obtain ⟨j, hj, pj⟩ := e
      exact ih j hj pj
    · exact ⟨k, hk, fun j hj pj => e ⟨j, hj, pj⟩⟩
theorem rp1 {ρ A1 : Type} (W : Nat → (ρ → Prop) → A1 → Prop) (ok : A1 → Prop) (μ : A1 → Nat) (val : A1 → ρ)
    (hs : ∀ (d : Nat) (post : ρ → Prop) (a1 : A1), ok a1 → post (val a1) → (∀ (post' : ρ → Prop) (b1 : A1), ok b1 → μ b1 < μ a1 → post' (val b1) → W d post' b1) → W (d + 1) post a1) :
    ∀ (d : Nat) (post : ρ → Prop) (a1 : A1), ok a1 → μ a1 < d → post (val a1) → W d post a1 := by
  intro d
  induction d with
  | zero => intro post a1 _ h; omega
  | succ d ih =>
    intro post a1 ho hm hp
    exact hs d post a1 ho hp (fun post' b1 ho' hm' hp' => ih post' b1 ho' (by omega) hp')
theorem rp2 {ρ A1 A2 : Type} (W : Nat → (ρ → Prop) → A1 → A2 → Prop) (ok : A1 → A2 → Prop) (μ : A1 → A2 → Nat) (val : A1 → A2 → ρ)
    (hs : ∀ (d : Nat) (post : ρ → Prop) (a1 : A1) (a2 : A2), ok a1 a2 → post (val a1 a2) → (∀ (post' : ρ → Prop) (b1 : A1) (b2 : A2), ok b1 b2 → μ b1 b2 < μ a1 a2 → post' (val b1 b2) → W d post' b1 b2) → W (d + 1) post a1 a2) :
    ∀ (d : Nat) (post : ρ → Prop) (a1 : A1) (a2 : A2), ok a1 a2 → μ a1 a2 < d → post (val a1 a2) → W d post a1 a2 := by
  intro d
  induction d with
  | zero => intro post a1 a2 _ h; omega
  | succ d ih =>
    intro post a1 a2 ho hm hp
    exact hs d post a1 a2 ho hp (fun post' b1 b2 ho' hm' hp' => ih post' b1 b2 ho' (by omega) hp')
theorem rp3 {ρ A1 A2 A3 : Type} (W : Nat → (ρ → Prop) → A1 → A2 → A3 → Prop) (ok : A1 → A2 → A3 → Prop) (μ : A1 → A2 → A3 → Nat) (val : A1 → A2 → A3 → ρ)
    (hs : ∀ (d : Nat) (post : ρ → Prop) (a1 : A1) (a2 : A2) (a3 : A3), ok a1 a2 a3 → post (val a1 a2 a3) → (∀ (post' : ρ → Prop) (b1 : A1) (b2 : A2) (b3 : A3), ok b1 b2 b3 → μ b1 b2 b3 < μ a1 a2 a3 → post' (val b1 b2 b3) → W d post' b1 b2 b3) → W (d + 1) post a1 a2 a3) :
    ∀ (d : Nat) (post : ρ → Prop) (a1 : A1) (a2 : A2) (a3 : A3), ok a1 a2 a3 → μ a1 a2 a3 < d → post (val a1 a2 a3) → W d post a1 a2 a3 := by
  intro d
  induction d with
  | zero => intro post a1 a2 a3 _ h; omega
  | succ d ih =>
    intro post a1 a2 a3 ho hm hp
    exact hs d post a1 a2 a3 ho hp (fun post' b1 b2 b3 ho' hm' hp' => ih post' b1 b2 b3 ho' (by omega) hp')
theorem rp4 {ρ A1 A2 A3 A4 : Type} (W : Nat → (ρ → Prop) → A1 → A2 → A3 → A4 → Prop) (ok : A1 → A2 → A3 → A4 → Prop) (μ : A1 → A2 → A3 → A4 → Nat) (val : A1 → A2 → A3 → A4 → ρ)
    (hs : ∀ (d : Nat) (post : ρ → Prop) (a1 : A1) (a2 : A2) (a3 : A3) (a4 : A4), ok a1 a2 a3 a4 → post (val a1 a2 a3 a4) → (∀ (post' : ρ → Prop) (b1 : A1) (b2 : A2) (b3 : A3) (b4 : A4), ok b1 b2 b3 b4 → μ b1 b2 b3 b4 < μ a1 a2 a3 a4 → post' (val b1 b2 b3 b4) → W d post' b1 b2 b3 b4) → W (d + 1) post a1 a2 a3 a4) :
    ∀ (d : Nat) (post : ρ → Prop) (a1 : A1) (a2 : A2) (a3 : A3) (a4 : A4), ok a1 a2 a3 a4 → μ a1 a2 a3 a4 < d → post (val a1 a2 a3 a4) → W d post a1 a2 a3 a4 := by
  intro d
  induction d with
  | zero => intro post a1 a2 a3 a4 _ h; omega
  | succ d ih =>
    intro post a1 a2 a3 a4 ho hm hp
    exact hs d post a1 a2 a3 a4 ho hp (fun post' b1 b2 b3 b4 ho' hm' hp' => ih post' b1 b2 b3 b4 ho' (by omega) hp')
theorem rp5 {ρ A1 A2 A3 A4 A5 : Type} (W : Nat → (ρ → Prop) → A1 → A2 → A3 → A4 → A5 → Prop) (ok : A1 → A2 → A3 → A4 → A5 → Prop) (μ : A1 → A2 → A3 → A4 → A5 → Nat) (val : A1 → A2 → A3 → A4 → A5 → ρ)
    (hs : ∀ (d : Nat) (post : ρ → Prop) (a1 : A1) (a2 : A2) (a3 : A3) (a4 : A4) (a5 : A5), ok a1 a2 a3 a4 a5 → post (val a1 a2 a3 a4 a5) → (∀ (post' : ρ → Prop) (b1 : A1) (b2 : A2) (b3 : A3) (b4 : A4) (b5 : A5), ok b1 b2 b3 b4 b5 → μ b1 b2 b3 b4 b5 < μ a1 a2 a3 a4 a5 → post' (val b1 b2 b3 b4 b5) → W d post' b1 b2 b3 b4 b5) → W (d + 1) post a1 a2 a3 a4 a5) :
    ∀ (d : Nat) (post : ρ → Prop) (a1 : A1) (a2 : A2) (a3 : A3) (a4 : A4) (a5 : A5), ok a1 a2 a3 a4 a5 → μ a1 a2 a3 a4 a5 < d → post (val a1 a2 a3 a4 a5) → W d post a1 a2 a3 a4 a5 := by
  intro d
  induction d with
  | zero => intro post a1 a2 a3 a4 a5 _ h; omega
  | succ d ih =>
    intro post a1 a2 a3 a4 a5 ho hm hp
    exact hs d post a1 a2 a3 a4 a5 ho hp (fun post' b1 b2 b3 b4 b5 ho' hm' hp' => ih post' b1 b2 b3 b4 b5 ho' (by omega) hp')
theorem rp6 {ρ A1 A2 A3 A4 A5 A6 : Type} (W : Nat → (ρ → Prop) → A1 → A2 → A3 → A4 → A5 → A6 → Prop) (ok : A1 → A2 → A3 → A4 → A5 → A6 → Prop) (μ : A1 → A2 → A3 → A4 → A5 → A6 → Nat) (val : A1 → A2 → A3 → A4 → A5 → A6 → ρ)
    (hs : ∀ (d : Nat) (post : ρ → Prop) (a1 : A1) (a2 : A2) (a3 : A3) (a4 : A4) (a5 : A5) (a6 : A6), ok a1 a2 a3 a4 a5 a6 → post (val a1 a2 a3 a4 a5 a6) → (∀ (post' : ρ → Prop) (b1 : A1) (b2 : A2) (b3 : A3) (b4 : A4) (b5 : A5) (b6 : A6), ok b1 b2 b3 b4 b5 b6 → μ b1 b2 b3 b4 b5 b6 < μ a1 a2 a3 a4 a5 a6 → post' (val b1 b2 b3 b4 b5 b6) → W d post' b1 b2 b3 b4 b5 b6) → W (d + 1) post a1 a2 a3 a4 a5 a6) :
    ∀ (d : Nat) (post : ρ → Prop) (a1 : A1) (a2 : A2) (a3 : A3) (a4 : A4) (a5 : A5) (a6 : A6), ok a1 a2 a3 a4 a5 a6 → μ a1 a2 a3 a4 a5 a6 < d → post (val a1 a2 a3 a4 a5 a6) → W d post a1 a2 a3 a4 a5 a6 := by
  intro d
  induction d with
  | zero => intro post a1 a2 a3 a4 a5 a6 _ h; omega
  | succ d ih =>
    intro post a1 a2 a3 a4 a5 a6 ho hm hp
    exact hs d post a1 a2 a3 a4 a5 a6 ho hp (fun post' b1 b2 b3 b4 b5 b6 ho' hm' hp' => ih post' b1 b2 b3 b4 b5 b6 ho' (by omega) hp')
theorem rec_p {σ ρ : Type} (W : Nat → (ρ → Prop) → σ → Prop) (ok : σ → Prop) (μ : σ → Nat) (val : σ → ρ)
    (hs : ∀ d s post, ok s → post (val s) → (∀ s' post', ok s' → μ s' < μ s → post' (val s') → W d post' s') → W (d + 1) post s) :
    ∀ d s post, ok s → μ s < d → post (val s) → W d post s := by
  intro d
  induction d with
  | zero => intro s post _ h; omega
  | succ d ih =>
    intro s post ho hm hp
    exact hs d s post ho hp (fun s' post' ho' hm' hp' => ih s' post' ho' (by omega) hp')
theorem rec_q {σ ρ : Type} (W : Nat → (ρ → Prop) → σ → Prop) (ok : σ → Prop) (μ : σ → Nat) (Q : σ → ρ → Prop)
    (hs : ∀ d s post, ok s → (∀ r, Q s r → post r) → (∀ s' post', ok s' → μ s' < μ s → (∀ r, Q s' r → post' r) → W d post' s') → W (d + 1) post s) :
    ∀ d s post, ok s → μ s < d → (∀ r, Q s r → post r) → W d post s := by
  intro d
  induction d with
  | zero => intro s post _ h; omega
  | succ d ih =>
    intro s post ho hm hp
    exact hs d s post ho hp (fun s' post' ho' hm' hp' => ih s' post' ho' (by omega) hp')
def bx_sum (f : Nat → Int32) : Nat → Int32
  | 0 => 0
  | n + 1 => bx_sum f n + f n
theorem ek_u {A : Prop} {B : Nat → Prop} {k N : Nat} (hk : k < N) (h : B k) : (some k = none → A) ∧ (∀ y : Nat, some k = some y → (y < N ∧ B y)) :=
  ⟨fun z => absurd z (Option.some_ne_none k), fun _ e => (by cases e; exact ⟨hk, h⟩)⟩
theorem ek_nu {A : Prop} {B : Nat → Prop} (h : A) : ((none : Option Nat) = none → A) ∧ (∀ y : Nat, (none : Option Nat) = some y → B y) :=
  ⟨fun _ => h, fun _ e => (by cases e)⟩
theorem ek_if {c d A B : Prop} (e : c ↔ d) (f : d → A) (g : ¬ d → B) : (c → A) ∧ (¬ c → B) :=
  ⟨fun z => f (e.mp z), fun z => g (fun y => z (e.mpr y))⟩
theorem ek_v {α : Sort _} {P : α → Prop} {a b : α} (e : a = b) (h : P b) : P a := e ▸ h
theorem co_some {x : Option Nat} {A : Prop} {B : Nat → Prop} (i : Nat) (h : B i) (hx : x = some i := by rfl) : (x = none → A) ∧ (∀ y : Nat, x = some y → B y) := by
  subst hx
  exact ⟨fun e => (nomatch e), fun y e => Option.some.inj e ▸ h⟩
theorem co_none {x : Option Nat} {A : Prop} {B : Nat → Prop} (h : A) (hx : x = none := by rfl) : (x = none → A) ∧ (∀ y : Nat, x = some y → B y) := by
  subst hx
  exact ⟨fun _ => h, fun y e => (nomatch e)⟩
theorem co_any {x : Option Nat} {A : Prop} {B : Nat → Prop} (hn : x = none → A) (hs : ∀ i : Nat, x = some i → B i) : (x = none → A) ∧ (∀ y : Nat, x = some y → B y) := ⟨hn, hs⟩
theorem co_2 {P : Nat → Prop} (h0 : P 0) (h1 : P 1) {i : Nat} (hi : i < 2) : P i :=
  match i, hi with
  | 0, _ => h0
  | 1, _ => h1
theorem co_3 {P : Nat → Prop} (h0 : P 0) (h1 : P 1) (h2 : P 2) {i : Nat} (hi : i < 3) : P i :=
  match i, hi with
  | 0, _ => h0
  | 1, _ => h1
  | 2, _ => h2
theorem co_4 {P : Nat → Prop} (h0 : P 0) (h1 : P 1) (h2 : P 2) (h3 : P 3) {i : Nat} (hi : i < 4) : P i :=
  match i, hi with
  | 0, _ => h0
  | 1, _ => h1
  | 2, _ => h2
  | 3, _ => h3
theorem co_dec {N : Nat} {P : Nat → Prop} [DecidablePred P] (h : (List.range N).all (fun i => decide (P i)) = true) {i : Nat} (hi : i < N) : P i := by
  have := List.all_eq_true.mp h i (List.mem_range.mpr hi)
  exact of_decide_eq_true this
theorem co_tab {α : Type} {l : List α} {d : α} {P : α → Prop} (h : ∀ a, a ∈ l → P a) {i : Nat} (hi : i < l.length) : P (l.getD i d) := by
  rw [List.getD_eq_getElem?_getD, List.getElem?_eq_getElem hi]
  exact h _ (List.getElem_mem hi)
theorem pk_mu {x : Int32} {L : Nat} (h0 : ¬ x < 0) (h : ¬ nI L ≤ x) (hL : L < 2 ^ 31) : ∃ j : Nat, j < L ∧ x = nI j ∧ x + 1 = nI (j + 1) ∧ x.toNatClampNeg = j ∧ L - (x + 1).toNatClampNeg < L - x.toNatClampNeg := by
  obtain ⟨j, hj, rfl⟩ := nI_of h0
  have hl : j < L := Nat.not_le.mp fun q => h (nI_le q hj)
  refine ⟨j, hl, rfl, nI_1 j, nI_clamp hj, ?_⟩
  rw [nI_1, nI_clamp (by omega), nI_clamp hj]
  omega
theorem op_s {α : Type} {r : Option α} {A : Prop} {B : α → Prop} {y : α} (h : r = some y) (b : B y) : (r = none → A) ∧ ∀ z, r = some z → B z :=
  ⟨fun e => (by rw [h] at e; cases e), fun z e => (by rw [h] at e; cases e; exact b)⟩
def l_holds {α : Type} (a : Nat → Option Nat) (LP : List Nat) (p : Nat → α) (c : Nat) (b : Nat → α) : Prop :=
  ∀ j, j < c → ∃ y, a j = some y ∧ y ∈ LP ∧ p y = b j
theorem l_holds_0 {α : Type} {a : Nat → Option Nat} {LP : List Nat} {p b : Nat → α} : l_holds a LP p 0 b := fun j h => absurd h (Nat.not_lt_zero j)
theorem l_in_new (LP : List Nat) (q : Nat) : q ∈ LP ++ [q] := List.mem_append.mpr (Or.inr (List.mem_singleton.mpr rfl))
def l_sum (b : Nat → Int32) : Nat → Int32
  | 0 => 0
  | k + 1 => l_sum b k + b k
theorem sb_shr0 (x : Int32) : x >>> ((0 : Int32) &&& 31) = x := by
  rw [show ((0 : Int32) &&& 31) = 0 by decide]
  simp
theorem sb_shl0 (x : Int32) : x <<< ((0 : Int32) &&& 31) = x := by
  rw [show ((0 : Int32) &&& 31) = 0 by decide]
  simp
theorem sb_cl0 : (0 : Int32).toNatClampNeg = 0 := by decide
theorem sb_m1 {p : Nat} (h : 0 < p) : nI p + (-1) = nI (p - 1) := by
  obtain ⟨q, rfl⟩ : ∃ q, p = q + 1 := ⟨p - 1, by omega⟩
  exact pk_m1 q
def sb_b (c : Nat) : Int32 := (nI c).toInt8.toInt32
theorem sb_byte : ∀ c, c < 256 → sb_b c &&& 255 = nI c ∧ ((nI c).toUInt32 % 65536).toInt32 = nI c ∧ nI c ≤ 255 := by decide +kernel
def sb_Fit (a : Nat → Int32) : Prop := ∀ j, fits .byte (.int (a j)) = true
def sb_Lat (t : Nat → Nat) (n : Nat) (a : Nat → Int32) : Prop := ∀ j, j < n → t j < 256 ∧ a j = sb_b (t j)
theorem sb_fitB (c : Nat) : fits .byte (.int (sb_b c)) = true := pk_fb _
theorem sb_fit0 : sb_Fit (fun _ => 0) := fun _ => by
  show fits .byte (.int 0) = true
  decide
theorem sb_fitU {a : Nat → Int32} {k : Nat} {x : Int32} (h : sb_Fit a) (hx : fits .byte (.int x) = true) : sb_Fit (upd a k x) := by
  intro j
  by_cases e : j = k
  · subst e
    rw [pk_us]
    exact hx
  · rw [pk_un e]
    exact h j
def sb_cat (t : Nat → Nat) (n : Nat) (s : Nat → Nat) : Nat → Nat := fun j => if j < n then t j else s (j - n)
theorem sb_cat_lo {t s : Nat → Nat} {n j : Nat} (h : j < n) : sb_cat t n s j = t j := if_pos h
theorem sb_cat_hi {t s : Nat → Nat} {n j : Nat} : sb_cat t n s (n + j) = s j := by
  show (if n + j < n then t (n + j) else s (n + j - n)) = s j
  rw [if_neg (by omega), Nat.add_sub_cancel_left]
theorem sb_latPut {t s : Nat → Nat} {n w : Nat} {a a' : Nat → Int32} (h : sb_Lat t n a) (hk : ∀ j, j < n → a' j = a j) (hs : ∀ i, i < w → s i < 256 ∧ a' (n + i) = sb_b (s i)) : sb_Lat (sb_cat t n s) (n + w) a' := by
  intro j hj
  by_cases e : j < n
  · rw [sb_cat_lo e, hk j e]
    exact h j e
  · obtain ⟨i, rfl⟩ : ∃ i, j = n + i := ⟨j - n, by omega⟩
    rw [sb_cat_hi]
    exact hs i (by omega)
theorem sb_latKeep {t : Nat → Nat} {n : Nat} {a a' : Nat → Int32} (h : sb_Lat t n a) (hk : ∀ j, j < n → a' j = a j) : sb_Lat t n a' := fun j hj => by
  rw [hk j hj]
  exact h j hj
def sb_cap (q m : Nat) : Nat := if q ≤ m then m else if 2 * m + 2 < q then q else 2 * m + 2
def sb_Room (q m mc ms : Nat) : Prop := q ≤ m ∨ (1 ≤ mc ∧ sb_cap q m ≤ ms ∧ sb_cap q m ≤ 65536)
theorem sb_cap_ge (q m : Nat) : q ≤ sb_cap q m := by
  unfold sb_cap
  split
  · omega
  · split <;> omega
theorem sb_cap_gem (q m : Nat) : m ≤ sb_cap q m := by
  unfold sb_cap
  split
  · omega
  · split <;> omega
theorem sb_cap_le {q m mc ms : Nat} (hm : m ≤ 65536) (hr : sb_Room q m mc ms) : sb_cap q m ≤ 65536 := by
  rcases hr with h | h
  · rw [sb_cap, if_pos h]
    exact hm
  · exact h.2.2
theorem sb_at {P : Int32 → Prop} {x y : Int32} (e : x = y) (h : P y) : P x := e ▸ h
def sb_dg (w : Nat) : Nat := if w < 10 then 1 else if w < 100 then 2 else if w < 1000 then 3 else if w < 10000 then 4 else if w < 100000 then 5 else if w < 1000000 then 6 else if w < 10000000 then 7 else if w < 100000000 then 8 else if w < 1000000000 then 9 else 10
def sb_dec (v : Nat) : Nat → Nat := fun i => 48 + v / 10 ^ (sb_dg v - 1 - i) % 10
theorem sb_dg_in (w : Nat) : 1 ≤ sb_dg w ∧ sb_dg w ≤ 10 := by
  unfold sb_dg
  constructor <;> (repeat' split) <;> omega
theorem sb_dg100 {w : Nat} (h : 100 ≤ w) (hw : w < 2 ^ 31) : sb_dg w = sb_dg (w / 100) + 2 := by
  rw [sb_dg, sb_dg, if_neg (show ¬ w < 10 by omega), if_neg (show ¬ w < 100 by omega)]
  by_cases h3 : w < 1000
  · rw [if_pos h3, if_pos (show w / 100 < 10 by omega)]
  rw [if_neg h3, if_neg (show ¬ w / 100 < 10 by omega)]
  by_cases h4 : w < 10000
  · rw [if_pos h4, if_pos (show w / 100 < 100 by omega)]
  rw [if_neg h4, if_neg (show ¬ w / 100 < 100 by omega)]
  by_cases h5 : w < 100000
  · rw [if_pos h5, if_pos (show w / 100 < 1000 by omega)]
  rw [if_neg h5, if_neg (show ¬ w / 100 < 1000 by omega)]
  by_cases h6 : w < 1000000
  · rw [if_pos h6, if_pos (show w / 100 < 10000 by omega)]
  rw [if_neg h6, if_neg (show ¬ w / 100 < 10000 by omega)]
  by_cases h7 : w < 10000000
  · rw [if_pos h7, if_pos (show w / 100 < 100000 by omega)]
  rw [if_neg h7, if_neg (show ¬ w / 100 < 100000 by omega)]
  by_cases h8 : w < 100000000
  · rw [if_pos h8, if_pos (show w / 100 < 1000000 by omega)]
  rw [if_neg h8, if_neg (show ¬ w / 100 < 1000000 by omega)]
  by_cases h9 : w < 1000000000
  · rw [if_pos h9, if_pos (show w / 100 < 10000000 by omega)]
  rw [if_neg h9, if_neg (show ¬ w / 100 < 10000000 by omega)]
  rw [if_pos (show w / 100 < 100000000 by omega)]
theorem sb_negT {w : Nat} (h : w < 2 ^ 31) : (-nI w).toInt = -(w : Int) := by
  rw [Int32.toInt_neg, nI_toInt h]
  exact Int.bmod_eq_of_le (by omega) (by omega)
theorem sb_nle {a b : Nat} (ha : a < 2 ^ 31) (hb : b < 2 ^ 31) : -nI a ≤ -nI b ↔ b ≤ a := by
  rw [Int32.le_iff_toInt_le, sb_negT ha, sb_negT hb]
  omega
theorem sb_nlt {a b : Nat} (ha : a < 2 ^ 31) (hb : b < 2 ^ 31) : -nI a < -nI b ↔ b < a := by
  rw [Int32.lt_iff_toInt_lt, sb_negT ha, sb_negT hb]
  omega
theorem sb_cmp {A B : Prop} {x : Int32} (v c : Nat) (f : c ≤ v → A) (g : v < c → B) (hv : v < 2 ^ 31) (hx : x = -nI c := by rfl) (hc : c < 2 ^ 31 := by omega) : (-nI v ≤ x → A) ∧ (¬ -nI v ≤ x → B) := by
  subst hx
  rw [sb_nle hv hc]
  exact ⟨f, fun z => g (by omega)⟩
theorem sb_ndiv {w : Nat} (hw : w < 2 ^ 31) : (-nI w) / 100 = -nI (w / 100) := by
  apply Int32.toInt_inj.mp
  have h100 : (100 : Int32).toInt = 100 := by decide
  rw [Int32.toInt_div, sb_negT hw, h100, sb_negT (by omega), Int.neg_tdiv, Int.tdiv_eq_ediv_of_nonneg (by omega), Int.bmod_eq_of_le (by omega) (by omega)]
  omega
theorem sb_nrem {w : Nat} (hw : w < 2 ^ 31) : (-nI (w / 100)) * 100 - (-nI w) = nI (w % 100) := by
  have h := pk_rem (a := w) (d := 100) hw (by decide) (by decide)
  rw [pk_div hw (by decide) (by decide)] at h
  rw [← h]
  show (-nI (w / 100)) * nI 100 - (-nI w) = nI w - nI (w / 100) * nI 100
  rw [Int32.neg_mul, Int32.sub_neg, Int32.add_comm, ← Int32.sub_eq_add_neg]
end
section
/-! rows on bits, shifts and unsigned numbers, to paste: each family out of a closed proof of our own, whole with what it rests on; each by itself clean at Lean in its own claim (generation 39, form 5). Take a family whole -/
/-! ===== Int32 by its bits: bt x i ===== -/
def bt (x : Int32) (i : Nat) : Bool := x.toBitVec.getLsbD i
theorem b_ext {x y : Int32} (h : ∀ i, i < 32 → bt x i = bt y i) : x = y := Int32.toBitVec_inj.mp (BitVec.eq_of_getLsbD_eq (fun i hi => h i hi))
theorem b_or (x y : Int32) (i : Nat) : bt (x ||| y) i = (bt x i || bt y i) := by unfold bt; rw [Int32.toBitVec_or, BitVec.getLsbD_or]
theorem b_and (x y : Int32) (i : Nat) : bt (x &&& y) i = (bt x i && bt y i) := by unfold bt; rw [Int32.toBitVec_and, BitVec.getLsbD_and]
theorem b_xor (x y : Int32) (i : Nat) : bt (x ^^^ y) i = (bt x i ^^ bt y i) := by unfold bt; rw [Int32.toBitVec_xor, BitVec.getLsbD_xor]
theorem b_big {x : Int32} {i : Nat} (h : 32 ≤ i) : bt x i = false := BitVec.getLsbD_of_ge _ _ h
theorem b_255 (i : Nat) : bt 255 i = decide (i < 8) := by
  rcases Nat.lt_or_ge i 32 with h | h
  · exact (by decide +kernel : ∀ i, i < 32 → bt 255 i = decide (i < 8)) i h
  · rw [b_big h, decide_eq_false (by omega)]
theorem b_65535 (i : Nat) : bt 65535 i = decide (i < 16) := by
  rcases Nat.lt_or_ge i 32 with h | h
  · exact (by decide +kernel : ∀ i, i < 32 → bt 65535 i = decide (i < 16)) i h
  · rw [b_big h, decide_eq_false (by omega)]
theorem b_m1 : ∀ i, i < 32 → bt (-1) i = true := by decide +kernel
theorem b_0 (i : Nat) : bt 0 i = false := BitVec.getLsbD_zero
theorem s_l : ∀ n, n < 32 → ((nI n &&& 31).toBitVec.smod 32).toNat = n := by decide +kernel
theorem s_u : ∀ n, n < 32 → (((nI n).toUInt32 &&& Int32.toUInt32 31).toBitVec % 32).toNat = n := by decide +kernel
theorem b_shl (n : Nat) (hn : n < 32) (x : Int32) {i : Nat} (hi : i < 32) : bt (x <<< (nI n &&& 31)) i = (decide (n ≤ i) && bt x (i - n)) := by
  unfold bt
  rw [Int32.toBitVec_shiftLeft]
  show (x.toBitVec <<< ((nI n &&& 31).toBitVec.smod 32).toNat).getLsbD i = _
  rw [s_l n hn, BitVec.getLsbD_shiftLeft]
  rcases Nat.lt_or_ge i n with h | h
  · simp [h, Nat.not_le.mpr h]
  · simp [hi, h, Nat.not_lt.mpr h]
theorem b_ushr (n : Nat) (hn : n < 32) (x : Int32) (i : Nat) : bt ((x.toUInt32 >>> ((nI n).toUInt32 &&& Int32.toUInt32 31)).toInt32) i = bt x (n + i) := by
  show (x.toUInt32 >>> ((nI n).toUInt32 &&& Int32.toUInt32 31)).toBitVec.getLsbD i = x.toUInt32.toBitVec.getLsbD (n + i)
  rw [UInt32.toBitVec_shiftRight]
  show (x.toUInt32.toBitVec >>> (((nI n).toUInt32 &&& Int32.toUInt32 31).toBitVec % 32).toNat).getLsbD i = _
  rw [s_u n hn, BitVec.getLsbD_ushiftRight]
theorem b_sshr (n : Nat) (hn : n < 32) (x : Int32) {i : Nat} (hi : i < 32) : bt (x >>> (nI n &&& 31)) i = if n + i < 32 then bt x (n + i) else bt x 31 := by
  unfold bt
  rw [Int32.toBitVec_shiftRight]
  show (x.toBitVec.sshiftRight ((nI n &&& 31).toBitVec.smod 32).toNat).getLsbD i = _
  rw [s_l n hn, BitVec.getLsbD_sshiftRight, BitVec.msb_eq_getLsbD_last]
  simp [hi]
theorem b_shl8 (x : Int32) {i : Nat} (hi : i < 32) : bt (x <<< ((8 : Int32) &&& 31)) i = (decide (8 ≤ i) && bt x (i - 8)) := b_shl 8 (by omega) x hi
theorem b_shl16 (x : Int32) {i : Nat} (hi : i < 32) : bt (x <<< ((16 : Int32) &&& 31)) i = (decide (16 ≤ i) && bt x (i - 16)) := b_shl 16 (by omega) x hi
theorem b_shl24 (x : Int32) {i : Nat} (hi : i < 32) : bt (x <<< ((24 : Int32) &&& 31)) i = (decide (24 ≤ i) && bt x (i - 24)) := b_shl 24 (by omega) x hi
theorem b_sshr8 (x : Int32) {i : Nat} (hi : i < 32) : bt (x >>> ((8 : Int32) &&& 31)) i = if 8 + i < 32 then bt x (8 + i) else bt x 31 := b_sshr 8 (by omega) x hi
end
section
/-! sums over an initial part of the naturals, and counts -/
def fl_sm (f : Nat → Nat) : Nat → Nat
  | 0 => 0
  | n + 1 => fl_sm f n + f n
theorem fl_sm_eq {f g : Nat → Nat} : ∀ {n : Nat}, (∀ i, i < n → f i = g i) → fl_sm f n = fl_sm g n
  | 0, _ => rfl
  | n + 1, h => by
    have a := fl_sm_eq (f := f) (g := g) (n := n) (fun i hi => h i (by omega))
    have b := h n (by omega)
    simp only [fl_sm]; omega
theorem fl_sm_le {f g : Nat → Nat} : ∀ {n : Nat}, (∀ i, i < n → f i ≤ g i) → fl_sm f n ≤ fl_sm g n
  | 0, _ => Nat.le_refl _
  | n + 1, h => by
    have a := fl_sm_le (f := f) (g := g) (n := n) (fun i hi => h i (by omega))
    have b := h n (by omega)
    simp only [fl_sm]; omega
theorem fl_sm_at {f g : Nat → Nat} {k : Nat} : ∀ {n : Nat}, (∀ i, i < n → i ≠ k → f i = g i) → k < n → fl_sm f n + g k = fl_sm g n + f k
  | 0, _, h => by omega
  | n + 1, h, hk => by
    simp only [fl_sm]
    rcases Nat.lt_or_ge k n with z | z
    · have a := fl_sm_at (f := f) (g := g) (n := n) (fun i hi => h i (by omega)) z
      have b := h n (by omega) (by omega)
      omega
    · have e : k = n := by omega
      subst e
      have a := fl_sm_eq (f := f) (g := g) (n := k) (fun i hi => h i (by omega) (by omega))
      omega
theorem fl_sm_add (f g : Nat → Nat) : ∀ n, fl_sm (fun i => f i + g i) n = fl_sm f n + fl_sm g n
  | 0 => rfl
  | n + 1 => by
    have := fl_sm_add f g n
    simp only [fl_sm]; omega
theorem fl_sm_const (c : Nat) : ∀ n, fl_sm (fun _ => c) n = n * c
  | 0 => by simp [fl_sm]
  | n + 1 => by
    have := fl_sm_const c n
    simp only [fl_sm, Nat.succ_mul]; omega
theorem fl_sm_app (f : Nat → Nat) (a : Nat) : ∀ b, fl_sm f (a + b) = fl_sm f a + fl_sm (fun j => f (a + j)) b
  | 0 => rfl
  | b + 1 => by
    have := fl_sm_app f a b
    show fl_sm f ((a + b) + 1) = _
    simp only [fl_sm]; omega
theorem fl_sm_split (f : Nat → Nat) (b : Nat) : ∀ a, fl_sm f (b * a) = fl_sm (fun i => fl_sm (fun j => f (b * i + j)) b) a
  | 0 => rfl
  | a + 1 => by
    have := fl_sm_split f b a
    rw [Nat.mul_succ, fl_sm_app, this]
    rfl
theorem fl_sm_swap (f : Nat → Nat → Nat) (b : Nat) : ∀ a, fl_sm (fun i => fl_sm (fun j => f i j) b) a = fl_sm (fun j => fl_sm (fun i => f i j) a) b
  | 0 => by simp only [fl_sm]; rw [fl_sm_const]; omega
  | a + 1 => by
    have := fl_sm_swap f b a
    simp only [fl_sm]
    rw [this, ← fl_sm_add]
theorem fl_sm_tr {f g : Nat → Nat} (h : ∀ e a, e < 12 → a < 6 → f (12 * a + e) = g (6 * e + a)) : fl_sm f 72 = fl_sm g 72 := by
  have e1 : fl_sm f 72 = fl_sm (fun i => fl_sm (fun j => f (12 * i + j)) 12) 6 := fl_sm_split f 12 6
  have e2 : fl_sm g 72 = fl_sm (fun i => fl_sm (fun j => g (6 * i + j)) 6) 12 := fl_sm_split g 6 12
  rw [e1, e2, fl_sm_swap]
  exact fl_sm_eq fun e he => fl_sm_eq fun a ha => h e a he ha
theorem fl_sm_mono (f : Nat → Nat) {a b : Nat} (h : a ≤ b) : fl_sm f a ≤ fl_sm f b := by
  obtain ⟨d, rfl⟩ := Nat.exists_eq_add_of_le h
  rw [fl_sm_app]; omega
/-- 1 for a fact, 0 else -/
noncomputable def fl_b01 (P : Prop) : Nat := @ite Nat P (Classical.propDecidable P) 1 0
theorem fl_b01_t {P : Prop} (h : P) : fl_b01 P = 1 := by unfold fl_b01; rw [if_pos h]
theorem fl_b01_f {P : Prop} (h : ¬ P) : fl_b01 P = 0 := by unfold fl_b01; rw [if_neg h]
theorem fl_b01_le (P : Prop) : fl_b01 P ≤ 1 := by
  rcases Classical.em P with h | h
  · rw [fl_b01_t h]; omega
  · rw [fl_b01_f h]; omega
theorem fl_b01_eq {P Q : Prop} (h : P ↔ Q) : fl_b01 P = fl_b01 Q := by rw [propext h]
/-- how many below n -/
noncomputable def fl_cn (P : Nat → Prop) (n : Nat) : Nat := fl_sm (fun i => fl_b01 (P i)) n
theorem fl_cn_eq {P Q : Nat → Prop} {n : Nat} (h : ∀ k, k < n → (P k ↔ Q k)) : fl_cn P n = fl_cn Q n :=
  fl_sm_eq fun i hi => fl_b01_eq (h i hi)
theorem fl_cn_le (P : Nat → Prop) (n : Nat) : fl_cn P n ≤ n := by
  have h : fl_cn P n ≤ fl_sm (fun _ => 1) n := fl_sm_le fun i _ => fl_b01_le _
  rw [fl_sm_const] at h; omega
theorem fl_cn_0 {P : Nat → Prop} {n : Nat} (h : ∀ k, k < n → ¬ P k) : fl_cn P n = 0 := by
  have e : fl_cn P n = fl_sm (fun _ => 0) n := fl_sm_eq fun i hi => fl_b01_f (h i hi)
  rw [e, fl_sm_const]; omega
theorem fl_cn_one {P Q : Nat → Prop} {n k : Nat} (hk : k < n) (hP : P k) (hQ : ¬ Q k) (h : ∀ i, i < n → i ≠ k → (P i ↔ Q i)) : fl_cn P n = fl_cn Q n + 1 := by
  have e := fl_sm_at (f := fun i => fl_b01 (P i)) (g := fun i => fl_b01 (Q i)) (k := k) (n := n) (fun i hi hn => fl_b01_eq (h i hi hn)) hk
  rw [fl_b01_t hP, fl_b01_f hQ] at e
  unfold fl_cn; omega
end
section
/-! sets of small numbers as Int32 -/
theorem fl_1 (i : Nat) : bt 1 i = decide (i = 0) := by
  rcases Nat.lt_or_ge i 32 with h | h
  · exact (by decide +kernel : ∀ i, i < 32 → bt 1 i = decide (i = 0)) i h
  · rw [b_big h, decide_eq_false (by omega)]
theorem fl_all (i : Nat) : bt 1048575 i = decide (i < 20) := by
  rcases Nat.lt_or_ge i 32 with h | h
  · exact (by decide +kernel : ∀ i, i < 32 → bt 1048575 i = decide (i < 20)) i h
  · rw [b_big h, decide_eq_false (by omega)]
theorem fl_not (x : Int32) {i : Nat} (hi : i < 32) : bt (x ^^^ (-1)) i = !bt x i := by
  rw [b_xor, b_m1 i hi]; cases bt x i <;> rfl
theorem fl_bit (x : Int32) {v : Nat} (hv : v < 32) : ((x >>> (nI v &&& 31)) &&& 1) = nI (bt x v).toNat := by
  apply b_ext
  intro i hi
  rw [b_and, fl_1]
  by_cases h0 : i = 0
  · subst h0
    rw [b_sshr v hv x (by omega), Nat.add_zero, if_pos hv]
    cases bt x v <;> decide
  · rw [decide_eq_false h0, Bool.and_false]
    cases bt x v
    · exact (b_0 i).symm
    · show false = bt 1 i
      rw [fl_1, decide_eq_false h0]
theorem fl_is1 (x : Int32) {v : Nat} (hv : v < 32) : ((x >>> (nI v &&& 31)) &&& 1) = 1 ↔ bt x v = true := by
  rw [fl_bit x hv]; cases bt x v <;> decide
theorem fl_is0 (x : Int32) {v : Nat} (hv : v < 32) : ((x >>> (nI v &&& 31)) &&& 1) = 0 ↔ bt x v = false := by
  rw [fl_bit x hv]; cases bt x v <;> decide
theorem fl_br1 {x y : Int32} {A B : Prop} (v : Nat) (hv : v < 32) (f : bt x v = true → A) (g : bt x v = false → B) (hy : y = nI v := by rfl) : (((x >>> (y &&& 31)) &&& 1) = 1 → A) ∧ (¬ ((x >>> (y &&& 31)) &&& 1) = 1 → B) := by
  subst hy
  rw [fl_is1 x hv]
  exact ⟨f, fun h => g (by simpa using h)⟩
theorem fl_br0 {x y : Int32} {A B : Prop} (v : Nat) (hv : v < 32) (f : bt x v = false → A) (g : bt x v = true → B) (hy : y = nI v := by rfl) : (((x >>> (y &&& 31)) &&& 1) = 0 → A) ∧ (¬ ((x >>> (y &&& 31)) &&& 1) = 0 → B) := by
  subst hy
  rw [fl_is0 x hv]
  exact ⟨f, fun h => g (by simpa using h)⟩
theorem fl_one {v : Nat} (hv : v < 32) (i : Nat) : bt ((1 : Int32) <<< (nI v &&& 31)) i = decide (i = v) := by
  rcases Nat.lt_or_ge i 32 with hi | hi
  · rw [b_shl v hv 1 hi, fl_1, Bool.eq_iff_iff]
    simp
    omega
  · rw [b_big hi, decide_eq_false (by omega)]
theorem fl_dec {x : Int32} {k : Nat} (hk : bt x k = true) (hl : ∀ j, j < k → bt x j = false) (i : Nat) (hi : i < 32) : bt (x - 1) i = if i < k then true else if i = k then false else bt x i := by
  have hk32 : k < 32 := by
    rcases Nat.lt_or_ge k 32 with h | h
    · exact h
    · rw [b_big h] at hk; exact absurd hk (by decide)
  obtain ⟨N, hN⟩ : ∃ N, x.toBitVec.toNat = N := ⟨_, rfl⟩
  have hb : ∀ i, bt x i = N.testBit i := fun i => by rw [← hN]; rfl
  have hlow : N % 2 ^ k = 0 := by
    apply Nat.eq_of_testBit_eq
    intro j
    rw [Nat.testBit_mod_two_pow, Nat.zero_testBit]
    by_cases hj : j < k
    · rw [← hb, hl j hj]; simp
    · simp [hj]
  have hodd : (N / 2 ^ k) % 2 = 1 := by
    have h := hb k
    rw [hk, Nat.testBit_eq_decide_div_mod_eq] at h
    exact of_decide_eq_true h.symm
  obtain ⟨q, hq⟩ : ∃ q, N = 2 ^ k * (2 * q + 1) := ⟨N / 2 ^ k / 2, by
    have h1 := Nat.div_add_mod N (2 ^ k)
    have h2 : 2 * (N / 2 ^ k / 2) + 1 = N / 2 ^ k := by omega
    rw [h2]
    rw [hlow, Nat.add_zero] at h1
    exact h1.symm⟩
  have hp : 0 < 2 ^ k := Nat.two_pow_pos k
  have hlt : N < 2 ^ 32 := by rw [← hN]; exact x.toBitVec.isLt
  have hm : 2 ^ k * (2 * q + 1) = 2 ^ k * (2 * q) + 2 ^ k := by rw [Nat.mul_add, Nat.mul_one]
  have hN1 : (x - 1).toBitVec.toNat = 2 ^ k * (2 * q) + (2 ^ k - 1) := by
    rw [Int32.toBitVec_sub, BitVec.toNat_sub, hN]
    show (2 ^ 32 - 1 + N) % 2 ^ 32 = _
    have : (2 ^ 32 - 1 + N) % 2 ^ 32 = N - 1 := by omega
    rw [this]; omega
  have e1 : bt (x - 1) i = (2 ^ k * (2 * q) + (2 ^ k - 1)).testBit i := by rw [← hN1]; rfl
  rw [e1, Nat.testBit_two_pow_mul_add _ (by omega)]
  by_cases h1 : i < k
  · rw [if_pos h1, if_pos h1, Nat.testBit_two_pow_sub_one]
    exact decide_eq_true h1
  · rw [if_neg h1, if_neg h1]
    by_cases h2 : i = k
    · rw [if_pos h2, h2, Nat.sub_self, Nat.testBit_zero]
      exact decide_eq_false (by omega)
    · rw [if_neg h2, hb, hq]
      have e2 := Nat.testBit_two_pow_mul_add (2 * q + 1) (b := 0) (i := k) hp i
      rw [Nat.add_zero, if_neg h1] at e2
      rw [e2]
      obtain ⟨d, hd⟩ : ∃ d, i - k = d + 1 := ⟨i - k - 1, by omega⟩
      rw [hd, Nat.testBit_add_one, Nat.testBit_add_one]
      congr 1
      omega
theorem fl_pop {x : Int32} {k : Nat} (hk : bt x k = true) (hl : ∀ j, j < k → bt x j = false) (i : Nat) : bt (x &&& (x - 1)) i = (bt x i && decide (i ≠ k)) := by
  rw [b_and]
  rcases Nat.lt_or_ge i 32 with hi | hi
  · rw [fl_dec hk hl i hi]
    by_cases h1 : i < k
    · rw [hl i h1]; rfl
    · rw [if_neg h1]
      by_cases h2 : i = k
      · rw [if_pos h2, decide_eq_false (by omega)]
      · rw [if_neg h2, decide_eq_true h2]; cases bt x i <;> rfl
  · rw [b_big hi]; rfl
theorem fl_below {y : Nat} (hy : y < 32) (i : Nat) : bt (((1 : Int32) <<< (nI y &&& 31)) - 1) i = decide (i < y) := by
  rcases Nat.lt_or_ge i 32 with hi | hi
  · rw [fl_dec (k := y) (by rw [fl_one hy]; simp) (fun j hj => by rw [fl_one hy]; simp; omega) i hi]
    by_cases h1 : i < y
    · rw [if_pos h1, decide_eq_true h1]
    · rw [if_neg h1, decide_eq_false h1]
      by_cases h2 : i = y
      · rw [if_pos h2]
      · rw [if_neg h2, fl_one hy, decide_eq_false h2]
  · rw [b_big hi, decide_eq_false (by omega)]
/-- within n bits -/
def fl_w (n : Nat) (x : Int32) : Prop := ∀ i, n ≤ i → bt x i = false
theorem fl_w0 (n : Nat) : fl_w n 0 := fun i _ => b_0 i
theorem fl_w_and {n : Nat} {x y : Int32} (h : fl_w n x) : fl_w n (x &&& y) := fun i hi => by rw [b_and, h i hi]; rfl
theorem fl_w_and2 {n : Nat} {x y : Int32} (h : fl_w n y) : fl_w n (x &&& y) := fun i hi => by rw [b_and, h i hi, Bool.and_false]
theorem fl_w_or {n : Nat} {x y : Int32} (h : fl_w n x) (h2 : fl_w n y) : fl_w n (x ||| y) := fun i hi => by rw [b_or, h i hi, h2 i hi]; rfl
theorem fl_w_one {n v : Nat} (hv : v < n) (hn : n ≤ 32) : fl_w n ((1 : Int32) <<< (nI v &&& 31)) := fun i hi => by
  rw [fl_one (by omega), decide_eq_false (by omega)]
theorem fl_w_all : fl_w 20 1048575 := fun i hi => by rw [fl_all, decide_eq_false (by omega)]
theorem fl_w_xor {n : Nat} {x y : Int32} (h : fl_w n x) (h2 : fl_w n y) : fl_w n (x ^^^ y) := fun i hi => by rw [b_xor, h i hi, h2 i hi]; rfl
theorem fl_w_mono {m n : Nat} {x : Int32} (h : fl_w m x) (hm : m ≤ n) : fl_w n x := fun i hi => h i (by omega)
theorem fl_ext {n : Nat} {x y : Int32} (hx : fl_w n x) (hy : fl_w n y) (h : ∀ i, i < n → bt x i = bt y i) : x = y := b_ext fun i _ => by
  rcases Nat.lt_or_ge i n with h1 | h1
  · exact h i h1
  · rw [hx i h1, hy i h1]
theorem fl_eq0 {n : Nat} {x : Int32} (hx : fl_w n x) (h : ∀ i, i < n → bt x i = false) : x = 0 := fl_ext hx (fl_w0 n) fun i hi => by rw [h i hi, b_0]
theorem fl_low {n : Nat} {x : Int32} (hx : fl_w n x) (h : x ≠ 0) : ∃ k, k < n ∧ bt x k = true ∧ ∀ j, j < k → bt x j = false := by
  have hex : ∃ k, bt x k = true := by
    apply Classical.byContradiction
    intro hn
    exact h (b_ext fun i _ => by
      rw [b_0]
      cases hb : bt x i
      · rfl
      · exact absurd ⟨i, hb⟩ hn)
  obtain ⟨k, hk, hl⟩ := pk_least (fun k => bt x k = true) hex
  refine ⟨k, ?_, hk, fun j hj => by simpa using hl j hj⟩
  rcases Nat.lt_or_ge k n with h1 | h1
  · exact h1
  · rw [hx k h1] at hk; exact absurd hk (by decide)
/-- how many there are -/
def fl_pc (x : Int32) : Nat := fl_sm (fun i => (bt x i).toNat) 20
theorem fl_pc_le (x : Int32) : fl_pc x ≤ 20 := by
  have h : fl_pc x ≤ fl_sm (fun _ => 1) 20 := fl_sm_le fun i _ => by cases bt x i <;> decide
  rw [fl_sm_const] at h; omega
theorem fl_pc_0 : fl_pc 0 = 0 := by decide
theorem fl_pc_pop {x : Int32} {k : Nat} (h20 : k < 20) (hk : bt x k = true) (hl : ∀ j, j < k → bt x j = false) : fl_pc x = fl_pc (x &&& (x - 1)) + 1 := by
  have e := fl_sm_at (f := fun i => (bt x i).toNat) (g := fun i => (bt (x &&& (x - 1)) i).toNat) (k := k) (n := 20) (fun i _ hn => by
    rw [fl_pop hk hl, decide_eq_true hn, Bool.and_true]) h20
  rw [fl_pop hk hl k, hk, decide_eq_false (by omega)] at e
  unfold fl_pc
  simpa using e
theorem fl_pc_z {x : Int32} (hx : fl_w 20 x) (h : fl_pc x = 0) : x = 0 := by
  apply Classical.byContradiction
  intro hn
  obtain ⟨k, h1, h2, h3⟩ := fl_low hx hn
  have := fl_pc_pop h1 h2 h3
  omega
theorem fl_ones {post : Int32 → Prop} {x : Int32} (hx : fl_w 20 x) (h : post (nI (fl_pc x))) : wpX_ones post x := by
  have key : ∀ d c y, c + d = 20 → fl_pc y + c = fl_pc x → fl_w 20 y → wX_ones_6 post (d + 1) (nI c) y (nI c) := by
    intro d
    induction d with
    | zero =>
      intro c y hc hp hy
      have := fl_pc_le x
      have e : fl_pc x = c := by omega
      rw [e] at h
      exact br_t (show (20 : Int32) ≤ nI c from nI_le (a := 20) (by omega) (by omega)) h
    | succ d ih =>
      intro c y hc hp hy
      refine br_f (nI_ge (b := 20) (by omega) (by omega)) ?_
      by_cases h0 : y = 0
      · rw [h0, fl_pc_0] at hp
        have e : fl_pc x = c := by omega
        rw [e] at h
        exact br_t h0 h
      · obtain ⟨k, h1, h2, h3⟩ := fl_low hy h0
        have e := fl_pc_pop h1 h2 h3
        exact br_f h0 (nm_e (nm_r (nI_1 c) (nm_r (nI_1 c) (ih (c + 1) _ (by omega) (by omega) (fl_w_and hy)))))
  exact ⟨_, key 20 0 x rfl rfl hx⟩
theorem fl_lowest {post : Int32 → Prop} {x : Int32} {k : Nat} (h20 : k < 20) (hk : bt x k = true) (hl : ∀ j, j < k → bt x j = false) (h : post (nI k)) : wpX_lowest post x := by
  have key : ∀ d c, c + d = k → wX_lowest_2 post x (d + 1) (nI c) := by
    intro d
    induction d with
    | zero =>
      intro c hc
      have e : c = k := by omega
      subst e
      exact br_f (nI_ge (b := 20) (by omega) (by omega)) (fl_br1 c (by omega) (fun _ => h) (fun hf => by rw [hk] at hf; exact absurd hf (by decide)))
    | succ d ih =>
      intro c hc
      exact br_f (nI_ge (b := 20) (by omega) (by omega)) (fl_br1 c (by omega) (fun ht => by rw [hl c (by omega)] at ht; exact absurd ht (by decide)) (fun _ => nm_r (nI_1 c) (ih (c + 1) (by omega))))
  exact ⟨_, key k 0 (by omega)⟩
theorem fl_onesY {post : Int32 → Prop} (u : SY) {x : Int32} (h : post (nI (fl_pc x))) : wpY_ones post u x := by
  obtain ⟨g_latest, g_steps, g_mode, g_from, g_to, g_clauses, g_masked, b_attributeKinds, b_sets, b_work, b_sorts, b_entities, b_attributes, b_values, b_others, b_seen, b_reach, b_kinds, b_along, b_left, b_right, b_order, b_number⟩ := u
  have key : ∀ d c, c + d = 20 → wY_ones_4 post x g_latest g_steps g_mode g_from g_to g_clauses g_masked b_attributeKinds b_sets b_work b_sorts b_entities b_attributes b_values b_others b_seen b_reach b_kinds b_along b_left b_right b_order b_number (d + 1) (nI (fl_sm (fun i => (bt x i).toNat) c)) (nI c) := by
    intro d
    induction d with
    | zero =>
      intro c hc
      have e : c = 20 := by omega
      subst e
      exact br_t (nI_le (a := 20) (by omega) (by omega)) h
    | succ d ih =>
      intro c hc
      exact br_f (nI_ge (b := 20) (by omega) (by omega)) (nm_r (by rw [fl_bit x (by omega), nI_add]; rfl) (nm_r (nI_1 c) (ih (c + 1) (by omega))))
  exact ⟨_, key 20 0 rfl⟩
end
section
/-! the relation -/
/-- the natural in a cell -/
def fr_n (a : Nat → Int32) (i : Nat) : Nat := (a i).toNatClampNeg
/-- the cells below K hold naturals -/
def fr_N (a : Nat → Int32) (K : Nat) : Prop := ∀ i, i < K → a i = nI (fr_n a i)
/-- the kept facts (who, which, value, came, went) and the presence of a fact in a version -/
def fr_Sto (L K : Nat) (ke ka kv kc kw : Nat → Nat) (P : Nat → Nat → Nat → Nat → Prop) : Prop :=
  (∀ i, i < K → ke i < 12 ∧ ka i < 6 ∧ kv i < 20 ∧ 1 ≤ kc i ∧ kc i ≤ L ∧ (kw i = 99 ∨ (kc i < kw i ∧ kw i ≤ L))) ∧
  (∀ w e a v, w ≤ L → e < 12 → a < 6 → v < 20 → (P w e a v ↔ ∃ i, i < K ∧ ke i = e ∧ ka i = a ∧ kv i = v ∧ kc i ≤ w ∧ w < kw i)) ∧
  (∀ i, i < K → ¬ P (kc i - 1) (ke i) (ka i) (kv i)) ∧
  (∀ i j, i < j → j < K → ke i = ke j → ka i = ka j → kv i = kv j → kw i ≠ 99)
def fr_V (L K : Nat) (a_ke a_ka a_kv a_came a_went a_now b_sets : Nat → Int32) : Prop :=
  L ≤ 24 ∧ K ≤ 10 * L ∧ (fr_N a_ke K ∧ fr_N a_ka K ∧ fr_N a_kv K ∧ fr_N a_came K ∧ fr_N a_went K) ∧
  fr_Sto L K (fr_n a_ke) (fr_n a_ka) (fr_n a_kv) (fr_n a_came) (fr_n a_went) (fun w e a v => bt (b_sets (72 * w + 6 * e + a)) v = true) ∧
  (∀ p, p < 72 * (L + 1) → fl_w 20 (b_sets p)) ∧
  (∀ e a, e < 12 → a < 6 → a_now (12 * a + e) = b_sets (72 * L + 6 * e + a))
def fr_S (s : Nat) (a_sk a_se a_sa a_sv a_so b_at : Nat → Int32) : Prop :=
  s ≤ 10 ∧ ∀ i, i < s → ∃ k e a v w : Nat, (k ≤ 4 ∧ e < 12 ∧ a < 6 ∧ v < 20 ∧ w < 20) ∧
    a_sk i = nI k ∧ a_se i = nI e ∧ a_sa i = nI a ∧ a_sv i = nI v ∧ a_so i = nI w ∧ b_at i = (if k = 3 then -1 else nI a)
/-- what the reference looks at -/
def fv_or (S : Nat → Int32) (p s : Nat) : Nat → Int32
  | 0 => 0
  | n + 1 => fv_or S p s n ||| S (72 * (s + n) + p)
def fv_an (S : Nat → Int32) (p s : Nat) : Nat → Int32
  | 0 => 1048575
  | n + 1 => fv_an S p s n &&& S (72 * (s + n) + p)
def fv_lk (md s t : Nat) (S : Nat → Int32) (p : Nat) : Int32 :=
  if md = 1 then fv_or S p s (t + 1 - s) else if s = 0 then S (72 * t + p) else S (72 * t + p) &&& (fv_an S p s (t + 1 - s) ^^^ (-1))
/-- paths, by stages -/
def fv_r0 (row : Nat → Int32) (a x : Nat) : Int32 := if x < 12 then row (12 * a + x) else 0
def fv_st (r : Nat → Int32) (z x : Nat) : Int32 := if bt (r x) z = true then r x ||| r z else r x
def fv_cl (r : Nat → Int32) : Nat → Nat → Int32
  | 0 => r
  | z + 1 => fv_st (fv_cl r z) z
def fr_W (L md sn un : Nat) (b_sets a_row a_col a_reach : Nat → Int32) : Prop :=
  (md ≤ 1 ∧ sn ≤ un ∧ un ≤ L) ∧
  (∀ e a, e < 12 → a < 6 → a_row (12 * a + e) = fv_lk md sn un b_sets (6 * e + a)) ∧
  (∀ a v e, a < 6 → v < 20 → bt (a_col (20 * a + v)) e = (decide (e < 12) && bt (a_row (12 * a + e)) v)) ∧
  (∀ a x, a < 6 → x < 20 → a_reach (20 * a + x) = fv_cl (fv_r0 a_row a) 12 x)
def fr_C (C : Nat) (a_ck a_ca a_left a_right b_al : Nat → Int32) : Prop :=
  C ≤ 6 ∧ ∀ c, c < C → ∃ k a x y : Nat, (k ≤ 4 ∧ a < 6 ∧ x < 24 ∧ y < 24) ∧
    a_ck c = nI k ∧ a_ca c = nI a ∧ a_left c = nI x ∧ a_right c = nI y ∧ (k ≠ 2 → k ≠ 3 → b_al c = nI a)
def i_Rel (_ : Nat) (u : SX) (v : SY) : Prop := ∃ (L K s md sn un C : Nat) (f_levels f_asked f_level f_assigned f_bounded g_masked : Int32) (a_kinds a_keptEntity a_keptAttribute a_keptValue a_came a_went a_now a_work a_stepKind a_stepEntity a_stepAttribute a_stepValue a_stepOther a_row a_column a_reach a_clauseKind a_clauseAttribute a_left a_right a_order a_rest a_number a_bound b_sets b_work b_attributes b_seen b_reach b_along b_order b_number : Nat → Int32), (u = (nI L, nI K, nI s, nI md, nI sn, nI un, nI C, f_levels, f_asked, f_level, f_assigned, f_bounded, a_kinds, a_keptEntity, a_keptAttribute, a_keptValue, a_came, a_went, a_now, a_work, a_stepKind, a_stepEntity, a_stepAttribute, a_stepValue, a_stepOther, a_row, a_column, a_reach, a_clauseKind, a_clauseAttribute, a_left, a_right, a_order, a_rest, a_number, a_bound) ∧ v = (nI L, nI s, nI md, nI sn, nI un, nI C, g_masked, a_kinds, b_sets, b_work, a_stepKind, a_stepEntity, b_attributes, a_stepValue, a_stepOther, b_seen, b_reach, a_clauseKind, b_along, a_left, a_right, b_order, b_number)) ∧ fr_V L K a_keptEntity a_keptAttribute a_keptValue a_came a_went a_now b_sets ∧ fr_S s a_stepKind a_stepEntity a_stepAttribute a_stepValue a_stepOther b_attributes ∧ fr_W L md sn un b_sets a_row a_column a_reach ∧ fr_C C a_clauseKind a_clauseAttribute a_left a_right b_along
theorem i_up {k : Nat} {u : SX} {v : SY} (h : i_Rel k u v) : i_Rel (k + 5) u v := h
theorem fr_el {P : SX → SY → Prop} {k : Nat} {u : SX} {v : SY} (I : i_Rel k u v) (h : ∀ (L K s md sn un C : Nat) (f_levels f_asked f_level f_assigned f_bounded g_masked : Int32) (a_kinds a_keptEntity a_keptAttribute a_keptValue a_came a_went a_now a_work a_stepKind a_stepEntity a_stepAttribute a_stepValue a_stepOther a_row a_column a_reach a_clauseKind a_clauseAttribute a_left a_right a_order a_rest a_number a_bound b_sets b_work b_attributes b_seen b_reach b_along b_order b_number : Nat → Int32), fr_V L K a_keptEntity a_keptAttribute a_keptValue a_came a_went a_now b_sets → fr_S s a_stepKind a_stepEntity a_stepAttribute a_stepValue a_stepOther b_attributes → fr_W L md sn un b_sets a_row a_column a_reach → fr_C C a_clauseKind a_clauseAttribute a_left a_right b_along → P (nI L, nI K, nI s, nI md, nI sn, nI un, nI C, f_levels, f_asked, f_level, f_assigned, f_bounded, a_kinds, a_keptEntity, a_keptAttribute, a_keptValue, a_came, a_went, a_now, a_work, a_stepKind, a_stepEntity, a_stepAttribute, a_stepValue, a_stepOther, a_row, a_column, a_reach, a_clauseKind, a_clauseAttribute, a_left, a_right, a_order, a_rest, a_number, a_bound) (nI L, nI s, nI md, nI sn, nI un, nI C, g_masked, a_kinds, b_sets, b_work, a_stepKind, a_stepEntity, b_attributes, a_stepValue, a_stepOther, b_seen, b_reach, a_clauseKind, b_along, a_left, a_right, b_order, b_number)) : P u v :=
  Exists.elim I fun L I => Exists.elim I fun K I => Exists.elim I fun s I => Exists.elim I fun md I => Exists.elim I fun sn I => Exists.elim I fun un I => Exists.elim I fun C I => Exists.elim I fun f_levels I => Exists.elim I fun f_asked I => Exists.elim I fun f_level I => Exists.elim I fun f_assigned I => Exists.elim I fun f_bounded I => Exists.elim I fun g_masked I => Exists.elim I fun a_kinds I => Exists.elim I fun a_keptEntity I => Exists.elim I fun a_keptAttribute I => Exists.elim I fun a_keptValue I => Exists.elim I fun a_came I => Exists.elim I fun a_went I => Exists.elim I fun a_now I => Exists.elim I fun a_work I => Exists.elim I fun a_stepKind I => Exists.elim I fun a_stepEntity I => Exists.elim I fun a_stepAttribute I => Exists.elim I fun a_stepValue I => Exists.elim I fun a_stepOther I => Exists.elim I fun a_row I => Exists.elim I fun a_column I => Exists.elim I fun a_reach I => Exists.elim I fun a_clauseKind I => Exists.elim I fun a_clauseAttribute I => Exists.elim I fun a_left I => Exists.elim I fun a_right I => Exists.elim I fun a_order I => Exists.elim I fun a_rest I => Exists.elim I fun a_number I => Exists.elim I fun a_bound I => Exists.elim I fun b_sets I => Exists.elim I fun b_work I => Exists.elim I fun b_attributes I => Exists.elim I fun b_seen I => Exists.elim I fun b_reach I => Exists.elim I fun b_along I => Exists.elim I fun b_order I => Exists.elim I fun b_number I => by
    obtain ⟨⟨eu, ev⟩, h1, h2, h3, h4⟩ := I
    rw [eu, ev]
    exact h L K s md sn un C f_levels f_asked f_level f_assigned f_bounded g_masked a_kinds a_keptEntity a_keptAttribute a_keptValue a_came a_went a_now a_work a_stepKind a_stepEntity a_stepAttribute a_stepValue a_stepOther a_row a_column a_reach a_clauseKind a_clauseAttribute a_left a_right a_order a_rest a_number a_bound b_sets b_work b_attributes b_seen b_reach b_along b_order b_number h1 h2 h3 h4
theorem fr_in {k : Nat} {L K s md sn un C : Nat} {f_levels f_asked f_level f_assigned f_bounded g_masked : Int32} {a_kinds a_keptEntity a_keptAttribute a_keptValue a_came a_went a_now a_work a_stepKind a_stepEntity a_stepAttribute a_stepValue a_stepOther a_row a_column a_reach a_clauseKind a_clauseAttribute a_left a_right a_order a_rest a_number a_bound b_sets b_work b_attributes b_seen b_reach b_along b_order b_number : Nat → Int32} (h1 : fr_V L K a_keptEntity a_keptAttribute a_keptValue a_came a_went a_now b_sets) (h2 : fr_S s a_stepKind a_stepEntity a_stepAttribute a_stepValue a_stepOther b_attributes) (h3 : fr_W L md sn un b_sets a_row a_column a_reach) (h4 : fr_C C a_clauseKind a_clauseAttribute a_left a_right b_along) : i_Rel k (nI L, nI K, nI s, nI md, nI sn, nI un, nI C, f_levels, f_asked, f_level, f_assigned, f_bounded, a_kinds, a_keptEntity, a_keptAttribute, a_keptValue, a_came, a_went, a_now, a_work, a_stepKind, a_stepEntity, a_stepAttribute, a_stepValue, a_stepOther, a_row, a_column, a_reach, a_clauseKind, a_clauseAttribute, a_left, a_right, a_order, a_rest, a_number, a_bound) (nI L, nI s, nI md, nI sn, nI un, nI C, g_masked, a_kinds, b_sets, b_work, a_stepKind, a_stepEntity, b_attributes, a_stepValue, a_stepOther, b_seen, b_reach, a_clauseKind, b_along, a_left, a_right, b_order, b_number) :=
  ⟨L, K, s, md, sn, un, C, f_levels, f_asked, f_level, f_assigned, f_bounded, g_masked, a_kinds, a_keptEntity, a_keptAttribute, a_keptValue, a_came, a_went, a_now, a_work, a_stepKind, a_stepEntity, a_stepAttribute, a_stepValue, a_stepOther, a_row, a_column, a_reach, a_clauseKind, a_clauseAttribute, a_left, a_right, a_order, a_rest, a_number, a_bound, b_sets, b_work, b_attributes, b_seen, b_reach, b_along, b_order, b_number, ⟨rfl, rfl⟩, h1, h2, h3, h4⟩
-- names: L K s md sn un C f_levels f_asked f_level f_assigned f_bounded g_masked a_kinds a_keptEntity a_keptAttribute a_keptValue a_came a_went a_now a_work a_stepKind a_stepEntity a_stepAttribute a_stepValue a_stepOther a_row a_column a_reach a_clauseKind a_clauseAttribute a_left a_right a_order a_rest a_number a_bound b_sets b_work b_attributes b_seen b_reach b_along b_order b_number
end
section
/-! small methods: ranges, gathering of steps, clauses -/
theorem fk_10 : ¬ (1 : Int32) = 0 := by decide
theorem fk_cl {f : Nat → Int32} {n : Nat} (h : n < 2 ^ 31) : f (nI n).toNatClampNeg = f n := by rw [nI_clamp h]
theorem fk_ucl {f : Nat → Int32} {n : Nat} {x : Int32} (h : n < 2 ^ 31) : upd f (nI n).toNatClampNeg x = upd f n x := by rw [nI_clamp h]
theorem fk_eT {post : Int32 → Prop} {e : Nat} (he : e < 12) (h : post 1) : wpX_isEntity post (nI e) := br_f (nI_pos (by omega)) (br_f (nI_ge (b := 12) he (by omega)) h)
theorem fk_eF {post : Int32 → Prop} {x : Int32} (hx : ¬ ∃ e, e < 12 ∧ x = nI e) (h : post 0) : wpX_isEntity post x := by
  by_cases h0 : x < 0
  · exact br_t h0 h
  · obtain ⟨j, hj, rfl⟩ := nI_of h0
    exact br_f h0 (br_t (nI_le (a := 12) (Nat.le_of_not_lt fun hl => hx ⟨j, hl, rfl⟩) hj) h)
theorem fk_eYT {post : Int32 → Prop} (u : SY) {e : Nat} (he : e < 12) (h : post 1) : wpY_isEntity post u (nI e) := by
  obtain ⟨g_latest, g_steps, g_mode, g_from, g_to, g_clauses, g_masked, b_attributeKinds, b_sets, b_work, b_sorts, b_entities, b_attributes, b_values, b_others, b_seen, b_reach, b_kinds, b_along, b_left, b_right, b_order, b_number⟩ := u
  exact br_f (nI_pos (by omega)) (br_f (nI_nlt (a := 11) (by omega) (by omega)) h)
theorem fk_eYF {post : Int32 → Prop} (u : SY) {x : Int32} (hx : ¬ ∃ e, e < 12 ∧ x = nI e) (h : post 0) : wpY_isEntity post u x := by
  obtain ⟨g_latest, g_steps, g_mode, g_from, g_to, g_clauses, g_masked, b_attributeKinds, b_sets, b_work, b_sorts, b_entities, b_attributes, b_values, b_others, b_seen, b_reach, b_kinds, b_along, b_left, b_right, b_order, b_number⟩ := u
  by_cases h0 : x < 0
  · exact br_t h0 h
  · obtain ⟨j, hj, rfl⟩ := nI_of h0
    have hl : ¬ j < 12 := fun hl => hx ⟨j, hl, rfl⟩
    exact br_f h0 (br_t (nI_lt (a := 11) (by omega) hj) h)
theorem fk_aT {post : Int32 → Prop} {e : Nat} (he : e < 6) (h : post 1) : wpX_isAttribute post (nI e) := br_f (nI_pos (by omega)) (br_f (nI_ge (b := 6) he (by omega)) h)
theorem fk_aF {post : Int32 → Prop} {x : Int32} (hx : ¬ ∃ e, e < 6 ∧ x = nI e) (h : post 0) : wpX_isAttribute post x := by
  by_cases h0 : x < 0
  · exact br_t h0 h
  · obtain ⟨j, hj, rfl⟩ := nI_of h0
    exact br_f h0 (br_t (nI_le (a := 6) (Nat.le_of_not_lt fun hl => hx ⟨j, hl, rfl⟩) hj) h)
theorem fk_aYT {post : Int32 → Prop} (u : SY) {e : Nat} (he : e < 6) (h : post 1) : wpY_isAttribute post u (nI e) := by
  obtain ⟨g_latest, g_steps, g_mode, g_from, g_to, g_clauses, g_masked, b_attributeKinds, b_sets, b_work, b_sorts, b_entities, b_attributes, b_values, b_others, b_seen, b_reach, b_kinds, b_along, b_left, b_right, b_order, b_number⟩ := u
  exact br_f (nI_pos (by omega)) (br_f (nI_nlt (a := 5) (by omega) (by omega)) h)
theorem fk_aYF {post : Int32 → Prop} (u : SY) {x : Int32} (hx : ¬ ∃ e, e < 6 ∧ x = nI e) (h : post 0) : wpY_isAttribute post u x := by
  obtain ⟨g_latest, g_steps, g_mode, g_from, g_to, g_clauses, g_masked, b_attributeKinds, b_sets, b_work, b_sorts, b_entities, b_attributes, b_values, b_others, b_seen, b_reach, b_kinds, b_along, b_left, b_right, b_order, b_number⟩ := u
  by_cases h0 : x < 0
  · exact br_t h0 h
  · obtain ⟨j, hj, rfl⟩ := nI_of h0
    have hl : ¬ j < 6 := fun hl => hx ⟨j, hl, rfl⟩
    exact br_f h0 (br_t (nI_lt (a := 5) (by omega) hj) h)
theorem fk_vT {post : Int32 → Prop} {e : Nat} (he : e < 20) (h : post 1) : wpX_isValue post (nI e) := br_f (nI_pos (by omega)) (br_f (nI_ge (b := 20) he (by omega)) h)
theorem fk_vF {post : Int32 → Prop} {x : Int32} (hx : ¬ ∃ e, e < 20 ∧ x = nI e) (h : post 0) : wpX_isValue post x := by
  by_cases h0 : x < 0
  · exact br_t h0 h
  · obtain ⟨j, hj, rfl⟩ := nI_of h0
    exact br_f h0 (br_t (nI_le (a := 20) (Nat.le_of_not_lt fun hl => hx ⟨j, hl, rfl⟩) hj) h)
theorem fk_vYT {post : Int32 → Prop} (u : SY) {e : Nat} (he : e < 20) (h : post 1) : wpY_isValue post u (nI e) := by
  obtain ⟨g_latest, g_steps, g_mode, g_from, g_to, g_clauses, g_masked, b_attributeKinds, b_sets, b_work, b_sorts, b_entities, b_attributes, b_values, b_others, b_seen, b_reach, b_kinds, b_along, b_left, b_right, b_order, b_number⟩ := u
  exact br_f (nI_pos (by omega)) (br_f (nI_nlt (a := 19) (by omega) (by omega)) h)
theorem fk_vYF {post : Int32 → Prop} (u : SY) {x : Int32} (hx : ¬ ∃ e, e < 20 ∧ x = nI e) (h : post 0) : wpY_isValue post u x := by
  obtain ⟨g_latest, g_steps, g_mode, g_from, g_to, g_clauses, g_masked, b_attributeKinds, b_sets, b_work, b_sorts, b_entities, b_attributes, b_values, b_others, b_seen, b_reach, b_kinds, b_along, b_left, b_right, b_order, b_number⟩ := u
  by_cases h0 : x < 0
  · exact br_t h0 h
  · obtain ⟨j, hj, rfl⟩ := nI_of h0
    have hl : ¬ j < 20 := fun hl => hx ⟨j, hl, rfl⟩
    exact br_f h0 (br_t (nI_lt (a := 19) (by omega) hj) h)
section
variable {f_latest f_kept f_steps f_mode f_since f_until f_clauses f_levels f_asked f_level f_assigned f_bounded : Int32} {a_kinds a_keptEntity a_keptAttribute a_keptValue a_came a_went a_now a_work a_stepKind a_stepEntity a_stepAttribute a_stepValue a_stepOther a_row a_column a_reach a_clauseKind a_clauseAttribute a_left a_right a_order a_rest a_number a_bound : Nat → Int32}
variable {g_latest g_steps g_mode g_from g_to g_clauses g_masked : Int32} {b_attributeKinds b_sets b_work b_sorts b_entities b_attributes b_values b_others b_seen b_reach b_kinds b_along b_left b_right b_order b_number : Nat → Int32}
theorem fk_linkT {post : Int32 → Prop} {a : Nat} (ha : a < 6) (hl : ¬ (a_kinds a &&& 4) = 0) (h : post 1) : wpX_isLink post (f_latest, f_kept, f_steps, f_mode, f_since, f_until, f_clauses, f_levels, f_asked, f_level, f_assigned, f_bounded, a_kinds, a_keptEntity, a_keptAttribute, a_keptValue, a_came, a_went, a_now, a_work, a_stepKind, a_stepEntity, a_stepAttribute, a_stepValue, a_stepOther, a_row, a_column, a_reach, a_clauseKind, a_clauseAttribute, a_left, a_right, a_order, a_rest, a_number, a_bound) (nI a) :=
  ⟨vp_in_nI ha (by omega), br_f (by rw [nI_clamp (by omega)]; exact hl) h⟩
theorem fk_linkF {post : Int32 → Prop} {a : Nat} (ha : a < 6) (hl : (a_kinds a &&& 4) = 0) (h : post 0) : wpX_isLink post (f_latest, f_kept, f_steps, f_mode, f_since, f_until, f_clauses, f_levels, f_asked, f_level, f_assigned, f_bounded, a_kinds, a_keptEntity, a_keptAttribute, a_keptValue, a_came, a_went, a_now, a_work, a_stepKind, a_stepEntity, a_stepAttribute, a_stepValue, a_stepOther, a_row, a_column, a_reach, a_clauseKind, a_clauseAttribute, a_left, a_right, a_order, a_rest, a_number, a_bound) (nI a) :=
  ⟨vp_in_nI ha (by omega), br_t (by rw [nI_clamp (by omega)]; exact hl) h⟩
theorem fk_linkYT {post : Int32 → Prop} {a : Nat} (ha : a < 6) (hl : ¬ (b_attributeKinds a &&& 4) = 0) (h : post 1) : wpY_isLink post (g_latest, g_steps, g_mode, g_from, g_to, g_clauses, g_masked, b_attributeKinds, b_sets, b_work, b_sorts, b_entities, b_attributes, b_values, b_others, b_seen, b_reach, b_kinds, b_along, b_left, b_right, b_order, b_number) (nI a) :=
  ⟨vp_in_nI ha (by omega), br_f (by rw [nI_clamp (by omega)]; exact hl) h⟩
theorem fk_linkYF {post : Int32 → Prop} {a : Nat} (ha : a < 6) (hl : (b_attributeKinds a &&& 4) = 0) (h : post 0) : wpY_isLink post (g_latest, g_steps, g_mode, g_from, g_to, g_clauses, g_masked, b_attributeKinds, b_sets, b_work, b_sorts, b_entities, b_attributes, b_values, b_others, b_seen, b_reach, b_kinds, b_along, b_left, b_right, b_order, b_number) (nI a) :=
  ⟨vp_in_nI ha (by omega), br_t (by rw [nI_clamp (by omega)]; exact hl) h⟩
theorem fk_fitsT {post : Int32 → Prop} {a v : Nat} (ha : a < 6) (hv : v < 20) (hl : (a_kinds a &&& 4) = 0 ∨ v < 12) (h : post 1) : wpX_fits post (f_latest, f_kept, f_steps, f_mode, f_since, f_until, f_clauses, f_levels, f_asked, f_level, f_assigned, f_bounded, a_kinds, a_keptEntity, a_keptAttribute, a_keptValue, a_came, a_went, a_now, a_work, a_stepKind, a_stepEntity, a_stepAttribute, a_stepValue, a_stepOther, a_row, a_column, a_reach, a_clauseKind, a_clauseAttribute, a_left, a_right, a_order, a_rest, a_number, a_bound) (nI a) (nI v) := by
  unfold wpX_fits
  refine fk_vT hv (br_f fk_10 ?_)
  by_cases h4 : (a_kinds a &&& 4) = 0
  · exact fk_linkF ha h4 (br_t rfl h)
  · exact fk_linkT ha h4 (br_f fk_10 (br_f (nI_ge (b := 12) (hl.resolve_left h4) (by omega)) h))
theorem fk_fitsF {post : Int32 → Prop} {a : Nat} {x : Int32} (ha : a < 6) (hx : ¬ ∃ v, v < 20 ∧ x = nI v ∧ ((a_kinds a &&& 4) = 0 ∨ v < 12)) (h : post 0) : wpX_fits post (f_latest, f_kept, f_steps, f_mode, f_since, f_until, f_clauses, f_levels, f_asked, f_level, f_assigned, f_bounded, a_kinds, a_keptEntity, a_keptAttribute, a_keptValue, a_came, a_went, a_now, a_work, a_stepKind, a_stepEntity, a_stepAttribute, a_stepValue, a_stepOther, a_row, a_column, a_reach, a_clauseKind, a_clauseAttribute, a_left, a_right, a_order, a_rest, a_number, a_bound) (nI a) x := by
  unfold wpX_fits
  by_cases hv : ∃ v, v < 20 ∧ x = nI v
  · obtain ⟨v, hv, rfl⟩ := hv
    have h4 : ¬ (a_kinds a &&& 4) = 0 := fun h4 => hx ⟨v, hv, rfl, Or.inl h4⟩
    have h12 : ¬ v < 12 := fun h12 => hx ⟨v, hv, rfl, Or.inr h12⟩
    exact fk_vT hv (br_f fk_10 (fk_linkT ha h4 (br_f fk_10 (br_t (nI_le (a := 12) (by omega) (by omega)) h))))
  · exact fk_vF hv (br_t rfl h)
theorem fk_factT {post : Int32 → Prop} {e a v : Nat} (he : e < 12) (ha : a < 6) (hv : v < 20) (hl : (b_attributeKinds a &&& 4) = 0 ∨ v < 12) (h : post 1) : wpY_isFact post (g_latest, g_steps, g_mode, g_from, g_to, g_clauses, g_masked, b_attributeKinds, b_sets, b_work, b_sorts, b_entities, b_attributes, b_values, b_others, b_seen, b_reach, b_kinds, b_along, b_left, b_right, b_order, b_number) (nI e) (nI a) (nI v) := by
  unfold wpY_isFact
  refine fk_eYT _ he (br_f fk_10 (fk_aYT _ ha (br_f fk_10 (fk_vYT _ hv (br_f fk_10 ?_)))))
  by_cases h4 : (b_attributeKinds a &&& 4) = 0
  · exact fk_linkYF ha h4 (br_t rfl h)
  · exact fk_linkYT ha h4 (br_f fk_10 (fk_eYT _ (hl.resolve_left h4) (br_f fk_10 h)))
theorem fk_factE {post : Int32 → Prop} {x1 x2 x3 : Int32} (hx : ¬ ∃ e, e < 12 ∧ x1 = nI e) (h : post 0) : wpY_isFact post (g_latest, g_steps, g_mode, g_from, g_to, g_clauses, g_masked, b_attributeKinds, b_sets, b_work, b_sorts, b_entities, b_attributes, b_values, b_others, b_seen, b_reach, b_kinds, b_along, b_left, b_right, b_order, b_number) x1 x2 x3 := by
  unfold wpY_isFact
  exact fk_eYF _ hx (br_t rfl h)
theorem fk_factA {post : Int32 → Prop} {e : Nat} {x2 x3 : Int32} (he : e < 12) (hx : ¬ ∃ e, e < 6 ∧ x2 = nI e) (h : post 0) : wpY_isFact post (g_latest, g_steps, g_mode, g_from, g_to, g_clauses, g_masked, b_attributeKinds, b_sets, b_work, b_sorts, b_entities, b_attributes, b_values, b_others, b_seen, b_reach, b_kinds, b_along, b_left, b_right, b_order, b_number) (nI e) x2 x3 := by
  unfold wpY_isFact
  exact fk_eYT _ he (br_f fk_10 (fk_aYF _ hx (br_t rfl h)))
theorem fk_factF {post : Int32 → Prop} {e a : Nat} {x : Int32} (he : e < 12) (ha : a < 6) (hx : ¬ ∃ v, v < 20 ∧ x = nI v ∧ ((b_attributeKinds a &&& 4) = 0 ∨ v < 12)) (h : post 0) : wpY_isFact post (g_latest, g_steps, g_mode, g_from, g_to, g_clauses, g_masked, b_attributeKinds, b_sets, b_work, b_sorts, b_entities, b_attributes, b_values, b_others, b_seen, b_reach, b_kinds, b_along, b_left, b_right, b_order, b_number) (nI e) (nI a) x := by
  unfold wpY_isFact
  refine fk_eYT _ he (br_f fk_10 (fk_aYT _ ha (br_f fk_10 ?_)))
  by_cases hv : ∃ v, v < 20 ∧ x = nI v
  · obtain ⟨v, hv, rfl⟩ := hv
    have h4 : ¬ (b_attributeKinds a &&& 4) = 0 := fun h4 => hx ⟨v, hv, rfl, Or.inl h4⟩
    have h12 : ¬ v < 12 := fun h12 => hx ⟨v, hv, rfl, Or.inr h12⟩
    refine fk_vYT _ hv (br_f fk_10 (fk_linkYT ha h4 (br_f fk_10 (fk_eYF _ ?_ (br_t rfl h)))))
    rintro ⟨e', h1, h2⟩
    rw [nI_eq (by omega) (by omega)] at h2
    omega
  · exact fk_vYF _ hv (br_t rfl h)
variable {s C : Nat}
theorem fk_gX1 {post : Int32 → SX → Prop} {p0 p1 p2 p3 p4 : Int32} (hs : s < 10) (h : post (nI (s + 1)) (f_latest, f_kept, nI (s + 1), f_mode, f_since, f_until, f_clauses, f_levels, f_asked, f_level, f_assigned, f_bounded, a_kinds, a_keptEntity, a_keptAttribute, a_keptValue, a_came, a_went, a_now, a_work, upd a_stepKind s p0, upd a_stepEntity s p1, upd a_stepAttribute s p2, upd a_stepValue s p3, upd a_stepOther s p4, a_row, a_column, a_reach, a_clauseKind, a_clauseAttribute, a_left, a_right, a_order, a_rest, a_number, a_bound)) : wpX_gather post (f_latest, f_kept, nI s, f_mode, f_since, f_until, f_clauses, f_levels, f_asked, f_level, f_assigned, f_bounded, a_kinds, a_keptEntity, a_keptAttribute, a_keptValue, a_came, a_went, a_now, a_work, a_stepKind, a_stepEntity, a_stepAttribute, a_stepValue, a_stepOther, a_row, a_column, a_reach, a_clauseKind, a_clauseAttribute, a_left, a_right, a_order, a_rest, a_number, a_bound) p0 p1 p2 p3 p4 :=
  have hi : vp_in (nI s) 10 := vp_in_nI hs (by omega)
  br_t (nI_lt (b := 10) hs (by omega)) ⟨hi, nm_r (fk_ucl (by omega)) ⟨hi, nm_r (fk_ucl (by omega)) ⟨hi, nm_r (fk_ucl (by omega)) ⟨hi, nm_r (fk_ucl (by omega)) ⟨hi, nm_r (fk_ucl (by omega)) (nm_r (nI_1 s) h)⟩⟩⟩⟩⟩
theorem fk_gX0 {post : Int32 → SX → Prop} {p0 p1 p2 p3 p4 : Int32} (hs : ¬ s < 10) (hb : s ≤ 10) (h : post (-2) (f_latest, f_kept, nI s, f_mode, f_since, f_until, f_clauses, f_levels, f_asked, f_level, f_assigned, f_bounded, a_kinds, a_keptEntity, a_keptAttribute, a_keptValue, a_came, a_went, a_now, a_work, a_stepKind, a_stepEntity, a_stepAttribute, a_stepValue, a_stepOther, a_row, a_column, a_reach, a_clauseKind, a_clauseAttribute, a_left, a_right, a_order, a_rest, a_number, a_bound)) : wpX_gather post (f_latest, f_kept, nI s, f_mode, f_since, f_until, f_clauses, f_levels, f_asked, f_level, f_assigned, f_bounded, a_kinds, a_keptEntity, a_keptAttribute, a_keptValue, a_came, a_went, a_now, a_work, a_stepKind, a_stepEntity, a_stepAttribute, a_stepValue, a_stepOther, a_row, a_column, a_reach, a_clauseKind, a_clauseAttribute, a_left, a_right, a_order, a_rest, a_number, a_bound) p0 p1 p2 p3 p4 :=
  br_f (nI_nlt (b := 10) (by omega) (by omega)) h
theorem fk_gY1 {post : Int32 → SY → Prop} {p0 p1 p2 p3 p4 : Int32} (hs : s < 10) (h : post (nI (s + 1)) (g_latest, nI (s + 1), g_mode, g_from, g_to, g_clauses, g_masked, b_attributeKinds, b_sets, b_work, upd b_sorts s p0, upd b_entities s p1, upd b_attributes s p2, upd b_values s p3, upd b_others s p4, b_seen, b_reach, b_kinds, b_along, b_left, b_right, b_order, b_number)) : wpY_gather post (g_latest, nI s, g_mode, g_from, g_to, g_clauses, g_masked, b_attributeKinds, b_sets, b_work, b_sorts, b_entities, b_attributes, b_values, b_others, b_seen, b_reach, b_kinds, b_along, b_left, b_right, b_order, b_number) p0 p1 p2 p3 p4 :=
  have hi : vp_in (nI s) 10 := vp_in_nI hs (by omega)
  br_f (fun z => absurd ((nI_eq (b := 10) (by omega) (by omega)).mp z) (by omega)) ⟨hi, nm_r (fk_ucl (by omega)) ⟨hi, nm_r (fk_ucl (by omega)) ⟨hi, nm_r (fk_ucl (by omega)) ⟨hi, nm_r (fk_ucl (by omega)) ⟨hi, nm_r (fk_ucl (by omega)) (nm_r (nI_1 s) h)⟩⟩⟩⟩⟩
theorem fk_gY0 {post : Int32 → SY → Prop} {p0 p1 p2 p3 p4 : Int32} (hs : ¬ s < 10) (hb : s ≤ 10) (h : post (-2) (g_latest, nI s, g_mode, g_from, g_to, g_clauses, g_masked, b_attributeKinds, b_sets, b_work, b_sorts, b_entities, b_attributes, b_values, b_others, b_seen, b_reach, b_kinds, b_along, b_left, b_right, b_order, b_number)) : wpY_gather post (g_latest, nI s, g_mode, g_from, g_to, g_clauses, g_masked, b_attributeKinds, b_sets, b_work, b_sorts, b_entities, b_attributes, b_values, b_others, b_seen, b_reach, b_kinds, b_along, b_left, b_right, b_order, b_number) p0 p1 p2 p3 p4 :=
  br_t (show nI s = nI 10 from congrArg nI (by omega)) h
end
theorem fr_S_push {s k e a v w : Nat} {a_sk a_se a_sa a_sv a_so b_at : Nat → Int32} {x : Int32} (h : fr_S s a_sk a_se a_sa a_sv a_so b_at) (hs : s < 10) (hk : k ≤ 4) (he : e < 12) (ha : a < 6) (hv : v < 20) (hw : w < 20) (hx : x = if k = 3 then -1 else nI a) :
    fr_S (s + 1) (upd a_sk s (nI k)) (upd a_se s (nI e)) (upd a_sa s (nI a)) (upd a_sv s (nI v)) (upd a_so s (nI w)) (upd b_at s x) := by
  refine ⟨by omega, fun i hi => ?_⟩
  by_cases hz : i = s
  · subst hz
    exact ⟨k, e, a, v, w, ⟨hk, he, ha, hv, hw⟩, pk_us, pk_us, pk_us, pk_us, pk_us, by rw [pk_us, hx]⟩
  · obtain ⟨k', e', a', v', w', hb, h1, h2, h3, h4, h5, h6⟩ := h.2 i (by omega)
    exact ⟨k', e', a', v', w', hb, by rw [pk_un hz, h1], by rw [pk_un hz, h2], by rw [pk_un hz, h3], by rw [pk_un hz, h4], by rw [pk_un hz, h5], by rw [pk_un hz, h6]⟩
theorem i_vc_add {k : Nat} {u : SX} {v : SY} (I : i_Rel k u v) (hk : k + 5 ≤ 2560) (v1 : Int32) (v2 : Int32) (v3 : Int32) : wpX_add (fun r u' => wpY_add (fun r' v' => r' = r ∧ i_Rel (k + 5) u' v') v v1 v2 v3) u v1 v2 v3 := by
  refine fr_el (P := fun u v => wpX_add (fun r u' => wpY_add (fun r' v' => r' = r ∧ i_Rel (k + 5) u' v') v v1 v2 v3) u v1 v2 v3) I ?_
  intro L K s md sn un C f_levels f_asked f_level f_assigned f_bounded g_masked a_kinds a_keptEntity a_keptAttribute a_keptValue a_came a_went a_now a_work a_stepKind a_stepEntity a_stepAttribute a_stepValue a_stepOther a_row a_column a_reach a_clauseKind a_clauseAttribute a_left a_right a_order a_rest a_number a_bound b_sets b_work b_attributes b_seen b_reach b_along b_order b_number h1 h2 h3 h4
  unfold wpX_add wpY_add
  by_cases hE : ∃ e, e < 12 ∧ v1 = nI e
  · obtain ⟨e, he, rfl⟩ := hE
    by_cases hA : ∃ a, a < 6 ∧ v2 = nI a
    · obtain ⟨a, ha, rfl⟩ := hA
      by_cases hF : ∃ v, v < 20 ∧ v3 = nI v ∧ ((a_kinds a &&& 4) = 0 ∨ v < 12)
      · obtain ⟨v, hv, rfl, hl⟩ := hF
        refine fk_eT he (br_f fk_10 (fk_aT ha (br_f fk_10 (fk_fitsT ha hv hl (br_f fk_10 ?_)))))
        by_cases hs : s < 10
        · refine fk_gX1 hs ?_
          refine fk_factT he ha hv hl (br_f fk_10 ?_)
          exact fk_gY1 hs ⟨rfl, fr_in h1 (fr_S_push (k := 0) (w := 0) h2 hs (by omega) he ha hv (by omega) rfl) h3 h4⟩
        · refine fk_gX0 hs h2.1 ?_
          refine fk_factT he ha hv hl (br_f fk_10 ?_)
          exact fk_gY0 hs h2.1 ⟨rfl, fr_in h1 h2 h3 h4⟩
      · refine fk_eT he (br_f fk_10 (fk_aT ha (br_f fk_10 (fk_fitsF ha hF (br_t rfl ?_)))))
        exact fk_factF he ha hF (br_t rfl ⟨rfl, fr_in h1 h2 h3 h4⟩)
    · refine fk_eT he (br_f fk_10 (fk_aF hA (br_t rfl ?_)))
      exact fk_factA he hA (br_t rfl ⟨rfl, fr_in h1 h2 h3 h4⟩)
  · refine fk_eF hE (br_t rfl ?_)
    exact fk_factE hE (br_t rfl ⟨rfl, fr_in h1 h2 h3 h4⟩)
theorem i_vc_drop {k : Nat} {u : SX} {v : SY} (I : i_Rel k u v) (hk : k + 5 ≤ 2560) (v1 : Int32) (v2 : Int32) (v3 : Int32) : wpX_drop (fun r u' => wpY_drop (fun r' v' => r' = r ∧ i_Rel (k + 5) u' v') v v1 v2 v3) u v1 v2 v3 := by
  refine fr_el (P := fun u v => wpX_drop (fun r u' => wpY_drop (fun r' v' => r' = r ∧ i_Rel (k + 5) u' v') v v1 v2 v3) u v1 v2 v3) I ?_
  intro L K s md sn un C f_levels f_asked f_level f_assigned f_bounded g_masked a_kinds a_keptEntity a_keptAttribute a_keptValue a_came a_went a_now a_work a_stepKind a_stepEntity a_stepAttribute a_stepValue a_stepOther a_row a_column a_reach a_clauseKind a_clauseAttribute a_left a_right a_order a_rest a_number a_bound b_sets b_work b_attributes b_seen b_reach b_along b_order b_number h1 h2 h3 h4
  unfold wpX_drop wpY_drop
  by_cases hE : ∃ e, e < 12 ∧ v1 = nI e
  · obtain ⟨e, he, rfl⟩ := hE
    by_cases hA : ∃ a, a < 6 ∧ v2 = nI a
    · obtain ⟨a, ha, rfl⟩ := hA
      by_cases hF : ∃ v, v < 20 ∧ v3 = nI v ∧ ((a_kinds a &&& 4) = 0 ∨ v < 12)
      · obtain ⟨v, hv, rfl, hl⟩ := hF
        refine fk_eT he (br_f fk_10 (fk_aT ha (br_f fk_10 (fk_fitsT ha hv hl (br_f fk_10 ?_)))))
        by_cases hs : s < 10
        · refine fk_gX1 hs ?_
          refine fk_factT he ha hv hl (br_f fk_10 ?_)
          exact fk_gY1 hs ⟨rfl, fr_in h1 (fr_S_push (k := 1) (w := 0) h2 hs (by omega) he ha hv (by omega) rfl) h3 h4⟩
        · refine fk_gX0 hs h2.1 ?_
          refine fk_factT he ha hv hl (br_f fk_10 ?_)
          exact fk_gY0 hs h2.1 ⟨rfl, fr_in h1 h2 h3 h4⟩
      · refine fk_eT he (br_f fk_10 (fk_aT ha (br_f fk_10 (fk_fitsF ha hF (br_t rfl ?_)))))
        exact fk_factF he ha hF (br_t rfl ⟨rfl, fr_in h1 h2 h3 h4⟩)
    · refine fk_eT he (br_f fk_10 (fk_aF hA (br_t rfl ?_)))
      exact fk_factA he hA (br_t rfl ⟨rfl, fr_in h1 h2 h3 h4⟩)
  · refine fk_eF hE (br_t rfl ?_)
    exact fk_factE hE (br_t rfl ⟨rfl, fr_in h1 h2 h3 h4⟩)
theorem i_vc_swap {k : Nat} {u : SX} {v : SY} (I : i_Rel k u v) (hk : k + 5 ≤ 2560) (v1 : Int32) (v2 : Int32) (v3 : Int32) (v4 : Int32) : wpX_swap (fun r u' => wpY_swap (fun r' v' => r' = r ∧ i_Rel (k + 5) u' v') v v1 v2 v3 v4) u v1 v2 v3 v4 := by
  refine fr_el (P := fun u v => wpX_swap (fun r u' => wpY_swap (fun r' v' => r' = r ∧ i_Rel (k + 5) u' v') v v1 v2 v3 v4) u v1 v2 v3 v4) I ?_
  intro L K s md sn un C f_levels f_asked f_level f_assigned f_bounded g_masked a_kinds a_keptEntity a_keptAttribute a_keptValue a_came a_went a_now a_work a_stepKind a_stepEntity a_stepAttribute a_stepValue a_stepOther a_row a_column a_reach a_clauseKind a_clauseAttribute a_left a_right a_order a_rest a_number a_bound b_sets b_work b_attributes b_seen b_reach b_along b_order b_number h1 h2 h3 h4
  unfold wpX_swap wpY_swap
  by_cases hE : ∃ e, e < 12 ∧ v1 = nI e
  · obtain ⟨e, he, rfl⟩ := hE
    by_cases hA : ∃ a, a < 6 ∧ v2 = nI a
    · obtain ⟨a, ha, rfl⟩ := hA
      by_cases hF : ∃ v, v < 20 ∧ v3 = nI v ∧ ((a_kinds a &&& 4) = 0 ∨ v < 12)
      · obtain ⟨v, hv, rfl, hl⟩ := hF
        by_cases hG : ∃ v, v < 20 ∧ v4 = nI v ∧ ((a_kinds a &&& 4) = 0 ∨ v < 12)
        · obtain ⟨w, hw, rfl, hm⟩ := hG
          refine fk_eT he (br_f fk_10 (fk_aT ha (br_f fk_10 (fk_fitsT ha hv hl (br_f fk_10 (fk_fitsT ha hw hm (br_f fk_10 ?_)))))))
          by_cases hs : s < 10
          · refine fk_gX1 hs ?_
            refine fk_factT he ha hv hl (br_f fk_10 (fk_factT he ha hw hm (br_f fk_10 ?_)))
            exact fk_gY1 hs ⟨rfl, fr_in h1 (fr_S_push (k := 4) h2 hs (by omega) he ha hv hw rfl) h3 h4⟩
          · refine fk_gX0 hs h2.1 ?_
            refine fk_factT he ha hv hl (br_f fk_10 (fk_factT he ha hw hm (br_f fk_10 ?_)))
            exact fk_gY0 hs h2.1 ⟨rfl, fr_in h1 h2 h3 h4⟩
        · refine fk_eT he (br_f fk_10 (fk_aT ha (br_f fk_10 (fk_fitsT ha hv hl (br_f fk_10 (fk_fitsF ha hG (br_t rfl ?_)))))))
          exact fk_factT he ha hv hl (br_f fk_10 (fk_factF he ha hG (br_t rfl ⟨rfl, fr_in h1 h2 h3 h4⟩)))
      · refine fk_eT he (br_f fk_10 (fk_aT ha (br_f fk_10 (fk_fitsF ha hF (br_t rfl ?_)))))
        exact fk_factF he ha hF (br_t rfl ⟨rfl, fr_in h1 h2 h3 h4⟩)
    · refine fk_eT he (br_f fk_10 (fk_aF hA (br_t rfl ?_)))
      exact fk_factA he hA (br_t rfl ⟨rfl, fr_in h1 h2 h3 h4⟩)
  · refine fk_eF hE (br_t rfl ?_)
    exact fk_factE hE (br_t rfl ⟨rfl, fr_in h1 h2 h3 h4⟩)
theorem i_vc_dropAll {k : Nat} {u : SX} {v : SY} (I : i_Rel k u v) (hk : k + 5 ≤ 2560) (v1 : Int32) (v2 : Int32) : wpX_dropAll (fun r u' => wpY_dropAll (fun r' v' => r' = r ∧ i_Rel (k + 5) u' v') v v1 v2) u v1 v2 := by
  refine fr_el (P := fun u v => wpX_dropAll (fun r u' => wpY_dropAll (fun r' v' => r' = r ∧ i_Rel (k + 5) u' v') v v1 v2) u v1 v2) I ?_
  intro L K s md sn un C f_levels f_asked f_level f_assigned f_bounded g_masked a_kinds a_keptEntity a_keptAttribute a_keptValue a_came a_went a_now a_work a_stepKind a_stepEntity a_stepAttribute a_stepValue a_stepOther a_row a_column a_reach a_clauseKind a_clauseAttribute a_left a_right a_order a_rest a_number a_bound b_sets b_work b_attributes b_seen b_reach b_along b_order b_number h1 h2 h3 h4
  unfold wpX_dropAll wpY_dropAll
  by_cases hE : ∃ e, e < 12 ∧ v1 = nI e
  · obtain ⟨e, he, rfl⟩ := hE
    by_cases hA : ∃ a, a < 6 ∧ v2 = nI a
    · obtain ⟨a, ha, rfl⟩ := hA
      refine fk_eT he (br_f fk_10 (fk_aT ha (br_f fk_10 ?_)))
      by_cases hs : s < 10
      · refine fk_gX1 hs ?_
        refine fk_eYT _ he (br_f fk_10 (fk_aYT _ ha (br_f fk_10 ?_)))
        exact fk_gY1 hs ⟨rfl, fr_in h1 (fr_S_push (k := 2) (v := 0) (w := 0) h2 hs (by omega) he ha (by omega) (by omega) rfl) h3 h4⟩
      · refine fk_gX0 hs h2.1 ?_
        refine fk_eYT _ he (br_f fk_10 (fk_aYT _ ha (br_f fk_10 ?_)))
        exact fk_gY0 hs h2.1 ⟨rfl, fr_in h1 h2 h3 h4⟩
    · refine fk_eT he (br_f fk_10 (fk_aF hA (br_t rfl ?_)))
      exact fk_eYT _ he (br_f fk_10 (fk_aYF _ hA (br_t rfl ⟨rfl, fr_in h1 h2 h3 h4⟩)))
  · refine fk_eF hE (br_t rfl ?_)
    exact fk_eYF _ hE (br_t rfl ⟨rfl, fr_in h1 h2 h3 h4⟩)
theorem i_vc_dropEntity {k : Nat} {u : SX} {v : SY} (I : i_Rel k u v) (hk : k + 5 ≤ 2560) (v1 : Int32) : wpX_dropEntity (fun r u' => wpY_dropEntity (fun r' v' => r' = r ∧ i_Rel (k + 5) u' v') v v1) u v1 := by
  refine fr_el (P := fun u v => wpX_dropEntity (fun r u' => wpY_dropEntity (fun r' v' => r' = r ∧ i_Rel (k + 5) u' v') v v1) u v1) I ?_
  intro L K s md sn un C f_levels f_asked f_level f_assigned f_bounded g_masked a_kinds a_keptEntity a_keptAttribute a_keptValue a_came a_went a_now a_work a_stepKind a_stepEntity a_stepAttribute a_stepValue a_stepOther a_row a_column a_reach a_clauseKind a_clauseAttribute a_left a_right a_order a_rest a_number a_bound b_sets b_work b_attributes b_seen b_reach b_along b_order b_number h1 h2 h3 h4
  unfold wpX_dropEntity wpY_dropEntity
  by_cases hE : ∃ e, e < 12 ∧ v1 = nI e
  · obtain ⟨e, he, rfl⟩ := hE
    refine fk_eT he (br_f fk_10 ?_)
    by_cases hs : s < 10
    · refine fk_gX1 hs ?_
      refine fk_eYT _ he (br_f fk_10 ?_)
      exact fk_gY1 hs ⟨rfl, fr_in h1 (fr_S_push (k := 3) (a := 0) (v := 0) (w := 0) h2 hs (by omega) he (by omega) (by omega) (by omega) rfl) h3 h4⟩
    · refine fk_gX0 hs h2.1 ?_
      refine fk_eYT _ he (br_f fk_10 ?_)
      exact fk_gY0 hs h2.1 ⟨rfl, fr_in h1 h2 h3 h4⟩
  · refine fk_eF hE (br_t rfl ?_)
    exact fk_eYF _ hE (br_t rfl ⟨rfl, fr_in h1 h2 h3 h4⟩)
theorem fr_S_0 {s : Nat} {a_sk a_se a_sa a_sv a_so b_at : Nat → Int32} : fr_S 0 a_sk a_se a_sa a_sv a_so b_at := ⟨by omega, fun i hi => absurd hi (by omega)⟩
theorem i_vc_forget {k : Nat} {u : SX} {v : SY} (I : i_Rel k u v) (hk : k + 5 ≤ 2560) : wpX_forget (fun r u' => wpY_forget (fun r' v' => r' = r ∧ i_Rel (k + 5) u' v') v) u := by
  refine fr_el (P := fun u v => wpX_forget (fun r u' => wpY_forget (fun r' v' => r' = r ∧ i_Rel (k + 5) u' v') v) u) I ?_
  intro L K s md sn un C f_levels f_asked f_level f_assigned f_bounded g_masked a_kinds a_keptEntity a_keptAttribute a_keptValue a_came a_went a_now a_work a_stepKind a_stepEntity a_stepAttribute a_stepValue a_stepOther a_row a_column a_reach a_clauseKind a_clauseAttribute a_left a_right a_order a_rest a_number a_bound b_sets b_work b_attributes b_seen b_reach b_along b_order b_number h1 h2 h3 h4
  unfold wpX_forget wpY_forget
  exact ⟨rfl, fr_in (s := 0) h1 (fr_S_0 (s := s)) h3 h4⟩
theorem i_vc_latest {k : Nat} {u : SX} {v : SY} (I : i_Rel k u v) (hk : k + 5 ≤ 2560) : wpX_latest (fun r => wpY_latest (fun r' => r' = r ∧ i_Rel (k + 5) u v) v) u := by
  refine fr_el (P := fun u v => wpX_latest (fun r => wpY_latest (fun r' => r' = r ∧ i_Rel (k + 5) u v) v) u) I ?_
  intro L K s md sn un C f_levels f_asked f_level f_assigned f_bounded g_masked a_kinds a_keptEntity a_keptAttribute a_keptValue a_came a_went a_now a_work a_stepKind a_stepEntity a_stepAttribute a_stepValue a_stepOther a_row a_column a_reach a_clauseKind a_clauseAttribute a_left a_right a_order a_rest a_number a_bound b_sets b_work b_attributes b_seen b_reach b_along b_order b_number h1 h2 h3 h4
  unfold wpX_latest wpY_latest
  exact ⟨rfl, fr_in h1 h2 h3 h4⟩
theorem fr_C_0 {a_ck a_ca a_left a_right b_al : Nat → Int32} : fr_C 0 a_ck a_ca a_left a_right b_al := ⟨by omega, fun i hi => absurd hi (by omega)⟩
theorem i_vc_clearQuery {k : Nat} {u : SX} {v : SY} (I : i_Rel k u v) (hk : k + 5 ≤ 2560) : wpX_clearQuery (fun r u' => wpY_clearQuery (fun r' v' => r' = r ∧ i_Rel (k + 5) u' v') v) u := by
  refine fr_el (P := fun u v => wpX_clearQuery (fun r u' => wpY_clearQuery (fun r' v' => r' = r ∧ i_Rel (k + 5) u' v') v) u) I ?_
  intro L K s md sn un C f_levels f_asked f_level f_assigned f_bounded g_masked a_kinds a_keptEntity a_keptAttribute a_keptValue a_came a_went a_now a_work a_stepKind a_stepEntity a_stepAttribute a_stepValue a_stepOther a_row a_column a_reach a_clauseKind a_clauseAttribute a_left a_right a_order a_rest a_number a_bound b_sets b_work b_attributes b_seen b_reach b_along b_order b_number h1 h2 h3 h4
  unfold wpX_clearQuery wpY_clearQuery
  exact ⟨rfl, fr_in (C := 0) h1 h2 h3 fr_C_0⟩
theorem fr_C_push {C k a x y : Nat} {a_ck a_ca a_left a_right b_al : Nat → Int32} {z : Int32} (h : fr_C C a_ck a_ca a_left a_right b_al) (hs : C < 6) (hk : k ≤ 4) (ha : a < 6) (hx : x < 24) (hy : y < 24) (hz : k ≠ 2 → k ≠ 3 → z = nI a) :
    fr_C (C + 1) (upd a_ck C (nI k)) (upd a_ca C (nI a)) (upd a_left C (nI x)) (upd a_right C (nI y)) (upd b_al C z) := by
  refine ⟨by omega, fun i hi => ?_⟩
  by_cases hc : i = C
  · subst hc
    exact ⟨k, a, x, y, ⟨hk, ha, hx, hy⟩, pk_us, pk_us, pk_us, pk_us, by rw [pk_us]; exact hz⟩
  · obtain ⟨k', a', x', y', hb, h1, h2, h3, h4, h5⟩ := h.2 i (by omega)
    exact ⟨k', a', x', y', hb, by rw [pk_un hc, h1], by rw [pk_un hc, h2], by rw [pk_un hc, h3], by rw [pk_un hc, h4], by rw [pk_un hc]; exact h5⟩
end
section
/-! clause, kind -/
theorem fk_23 (x : Int32) : x < 0 ∨ (¬ x < 0 ∧ 23 < x ∧ ¬ x ≤ 23 ∧ ¬ ∃ j, j < 24 ∧ x = nI j) ∨ ∃ j, j < 24 ∧ x = nI j := by
  by_cases h0 : x < 0
  · exact Or.inl h0
  · obtain ⟨j, hj, rfl⟩ := nI_of h0
    rcases Nat.lt_or_ge j 24 with h | h
    · exact Or.inr (Or.inr ⟨j, h, rfl⟩)
    · refine Or.inr (Or.inl ⟨h0, nI_lt (a := 23) (by omega) hj, nI_ge (a := 23) (by omega) hj, ?_⟩)
      rintro ⟨i, h1, h2⟩
      rw [nI_eq hj (by omega)] at h2
      omega
section
variable {f_latest f_kept f_steps f_mode f_since f_until f_clauses f_levels f_asked f_level f_assigned f_bounded : Int32} {a_kinds a_keptEntity a_keptAttribute a_keptValue a_came a_went a_now a_work a_stepKind a_stepEntity a_stepAttribute a_stepValue a_stepOther a_row a_column a_reach a_clauseKind a_clauseAttribute a_left a_right a_order a_rest a_number a_bound : Nat → Int32}
variable {g_latest g_steps g_mode g_from g_to g_clauses g_masked : Int32} {b_attributeKinds b_sets b_work b_sorts b_entities b_attributes b_values b_others b_seen b_reach b_kinds b_along b_left b_right b_order b_number : Nat → Int32}
variable {C x y : Nat} {x1 x2 x3 x4 x5 : Int32}
theorem fk_c40B {post : Int32 → SX → Prop} (hb : ¬ ((∃ j, j < 24 ∧ x3 = nI j) ∧ ∃ j, j < 24 ∧ x4 = nI j)) (h : post (-1) (f_latest, f_kept, f_steps, f_mode, f_since, f_until, f_clauses, f_levels, f_asked, f_level, f_assigned, f_bounded, a_kinds, a_keptEntity, a_keptAttribute, a_keptValue, a_came, a_went, a_now, a_work, a_stepKind, a_stepEntity, a_stepAttribute, a_stepValue, a_stepOther, a_row, a_column, a_reach, a_clauseKind, a_clauseAttribute, a_left, a_right, a_order, a_rest, a_number, a_bound)) : wX_clause_40 post x1 x2 x3 x4 x5 f_latest f_kept f_steps f_mode f_since f_until f_clauses f_levels f_asked f_level f_assigned f_bounded a_kinds a_keptEntity a_keptAttribute a_keptValue a_came a_went a_now a_work a_stepKind a_stepEntity a_stepAttribute a_stepValue a_stepOther a_row a_column a_reach a_clauseKind a_clauseAttribute a_left a_right a_order a_rest a_number a_bound := by
  rcases fk_23 x3 with h0 | ⟨h0, h1, _⟩ | ⟨i, hi, rfl⟩
  · exact br_t h0 h
  · exact br_f h0 (br_t h1 h)
  · refine br_f (nI_pos (by omega)) (br_f (nI_nlt (a := 23) (by omega) (by omega)) ?_)
    rcases fk_23 x4 with h0 | ⟨h0, _, h1, _⟩ | ⟨j, hj, rfl⟩
    · exact br_t h0 h
    · exact br_f h0 (br_f h1 h)
    · exact absurd ⟨⟨i, hi, rfl⟩, j, hj, rfl⟩ hb
theorem fk_c43B {post : Int32 → SY → Prop} (hb : ¬ ((∃ j, j < 24 ∧ x3 = nI j) ∧ ∃ j, j < 24 ∧ x4 = nI j)) (h : post (-1) (g_latest, g_steps, g_mode, g_from, g_to, g_clauses, g_masked, b_attributeKinds, b_sets, b_work, b_sorts, b_entities, b_attributes, b_values, b_others, b_seen, b_reach, b_kinds, b_along, b_left, b_right, b_order, b_number)) : wY_clause_43 post x1 x2 x3 x4 g_latest g_steps g_mode g_from g_to g_clauses g_masked b_attributeKinds b_sets b_work b_sorts b_entities b_attributes b_values b_others b_seen b_reach b_kinds b_along b_left b_right b_order b_number := by
  rcases fk_23 x3 with h0 | ⟨h0, h1, _⟩ | ⟨i, hi, rfl⟩
  · exact br_t h0 h
  · exact br_f h0 (br_t h1 h)
  · refine br_f (nI_pos (by omega)) (br_f (nI_nlt (a := 23) (by omega) (by omega)) ?_)
    rcases fk_23 x4 with h0 | ⟨h0, _, h1, _⟩ | ⟨j, hj, rfl⟩
    · exact br_t h0 h
    · exact br_f h0 (br_f h1 h)
    · exact absurd ⟨⟨i, hi, rfl⟩, j, hj, rfl⟩ hb
theorem fk_c40F {post : Int32 → SX → Prop} (hx : x < 24) (hy : y < 24) (hC : C = 6) (h : post (-2) (f_latest, f_kept, f_steps, f_mode, f_since, f_until, nI C, f_levels, f_asked, f_level, f_assigned, f_bounded, a_kinds, a_keptEntity, a_keptAttribute, a_keptValue, a_came, a_went, a_now, a_work, a_stepKind, a_stepEntity, a_stepAttribute, a_stepValue, a_stepOther, a_row, a_column, a_reach, a_clauseKind, a_clauseAttribute, a_left, a_right, a_order, a_rest, a_number, a_bound)) : wX_clause_40 post x1 x2 (nI x) (nI y) x5 f_latest f_kept f_steps f_mode f_since f_until (nI C) f_levels f_asked f_level f_assigned f_bounded a_kinds a_keptEntity a_keptAttribute a_keptValue a_came a_went a_now a_work a_stepKind a_stepEntity a_stepAttribute a_stepValue a_stepOther a_row a_column a_reach a_clauseKind a_clauseAttribute a_left a_right a_order a_rest a_number a_bound :=
  br_f (nI_pos (by omega)) (br_f (nI_nlt (a := 23) (by omega) (by omega)) (br_f (nI_pos (by omega)) (br_t (nI_le (b := 23) (by omega) (by omega)) (br_f (nI_nlt (b := 6) (by omega) (by omega)) h))))
theorem fk_c43F {post : Int32 → SY → Prop} (hx : x < 24) (hy : y < 24) (hC : C = 6) (h : post (-2) (g_latest, g_steps, g_mode, g_from, g_to, nI C, g_masked, b_attributeKinds, b_sets, b_work, b_sorts, b_entities, b_attributes, b_values, b_others, b_seen, b_reach, b_kinds, b_along, b_left, b_right, b_order, b_number)) : wY_clause_43 post x1 x2 (nI x) (nI y) g_latest g_steps g_mode g_from g_to (nI C) g_masked b_attributeKinds b_sets b_work b_sorts b_entities b_attributes b_values b_others b_seen b_reach b_kinds b_along b_left b_right b_order b_number :=
  br_f (nI_pos (by omega)) (br_f (nI_nlt (a := 23) (by omega) (by omega)) (br_f (nI_pos (by omega)) (br_t (nI_le (b := 23) (by omega) (by omega)) (br_t (show nI C = nI 6 from congrArg nI hC) h))))
theorem fk_c104 {post : Int32 → SX → Prop} {z0 : Int32} (hC : C < 6) (h : post (nI (C + 1)) (f_latest, f_kept, f_steps, f_mode, f_since, f_until, nI (C + 1), f_levels, f_asked, f_level, f_assigned, f_bounded, a_kinds, a_keptEntity, a_keptAttribute, a_keptValue, a_came, a_went, a_now, a_work, a_stepKind, a_stepEntity, a_stepAttribute, a_stepValue, a_stepOther, a_row, a_column, a_reach, a_clauseKind, upd a_clauseAttribute C z0, upd a_left C x3, upd a_right C x4, a_order, a_rest, a_number, a_bound)) : wX_clause_104 post x3 x4 z0 (nI C) f_latest f_kept f_steps f_mode f_since f_until (nI C) f_levels f_asked f_level f_assigned f_bounded a_kinds a_keptEntity a_keptAttribute a_keptValue a_came a_went a_now a_work a_stepKind a_stepEntity a_stepAttribute a_stepValue a_stepOther a_row a_column a_reach a_clauseKind a_clauseAttribute a_left a_right a_order a_rest a_number a_bound :=
  have hi : vp_in (nI C) 6 := vp_in_nI hC (by omega)
  ⟨hi, nm_r (fk_ucl (by omega)) ⟨hi, nm_r (fk_ucl (by omega)) ⟨hi, nm_r (fk_ucl (by omega)) (nm_r (nI_1 C) h)⟩⟩⟩
theorem fk_c40T0 {post : Int32 → SX → Prop} (hx : x < 24) (hy : y < 24) (hC : C < 6) (h : post (nI (C + 1)) (f_latest, f_kept, f_steps, f_mode, f_since, f_until, nI (C + 1), f_levels, f_asked, f_level, f_assigned, f_bounded, a_kinds, a_keptEntity, a_keptAttribute, a_keptValue, a_came, a_went, a_now, a_work, a_stepKind, a_stepEntity, a_stepAttribute, a_stepValue, a_stepOther, a_row, a_column, a_reach, upd a_clauseKind C x1, upd a_clauseAttribute C 0, upd a_left C (nI x), upd a_right C (nI y), a_order, a_rest, a_number, a_bound)) : wX_clause_40 post x1 x2 (nI x) (nI y) 0 f_latest f_kept f_steps f_mode f_since f_until (nI C) f_levels f_asked f_level f_assigned f_bounded a_kinds a_keptEntity a_keptAttribute a_keptValue a_came a_went a_now a_work a_stepKind a_stepEntity a_stepAttribute a_stepValue a_stepOther a_row a_column a_reach a_clauseKind a_clauseAttribute a_left a_right a_order a_rest a_number a_bound :=
  br_f (nI_pos (by omega)) (br_f (nI_nlt (a := 23) (by omega) (by omega)) (br_f (nI_pos (by omega)) (br_t (nI_le (b := 23) (by omega) (by omega)) (br_t (nI_lt (b := 6) hC (by omega)) ⟨vp_in_nI hC (by omega), nm_r (fk_ucl (by omega)) (br_t rfl (fk_c104 hC h))⟩))))
theorem fk_c40T1 {post : Int32 → SX → Prop} (hx : x < 24) (hy : y < 24) (hC : C < 6) (h : post (nI (C + 1)) (f_latest, f_kept, f_steps, f_mode, f_since, f_until, nI (C + 1), f_levels, f_asked, f_level, f_assigned, f_bounded, a_kinds, a_keptEntity, a_keptAttribute, a_keptValue, a_came, a_went, a_now, a_work, a_stepKind, a_stepEntity, a_stepAttribute, a_stepValue, a_stepOther, a_row, a_column, a_reach, upd a_clauseKind C x1, upd a_clauseAttribute C x2, upd a_left C (nI x), upd a_right C (nI y), a_order, a_rest, a_number, a_bound)) : wX_clause_40 post x1 x2 (nI x) (nI y) 1 f_latest f_kept f_steps f_mode f_since f_until (nI C) f_levels f_asked f_level f_assigned f_bounded a_kinds a_keptEntity a_keptAttribute a_keptValue a_came a_went a_now a_work a_stepKind a_stepEntity a_stepAttribute a_stepValue a_stepOther a_row a_column a_reach a_clauseKind a_clauseAttribute a_left a_right a_order a_rest a_number a_bound :=
  br_f (nI_pos (by omega)) (br_f (nI_nlt (a := 23) (by omega) (by omega)) (br_f (nI_pos (by omega)) (br_t (nI_le (b := 23) (by omega) (by omega)) (br_t (nI_lt (b := 6) hC (by omega)) ⟨vp_in_nI hC (by omega), nm_r (fk_ucl (by omega)) (br_f fk_10 (fk_c104 hC h))⟩))))
theorem fk_c43T {post : Int32 → SY → Prop} (hx : x < 24) (hy : y < 24) (hC : C < 6) (h : post (nI (C + 1)) (g_latest, g_steps, g_mode, g_from, g_to, nI (C + 1), g_masked, b_attributeKinds, b_sets, b_work, b_sorts, b_entities, b_attributes, b_values, b_others, b_seen, b_reach, upd b_kinds C x1, upd b_along C x2, upd b_left C (nI x), upd b_right C (nI y), b_order, b_number)) : wY_clause_43 post x1 x2 (nI x) (nI y) g_latest g_steps g_mode g_from g_to (nI C) g_masked b_attributeKinds b_sets b_work b_sorts b_entities b_attributes b_values b_others b_seen b_reach b_kinds b_along b_left b_right b_order b_number :=
  have hi : vp_in (nI C) 6 := vp_in_nI hC (by omega)
  br_f (nI_pos (by omega)) (br_f (nI_nlt (a := 23) (by omega) (by omega)) (br_f (nI_pos (by omega)) (br_t (nI_le (b := 23) (by omega) (by omega)) (br_f (fun z => absurd ((nI_eq (b := 6) (by omega) (by omega)).mp z) (by omega)) ⟨hi, nm_r (fk_ucl (by omega)) ⟨hi, nm_r (fk_ucl (by omega)) ⟨hi, nm_r (fk_ucl (by omega)) ⟨hi, nm_r (fk_ucl (by omega)) (nm_r (nI_1 C) h)⟩⟩⟩⟩))))
theorem fk_clYn {post : Int32 → SY → Prop} {k : Nat} (hk : k = 2 ∨ k = 3) (h : wY_clause_43 post (nI k) x2 x3 x4 g_latest g_steps g_mode g_from g_to g_clauses g_masked b_attributeKinds b_sets b_work b_sorts b_entities b_attributes b_values b_others b_seen b_reach b_kinds b_along b_left b_right b_order b_number) : wpY_clause post (g_latest, g_steps, g_mode, g_from, g_to, g_clauses, g_masked, b_attributeKinds, b_sets, b_work, b_sorts, b_entities, b_attributes, b_values, b_others, b_seen, b_reach, b_kinds, b_along, b_left, b_right, b_order, b_number) (nI k) x2 x3 x4 := by
  rcases hk with rfl | rfl
  · exact br_f (by decide) (br_f (by decide) (br_f (by decide) (br_f (by decide) (br_f (by decide) (br_t rfl h)))))
  · exact br_f (by decide) (br_f (by decide) (br_f (by decide) (br_f (by decide) (br_f (by decide) (br_t rfl h)))))
theorem fk_clYa {post : Int32 → SY → Prop} {k : Nat} (hk : k = 0 ∨ k = 1 ∨ k = 4) (h : wpY_isAttribute (fun r => (r = 0 → post (-1) (g_latest, g_steps, g_mode, g_from, g_to, g_clauses, g_masked, b_attributeKinds, b_sets, b_work, b_sorts, b_entities, b_attributes, b_values, b_others, b_seen, b_reach, b_kinds, b_along, b_left, b_right, b_order, b_number)) ∧ (¬ r = 0 → wY_clause_43 post (nI k) x2 x3 x4 g_latest g_steps g_mode g_from g_to g_clauses g_masked b_attributeKinds b_sets b_work b_sorts b_entities b_attributes b_values b_others b_seen b_reach b_kinds b_along b_left b_right b_order b_number)) (g_latest, g_steps, g_mode, g_from, g_to, g_clauses, g_masked, b_attributeKinds, b_sets, b_work, b_sorts, b_entities, b_attributes, b_values, b_others, b_seen, b_reach, b_kinds, b_along, b_left, b_right, b_order, b_number) x2) : wpY_clause post (g_latest, g_steps, g_mode, g_from, g_to, g_clauses, g_masked, b_attributeKinds, b_sets, b_work, b_sorts, b_entities, b_attributes, b_values, b_others, b_seen, b_reach, b_kinds, b_along, b_left, b_right, b_order, b_number) (nI k) x2 x3 x4 := by
  rcases hk with rfl | rfl | rfl
  · exact br_t rfl (br_f (by decide) (br_f (by decide) (br_f (by decide) h)))
  · exact br_f (by decide) (br_t rfl (br_f (by decide) (br_f (by decide) (br_f (by decide) h))))
  · exact br_f (by decide) (br_f (by decide) (br_t rfl (br_f (by decide) (br_f (by decide) (br_f (by decide) h)))))
theorem fk_clYb {post : Int32 → SY → Prop} (hk : ¬ ∃ k, k < 5 ∧ x1 = nI k) (h : post (-1) (g_latest, g_steps, g_mode, g_from, g_to, g_clauses, g_masked, b_attributeKinds, b_sets, b_work, b_sorts, b_entities, b_attributes, b_values, b_others, b_seen, b_reach, b_kinds, b_along, b_left, b_right, b_order, b_number)) : wpY_clause post (g_latest, g_steps, g_mode, g_from, g_to, g_clauses, g_masked, b_attributeKinds, b_sets, b_work, b_sorts, b_entities, b_attributes, b_values, b_others, b_seen, b_reach, b_kinds, b_along, b_left, b_right, b_order, b_number) x1 x2 x3 x4 := by
  refine br_f (fun z => hk ⟨0, by omega, z⟩) (br_f (fun z => hk ⟨1, by omega, z⟩) (br_f (fun z => hk ⟨4, by omega, z⟩) ?_))
  by_cases h0 : x1 < 0
  · exact br_t h0 h
  · obtain ⟨j, hj, rfl⟩ := nI_of h0
    have hl : ¬ j < 5 := fun hl => hk ⟨j, hl, rfl⟩
    exact br_f h0 (br_t (nI_lt (a := 4) (by omega) hj) h)
theorem fk_clXb {post : Int32 → SX → Prop} (hk : ¬ ∃ k, k < 5 ∧ x1 = nI k) (h : post (-1) (f_latest, f_kept, f_steps, f_mode, f_since, f_until, f_clauses, f_levels, f_asked, f_level, f_assigned, f_bounded, a_kinds, a_keptEntity, a_keptAttribute, a_keptValue, a_came, a_went, a_now, a_work, a_stepKind, a_stepEntity, a_stepAttribute, a_stepValue, a_stepOther, a_row, a_column, a_reach, a_clauseKind, a_clauseAttribute, a_left, a_right, a_order, a_rest, a_number, a_bound)) : wpX_clause post (f_latest, f_kept, f_steps, f_mode, f_since, f_until, f_clauses, f_levels, f_asked, f_level, f_assigned, f_bounded, a_kinds, a_keptEntity, a_keptAttribute, a_keptValue, a_came, a_went, a_now, a_work, a_stepKind, a_stepEntity, a_stepAttribute, a_stepValue, a_stepOther, a_row, a_column, a_reach, a_clauseKind, a_clauseAttribute, a_left, a_right, a_order, a_rest, a_number, a_bound) x1 x2 x3 x4 := by
  by_cases h0 : x1 < 0
  · exact br_t h0 h
  · obtain ⟨j, hj, rfl⟩ := nI_of h0
    have hl : ¬ j < 5 := fun hl => hk ⟨j, hl, rfl⟩
    exact br_f h0 (br_f (nI_ge (a := 4) (by omega) hj) h)
theorem fk_clXn {post : Int32 → SX → Prop} {k : Nat} (hk : k = 2 ∨ k = 3) (h : wX_clause_40 post (nI k) x2 x3 x4 0 f_latest f_kept f_steps f_mode f_since f_until f_clauses f_levels f_asked f_level f_assigned f_bounded a_kinds a_keptEntity a_keptAttribute a_keptValue a_came a_went a_now a_work a_stepKind a_stepEntity a_stepAttribute a_stepValue a_stepOther a_row a_column a_reach a_clauseKind a_clauseAttribute a_left a_right a_order a_rest a_number a_bound) : wpX_clause post (f_latest, f_kept, f_steps, f_mode, f_since, f_until, f_clauses, f_levels, f_asked, f_level, f_assigned, f_bounded, a_kinds, a_keptEntity, a_keptAttribute, a_keptValue, a_came, a_went, a_now, a_work, a_stepKind, a_stepEntity, a_stepAttribute, a_stepValue, a_stepOther, a_row, a_column, a_reach, a_clauseKind, a_clauseAttribute, a_left, a_right, a_order, a_rest, a_number, a_bound) (nI k) x2 x3 x4 := by
  rcases hk with rfl | rfl
  · exact br_f (by decide) (br_t (by decide) (br_t rfl (br_t rfl h)))
  · exact br_f (by decide) (br_t (by decide) (br_f (by decide) (br_t rfl (br_t rfl h))))
theorem fk_clXa {post : Int32 → SX → Prop} {k : Nat} (hk : k = 0 ∨ k = 1 ∨ k = 4) (h : wpX_isAttribute (fun r => (r = 0 → post (-1) (f_latest, f_kept, f_steps, f_mode, f_since, f_until, f_clauses, f_levels, f_asked, f_level, f_assigned, f_bounded, a_kinds, a_keptEntity, a_keptAttribute, a_keptValue, a_came, a_went, a_now, a_work, a_stepKind, a_stepEntity, a_stepAttribute, a_stepValue, a_stepOther, a_row, a_column, a_reach, a_clauseKind, a_clauseAttribute, a_left, a_right, a_order, a_rest, a_number, a_bound)) ∧ (¬ r = 0 → wX_clause_40 post (nI k) x2 x3 x4 1 f_latest f_kept f_steps f_mode f_since f_until f_clauses f_levels f_asked f_level f_assigned f_bounded a_kinds a_keptEntity a_keptAttribute a_keptValue a_came a_went a_now a_work a_stepKind a_stepEntity a_stepAttribute a_stepValue a_stepOther a_row a_column a_reach a_clauseKind a_clauseAttribute a_left a_right a_order a_rest a_number a_bound)) x2) : wpX_clause post (f_latest, f_kept, f_steps, f_mode, f_since, f_until, f_clauses, f_levels, f_asked, f_level, f_assigned, f_bounded, a_kinds, a_keptEntity, a_keptAttribute, a_keptValue, a_came, a_went, a_now, a_work, a_stepKind, a_stepEntity, a_stepAttribute, a_stepValue, a_stepOther, a_row, a_column, a_reach, a_clauseKind, a_clauseAttribute, a_left, a_right, a_order, a_rest, a_number, a_bound) (nI k) x2 x3 x4 := by
  rcases hk with rfl | rfl | rfl
  · exact br_f (by decide) (br_t (by decide) (br_f (by decide) (br_f (by decide) (br_f (by decide) h))))
  · exact br_f (by decide) (br_t (by decide) (br_f (by decide) (br_f (by decide) (br_f (by decide) h))))
  · exact br_f (by decide) (br_t (by decide) (br_f (by decide) (br_f (by decide) (br_f (by decide) h))))
end
theorem i_vc_clause {k : Nat} {u : SX} {v : SY} (I : i_Rel k u v) (hk : k + 5 ≤ 2560) (v1 : Int32) (v2 : Int32) (v3 : Int32) (v4 : Int32) : wpX_clause (fun r u' => wpY_clause (fun r' v' => r' = r ∧ i_Rel (k + 5) u' v') v v1 v2 v3 v4) u v1 v2 v3 v4 := by
  refine fr_el (P := fun u v => wpX_clause (fun r u' => wpY_clause (fun r' v' => r' = r ∧ i_Rel (k + 5) u' v') v v1 v2 v3 v4) u v1 v2 v3 v4) I ?_
  intro L K s md sn un C f_levels f_asked f_level f_assigned f_bounded g_masked a_kinds a_keptEntity a_keptAttribute a_keptValue a_came a_went a_now a_work a_stepKind a_stepEntity a_stepAttribute a_stepValue a_stepOther a_row a_column a_reach a_clauseKind a_clauseAttribute a_left a_right a_order a_rest a_number a_bound b_sets b_work b_attributes b_seen b_reach b_along b_order b_number h1 h2 h3 h4
  by_cases hK : ∃ q, q < 5 ∧ v1 = nI q
  · obtain ⟨q, hq, rfl⟩ := hK
    by_cases hn : q = 2 ∨ q = 3
    · by_cases hb : (∃ j, j < 24 ∧ v3 = nI j) ∧ ∃ j, j < 24 ∧ v4 = nI j
      · obtain ⟨⟨x, hx, rfl⟩, y, hy, rfl⟩ := hb
        by_cases hC : C < 6
        · refine fk_clXn hn (fk_c40T0 hx hy hC ?_)
          exact fk_clYn hn (fk_c43T hx hy hC ⟨rfl, fr_in h1 h2 h3 (fr_C_push (a := 0) h4 hC (by omega) (by omega) hx hy (fun z1 z2 => absurd hn (by omega)))⟩)
        · have h6 : C = 6 := by have := h4.1; omega
          refine fk_clXn hn (fk_c40F hx hy h6 ?_)
          exact fk_clYn hn (fk_c43F hx hy h6 ⟨rfl, fr_in h1 h2 h3 h4⟩)
      · refine fk_clXn hn (fk_c40B hb ?_)
        exact fk_clYn hn (fk_c43B hb ⟨rfl, fr_in h1 h2 h3 h4⟩)
    · have hm : q = 0 ∨ q = 1 ∨ q = 4 := by omega
      by_cases hA : ∃ a, a < 6 ∧ v2 = nI a
      · obtain ⟨a, ha, rfl⟩ := hA
        by_cases hb : (∃ j, j < 24 ∧ v3 = nI j) ∧ ∃ j, j < 24 ∧ v4 = nI j
        · obtain ⟨⟨x, hx, rfl⟩, y, hy, rfl⟩ := hb
          by_cases hC : C < 6
          · refine fk_clXa hm (fk_aT ha (br_f fk_10 (fk_c40T1 hx hy hC ?_)))
            exact fk_clYa hm (fk_aYT _ ha (br_f fk_10 (fk_c43T hx hy hC ⟨rfl, fr_in h1 h2 h3 (fr_C_push (a := a) h4 hC (by omega) ha hx hy (fun _ _ => rfl))⟩)))
          · have h6 : C = 6 := by have := h4.1; omega
            refine fk_clXa hm (fk_aT ha (br_f fk_10 (fk_c40F hx hy h6 ?_)))
            exact fk_clYa hm (fk_aYT _ ha (br_f fk_10 (fk_c43F hx hy h6 ⟨rfl, fr_in h1 h2 h3 h4⟩)))
        · refine fk_clXa hm (fk_aT ha (br_f fk_10 (fk_c40B hb ?_)))
          exact fk_clYa hm (fk_aYT _ ha (br_f fk_10 (fk_c43B hb ⟨rfl, fr_in h1 h2 h3 h4⟩)))
      · refine fk_clXa hm (fk_aF hA (br_t rfl ?_))
        exact fk_clYa hm (fk_aYF _ hA (br_t rfl ⟨rfl, fr_in h1 h2 h3 h4⟩))
  · refine fk_clXb hK ?_
    exact fk_clYb hK ⟨rfl, fr_in h1 h2 h3 h4⟩
/-! kind -/
theorem fk_used {L K : Nat} {a_ke a_ka a_kv a_came a_went a_now b_sets : Nat → Int32} (h : fr_V L K a_ke a_ka a_kv a_came a_went a_now b_sets) {a : Nat} (ha : a < 6) : (∃ p, p < 72 * (L + 1) ∧ p % 6 = a ∧ b_sets p ≠ 0) ↔ ∃ i, i < K ∧ a_ka i = nI a := by
  obtain ⟨hL, hK, ⟨n1, n2, n3, n4, n5⟩, ⟨s1, s2, s3, s4⟩, hw, hn⟩ := h
  dsimp only at s2 s3
  constructor
  · rintro ⟨p, hp, hm, h0⟩
    obtain ⟨v, hv, hb, _⟩ := fl_low (hw p hp) h0
    have e : p = 72 * (p / 72) + 6 * (p % 72 / 6) + a := by omega
    have hh := (s2 (p / 72) (p % 72 / 6) a v (by omega) (by omega) ha hv).mp (by rw [← e]; exact hb)
    obtain ⟨i, hi, _, h2, _⟩ := hh
    exact ⟨i, hi, by rw [n2 i hi, h2]⟩
  · rintro ⟨i, hi, e⟩
    obtain ⟨r1, r2, r3, r4, r5, r6⟩ := s1 i hi
    have hh := (s2 (fr_n a_came i) (fr_n a_ke i) (fr_n a_ka i) (fr_n a_kv i) r5 r1 r2 r3).mpr ⟨i, hi, rfl, rfl, rfl, Nat.le_refl _, by omega⟩
    have ea : fr_n a_ka i = a := by
      unfold fr_n
      rw [e, nI_clamp (by omega)]
    refine ⟨72 * fr_n a_came i + 6 * fr_n a_ke i + fr_n a_ka i, by omega, by omega, fun z => ?_⟩
    rw [z, b_0] at hh
    exact absurd hh (by decide)
section
variable {f_latest f_kept f_steps f_mode f_since f_until f_clauses f_levels f_asked f_level f_assigned f_bounded : Int32} {a_kinds a_keptEntity a_keptAttribute a_keptValue a_came a_went a_now a_work a_stepKind a_stepEntity a_stepAttribute a_stepValue a_stepOther a_row a_column a_reach a_clauseKind a_clauseAttribute a_left a_right a_order a_rest a_number a_bound : Nat → Int32}
variable {g_latest g_steps g_mode g_from g_to g_clauses g_masked : Int32} {b_attributeKinds b_sets b_work b_sorts b_entities b_attributes b_values b_others b_seen b_reach b_kinds b_along b_left b_right b_order b_number : Nat → Int32}
variable {L K s a : Nat} {x2 : Int32}
theorem fk_k21 {post : Int32 → SX → Prop} (hK : K ≤ 240) (hU : (∃ i, i < K ∧ a_keptAttribute i = nI a) → post (-2) (f_latest, nI K, f_steps, f_mode, f_since, f_until, f_clauses, f_levels, f_asked, f_level, f_assigned, f_bounded, a_kinds, a_keptEntity, a_keptAttribute, a_keptValue, a_came, a_went, a_now, a_work, a_stepKind, a_stepEntity, a_stepAttribute, a_stepValue, a_stepOther, a_row, a_column, a_reach, a_clauseKind, a_clauseAttribute, a_left, a_right, a_order, a_rest, a_number, a_bound)) (hN : (¬ ∃ i, i < K ∧ a_keptAttribute i = nI a) → ∃ n, wX_kind_50 post (nI a) x2 f_latest (nI K) f_steps f_mode f_since f_until f_clauses f_levels f_asked f_level f_assigned f_bounded a_kinds a_keptEntity a_keptAttribute a_keptValue a_came a_went a_now a_work a_stepKind a_stepEntity a_stepAttribute a_stepValue a_stepOther a_row a_column a_reach a_clauseKind a_clauseAttribute a_left a_right a_order a_rest a_number a_bound n 0) : ∃ n, wX_kind_21 post (nI a) x2 f_latest (nI K) f_steps f_mode f_since f_until f_clauses f_levels f_asked f_level f_assigned f_bounded a_kinds a_keptEntity a_keptAttribute a_keptValue a_came a_went a_now a_work a_stepKind a_stepEntity a_stepAttribute a_stepValue a_stepOther a_row a_column a_reach a_clauseKind a_clauseAttribute a_left a_right a_order a_rest a_number a_bound n 0 := by
  have key : ∀ d i, i + d = K → (∀ j, j < i → a_keptAttribute j ≠ nI a) → wX_kind_21 post (nI a) x2 f_latest (nI K) f_steps f_mode f_since f_until f_clauses f_levels f_asked f_level f_assigned f_bounded a_kinds a_keptEntity a_keptAttribute a_keptValue a_came a_went a_now a_work a_stepKind a_stepEntity a_stepAttribute a_stepValue a_stepOther a_row a_column a_reach a_clauseKind a_clauseAttribute a_left a_right a_order a_rest a_number a_bound (d + 1) (nI i) := by
    intro d
    induction d with
    | zero =>
      intro i hi hj
      refine br_t (nI_le (by omega) (by omega)) (hN ?_)
      rintro ⟨j, h1, h2⟩
      exact hj j (by omega) h2
    | succ d ih =>
      intro i hi hj
      refine br_f (nI_ge (by omega) (by omega)) ⟨vp_in_nI (by omega) (by omega), ?_⟩
      rw [fk_cl (f := a_keptAttribute) (n := i) (by omega)]
      refine br_c (fun e => hU ⟨i, by omega, e⟩) (fun e => nm_r (nI_1 i) (ih (i + 1) (by omega) fun j h => ?_))
      by_cases z : j = i
      · subst z; exact e
      · exact hj j (by omega)
  exact ⟨_, key K 0 (by omega) (fun j h => absurd h (by omega))⟩
theorem fk_k50 {post : Int32 → SX → Prop} (ha : a < 6) (hs : s ≤ 10) (hU : (∃ i, i < s ∧ a_stepKind i ≠ 3 ∧ a_stepAttribute i = nI a) → post (-2) (f_latest, f_kept, nI s, f_mode, f_since, f_until, f_clauses, f_levels, f_asked, f_level, f_assigned, f_bounded, a_kinds, a_keptEntity, a_keptAttribute, a_keptValue, a_came, a_went, a_now, a_work, a_stepKind, a_stepEntity, a_stepAttribute, a_stepValue, a_stepOther, a_row, a_column, a_reach, a_clauseKind, a_clauseAttribute, a_left, a_right, a_order, a_rest, a_number, a_bound)) (hN : (¬ ∃ i, i < s ∧ a_stepKind i ≠ 3 ∧ a_stepAttribute i = nI a) → post (a_kinds a) (f_latest, f_kept, nI s, f_mode, f_since, f_until, f_clauses, f_levels, f_asked, f_level, f_assigned, f_bounded, upd a_kinds a x2, a_keptEntity, a_keptAttribute, a_keptValue, a_came, a_went, a_now, a_work, a_stepKind, a_stepEntity, a_stepAttribute, a_stepValue, a_stepOther, a_row, a_column, a_reach, a_clauseKind, a_clauseAttribute, a_left, a_right, a_order, a_rest, a_number, a_bound)) : ∃ n, wX_kind_50 post (nI a) x2 f_latest f_kept (nI s) f_mode f_since f_until f_clauses f_levels f_asked f_level f_assigned f_bounded a_kinds a_keptEntity a_keptAttribute a_keptValue a_came a_went a_now a_work a_stepKind a_stepEntity a_stepAttribute a_stepValue a_stepOther a_row a_column a_reach a_clauseKind a_clauseAttribute a_left a_right a_order a_rest a_number a_bound n 0 := by
  have key : ∀ d i, i + d = s → (∀ j, j < i → ¬ (a_stepKind j ≠ 3 ∧ a_stepAttribute j = nI a)) → wX_kind_50 post (nI a) x2 f_latest f_kept (nI s) f_mode f_since f_until f_clauses f_levels f_asked f_level f_assigned f_bounded a_kinds a_keptEntity a_keptAttribute a_keptValue a_came a_went a_now a_work a_stepKind a_stepEntity a_stepAttribute a_stepValue a_stepOther a_row a_column a_reach a_clauseKind a_clauseAttribute a_left a_right a_order a_rest a_number a_bound (d + 1) (nI i) := by
    intro d
    induction d with
    | zero =>
      intro i hi hj
      have hN' := hN (by
        rintro ⟨j, h1, h2⟩
        exact hj j (by omega) h2)
      exact br_t (nI_le (by omega) (by omega)) ⟨vp_in_nI ha (by omega), nm_r (fk_cl (by omega)) ⟨vp_in_nI ha (by omega), nm_r (fk_ucl (by omega)) hN'⟩⟩
    | succ d ih =>
      intro i hi hj
      refine br_f (nI_ge (by omega) (by omega)) ⟨vp_in_nI (by omega) (by omega), ?_⟩
      rw [fk_cl (f := a_stepKind) (n := i) (by omega), fk_cl (f := a_stepAttribute) (n := i) (by omega)]
      have hstep : ¬ (a_stepKind i ≠ 3 ∧ a_stepAttribute i = nI a) → wX_kind_50 post (nI a) x2 f_latest f_kept (nI s) f_mode f_since f_until f_clauses f_levels f_asked f_level f_assigned f_bounded a_kinds a_keptEntity a_keptAttribute a_keptValue a_came a_went a_now a_work a_stepKind a_stepEntity a_stepAttribute a_stepValue a_stepOther a_row a_column a_reach a_clauseKind a_clauseAttribute a_left a_right a_order a_rest a_number a_bound (d + 1) (nI (i + 1)) := fun e => ih (i + 1) (by omega) fun j h => by
        by_cases z : j = i
        · subst z; exact e
        · exact hj j (by omega)
      exact br_c (fun e => nm_r (nI_1 i) (hstep fun z => z.1 e)) (fun e => ⟨vp_in_nI (by omega) (by omega), br_c (fun e2 => hU ⟨i, by omega, e, e2⟩) (fun e2 => nm_r (nI_1 i) (hstep fun z => e2 z.2))⟩)
  exact ⟨_, key s 0 (by omega) (fun j h => absurd h (by omega))⟩
theorem fk_y77 {post : Int32 → SY → Prop} (ha : a < 6) (hs : s ≤ 10) {f0 : Int32} (hf : f0 = 0 ∨ f0 = 1) (hU : (f0 = 1 ∨ ∃ i, i < s ∧ b_attributes i = nI a) → post (-2) (g_latest, nI s, g_mode, g_from, g_to, g_clauses, g_masked, b_attributeKinds, b_sets, b_work, b_sorts, b_entities, b_attributes, b_values, b_others, b_seen, b_reach, b_kinds, b_along, b_left, b_right, b_order, b_number)) (hN : (¬ (f0 = 1 ∨ ∃ i, i < s ∧ b_attributes i = nI a)) → post (b_attributeKinds a) (g_latest, nI s, g_mode, g_from, g_to, g_clauses, g_masked, upd b_attributeKinds a x2, b_sets, b_work, b_sorts, b_entities, b_attributes, b_values, b_others, b_seen, b_reach, b_kinds, b_along, b_left, b_right, b_order, b_number)) : ∃ n, wY_kind_77 post (nI a) x2 g_latest (nI s) g_mode g_from g_to g_clauses g_masked b_attributeKinds b_sets b_work b_sorts b_entities b_attributes b_values b_others b_seen b_reach b_kinds b_along b_left b_right b_order b_number n f0 0 := by
  have key : ∀ d i, i + d = s → ∀ f, (f = 0 ∨ f = 1) → (f = 1 ↔ (f0 = 1 ∨ ∃ j, j < i ∧ b_attributes j = nI a)) → wY_kind_77 post (nI a) x2 g_latest (nI s) g_mode g_from g_to g_clauses g_masked b_attributeKinds b_sets b_work b_sorts b_entities b_attributes b_values b_others b_seen b_reach b_kinds b_along b_left b_right b_order b_number (d + 1) f (nI i) := by
    intro d
    induction d with
    | zero =>
      intro i hi f h01 hj
      have e : i = s := by omega
      subst e
      refine br_t (nI_le (by omega) (by omega)) ?_
      rcases h01 with rfl | rfl
      · have hN' := hN (fun z => absurd (hj.mpr z) (by decide))
        exact br_t rfl ⟨vp_in_nI ha (by omega), nm_r (fk_cl (by omega)) ⟨vp_in_nI ha (by omega), nm_r (fk_ucl (by omega)) hN'⟩⟩
      · exact br_f fk_10 (hU (hj.mp rfl))
    | succ d ih =>
      intro i hi f h01 hj
      refine br_f (nI_ge (by omega) (by omega)) ?_
      rw [fk_cl (f := b_attributes) (n := i) (by omega)]
      rcases h01 with rfl | rfl
      · refine br_t rfl ⟨vp_in_nI (by omega) (by omega), br_c (fun e => nm_r (nI_1 i) (ih (i + 1) (by omega) 1 (Or.inr rfl) ⟨fun _ => Or.inr ⟨i, by omega, e⟩, fun _ => rfl⟩)) (fun e => nm_r (nI_1 i) (ih (i + 1) (by omega) 0 (Or.inl rfl) ?_))⟩
        rw [hj]
        constructor
        · rintro (z | ⟨j, h1, h2⟩)
          · exact Or.inl z
          · exact Or.inr ⟨j, by omega, h2⟩
        · rintro (z | ⟨j, h1, h2⟩)
          · exact Or.inl z
          · refine Or.inr ⟨j, ?_, h2⟩
            rcases Nat.lt_or_ge j i with z | z
            · exact z
            · have : j = i := by omega
              subst this; exact absurd h2 e
      · refine br_f fk_10 (nm_r (nI_1 i) (ih (i + 1) (by omega) 1 (Or.inr rfl) ⟨fun _ => ?_, fun _ => rfl⟩))
        rcases hj.mp rfl with z | ⟨j, h1, h2⟩
        · exact Or.inl z
        · exact Or.inr ⟨j, by omega, h2⟩
  exact ⟨_, key s 0 (by omega) f0 hf ⟨fun z => Or.inl z, fun z => z.elim id (fun ⟨j, h, _⟩ => absurd h (by omega))⟩⟩
theorem fk_y25 {post : Int32 → SY → Prop} (ha : a < 6) (hL : L ≤ 24) (hc : ∀ f, (f = 0 ∨ f = 1) → (f = 1 ↔ ∃ p, p < 72 * (L + 1) ∧ p % 6 = a ∧ b_sets p ≠ 0) → ∃ n, wY_kind_77 post (nI a) x2 (nI L) g_steps g_mode g_from g_to g_clauses g_masked b_attributeKinds b_sets b_work b_sorts b_entities b_attributes b_values b_others b_seen b_reach b_kinds b_along b_left b_right b_order b_number n f 0) : ∃ n, wY_kind_25 post (nI a) x2 (nI L) g_steps g_mode g_from g_to g_clauses g_masked b_attributeKinds b_sets b_work b_sorts b_entities b_attributes b_values b_others b_seen b_reach b_kinds b_along b_left b_right b_order b_number n 0 0 := by
  have eL : 72 * (nI L + 1) = nI (72 * (L + 1)) := by rw [nI_1]; exact pk_mul 72 (L + 1)
  have key : ∀ d i, i + d = 72 * (L + 1) → ∀ f, (f = 0 ∨ f = 1) → (f = 1 ↔ ∃ p, p < i ∧ p % 6 = a ∧ b_sets p ≠ 0) → wY_kind_25 post (nI a) x2 (nI L) g_steps g_mode g_from g_to g_clauses g_masked b_attributeKinds b_sets b_work b_sorts b_entities b_attributes b_values b_others b_seen b_reach b_kinds b_along b_left b_right b_order b_number (d + 1) f (nI i) := by
    intro d
    induction d with
    | zero =>
      intro i hi f h01 hj
      have e : i = 72 * (L + 1) := by omega
      subst e
      exact br_t (by rw [eL]; exact Int32.le_refl _) (hc f h01 hj)
    | succ d ih =>
      intro i hi f h01 hj
      refine br_f (by rw [eL]; exact nI_ge (by omega) (by omega)) ?_
      have er : nI i - nI i / 6 * 6 = nI (i % 6) := pk_rem (d := 6) (by omega) (by omega) (by omega)
      rw [er, fk_cl (f := b_sets) (n := i) (by omega)]
      have keep : (¬ (i % 6 = a ∧ b_sets i ≠ 0)) → (f = 1 ↔ ∃ p, p < i + 1 ∧ p % 6 = a ∧ b_sets p ≠ 0) := fun e => by
        rw [hj]
        constructor
        · rintro ⟨j, h1, h2⟩; exact ⟨j, by omega, h2⟩
        · rintro ⟨j, h1, h2⟩
          refine ⟨j, ?_, h2⟩
          rcases Nat.lt_or_ge j i with z | z
          · exact z
          · have : j = i := by omega
            subst this; exact absurd h2 e
      rcases h01 with rfl | rfl
      · refine br_t rfl ⟨by decide, br_c (fun e => ⟨vp_in_nI (by omega) (by omega), br_c (fun e2 => nm_r (nI_1 i) (ih (i + 1) (by omega) 0 (Or.inl rfl) (keep fun z => z.2 e2))) (fun e2 => nm_r (nI_1 i) (ih (i + 1) (by omega) 1 (Or.inr rfl) ⟨fun _ => ⟨i, by omega, (nI_eq (by omega) (by omega)).mp e, e2⟩, fun _ => rfl⟩))⟩) (fun e => nm_r (nI_1 i) (ih (i + 1) (by omega) 0 (Or.inl rfl) (keep fun z => e (congrArg nI z.1))))⟩
      · refine br_f fk_10 (nm_r (nI_1 i) (ih (i + 1) (by omega) 1 (Or.inr rfl) ⟨fun _ => ?_, fun _ => rfl⟩))
        obtain ⟨j, h1, h2⟩ := hj.mp rfl
        exact ⟨j, by omega, h2⟩
  exact ⟨_, key (72 * (L + 1)) 0 (by omega) 0 (Or.inl rfl) ⟨fun z => absurd z (by decide), fun ⟨j, h, _⟩ => absurd h (by omega)⟩⟩
end
theorem fk_7 (x : Int32) : x < 0 ∨ (¬ x < 0 ∧ ¬ x ≤ 7) ∨ (¬ x < 0 ∧ x ≤ 7) := by
  by_cases h0 : x < 0
  · exact Or.inl h0
  · by_cases h1 : x ≤ 7
    · exact Or.inr (Or.inr ⟨h0, h1⟩)
    · exact Or.inr (Or.inl ⟨h0, h1⟩)
theorem fk_st_iff {s a : Nat} {a_sk a_se a_sa a_sv a_so b_at : Nat → Int32} (h : fr_S s a_sk a_se a_sa a_sv a_so b_at) (ha : a < 6) : (∃ i, i < s ∧ a_sk i ≠ 3 ∧ a_sa i = nI a) ↔ ∃ i, i < s ∧ b_at i = nI a := by
  constructor
  · rintro ⟨i, hi, h1, h2⟩
    obtain ⟨k, e, a', v, w, hb, e1, _, e3, _, _, e6⟩ := h.2 i hi
    refine ⟨i, hi, ?_⟩
    have hk : ¬ k = 3 := fun z => h1 (by rw [e1, z]; rfl)
    rw [e6, if_neg hk, ← e3, h2]
  · rintro ⟨i, hi, h1⟩
    obtain ⟨k, e, a', v, w, hb, e1, _, e3, _, _, e6⟩ := h.2 i hi
    by_cases hk : k = 3
    · rw [e6, if_pos hk] at h1
      have hh := nI_pos (n := a) (by omega)
      rw [← h1] at hh
      exact absurd (show (-1 : Int32) < 0 by decide) hh
    · rw [e6, if_neg hk] at h1
      refine ⟨i, hi, fun z => hk ?_, by rw [e3, h1]⟩
      rw [e1] at z
      exact (nI_eq (b := 3) (by omega) (by omega)).mp z
theorem i_vc_kind {k : Nat} {u : SX} {v : SY} (I : i_Rel k u v) (hk : k + 5 ≤ 2560) (v1 : Int32) (v2 : Int32) : wpX_kind (fun r u' => wpY_kind (fun r' v' => r' = r ∧ i_Rel (k + 5) u' v') v v1 v2) u v1 v2 := by
  refine fr_el (P := fun u v => wpX_kind (fun r u' => wpY_kind (fun r' v' => r' = r ∧ i_Rel (k + 5) u' v') v v1 v2) u v1 v2) I ?_
  intro L K s md sn un C f_levels f_asked f_level f_assigned f_bounded g_masked a_kinds a_keptEntity a_keptAttribute a_keptValue a_came a_went a_now a_work a_stepKind a_stepEntity a_stepAttribute a_stepValue a_stepOther a_row a_column a_reach a_clauseKind a_clauseAttribute a_left a_right a_order a_rest a_number a_bound b_sets b_work b_attributes b_seen b_reach b_along b_order b_number h1 h2 h3 h4
  unfold wpX_kind wpY_kind
  have hL := h1.1
  have hK := h1.2.1
  by_cases hA : ∃ a, a < 6 ∧ v1 = nI a
  · obtain ⟨a, ha, rfl⟩ := hA
    rcases fk_7 v2 with z | ⟨z0, z⟩ | ⟨z0, z⟩
    · refine fk_aT ha (br_f fk_10 (br_t z ?_))
      exact fk_aYT _ ha (br_f fk_10 (br_t z ⟨rfl, fr_in h1 h2 h3 h4⟩))
    · refine fk_aT ha (br_f fk_10 (br_f z0 (br_f z ?_)))
      exact fk_aYT _ ha (br_f fk_10 (br_f z0 (br_f z ⟨rfl, fr_in h1 h2 h3 h4⟩)))
    · have hu := fk_used h1 ha
      have hst := fk_st_iff h2 ha
      refine fk_aT ha (br_f fk_10 (br_f z0 (br_t z (fk_k21 (by omega) (fun c1 => ?_) (fun c1 => fk_k50 ha h2.1 (fun c2 => ?_) (fun c2 => ?_))))))
      · refine fk_aYT _ ha (br_f fk_10 (br_f z0 (br_t z (fk_y25 ha hL (fun f h01 hf => fk_y77 ha h2.1 h01 (fun c3 => ⟨rfl, fr_in h1 h2 h3 h4⟩) (fun c3 => ?_))))))
        exact absurd (Or.inl (hf.mpr (hu.mpr c1))) c3
      · refine fk_aYT _ ha (br_f fk_10 (br_f z0 (br_t z (fk_y25 ha hL (fun f h01 hf => fk_y77 ha h2.1 h01 (fun c3 => ⟨rfl, fr_in h1 h2 h3 h4⟩) (fun c3 => ?_))))))
        exact absurd (Or.inr (hst.mp c2)) c3
      · refine fk_aYT _ ha (br_f fk_10 (br_f z0 (br_t z (fk_y25 ha hL (fun f h01 hf => fk_y77 ha h2.1 h01 (fun c3 => ?_) (fun c3 => ⟨rfl, fr_in h1 h2 h3 h4⟩))))))
        exact absurd (c3.elim (fun z1 => Or.inl (hu.mp (hf.mp z1))) (fun z2 => Or.inr (hst.mpr z2))) (fun z => z.elim c1 c2)
  · refine fk_aF hA (br_t rfl ?_)
    exact fk_aYF _ hA (br_t rfl ⟨rfl, fr_in h1 h2 h3 h4⟩)
end
section
/-! the view: what is laid out -/
theorem fv_i12 (a e : Nat) : 12 * nI a + nI e = nI (12 * a + e) := by rw [show (12 : Int32) = nI 12 from rfl, pk_mul, nI_add]
theorem fv_i20 (a e : Nat) : 20 * nI a + nI e = nI (20 * a + e) := by rw [show (20 : Int32) = nI 20 from rfl, pk_mul, nI_add]
theorem fv_i6 (a e : Nat) : 6 * nI a + nI e = nI (6 * a + e) := by rw [show (6 : Int32) = nI 6 from rfl, pk_mul, nI_add]
theorem fv_i72 (a e : Nat) : 72 * nI a + nI e = nI (72 * a + e) := by rw [show (72 : Int32) = nI 72 from rfl, pk_mul, nI_add]
def fv_sn (md sn un c w : Nat) : Prop := if md = 0 then sn < c ∧ c ≤ un ∧ un < w else c ≤ un ∧ sn < w
theorem fv_sn0 {sn un c w : Nat} : fv_sn 0 sn un c w ↔ (sn < c ∧ c ≤ un ∧ un < w) := by unfold fv_sn; rw [if_pos rfl]
theorem fv_sn1 {sn un c w md : Nat} (h : md ≠ 0) : fv_sn md sn un c w ↔ (c ≤ un ∧ sn < w) := by unfold fv_sn; rw [if_neg h]
/-- rows, columns and what they hold -/
def fv_RC (row col : Nat → Int32) (Q : Nat → Nat → Nat → Prop) : Prop :=
  (∀ e a v, e < 12 → a < 6 → v < 20 → (bt (row (12 * a + e)) v = true ↔ Q e a v)) ∧
  (∀ p, p < 72 → fl_w 20 (row p)) ∧
  (∀ a v e, a < 6 → v < 20 → bt (col (20 * a + v)) e = (decide (e < 12) && bt (row (12 * a + e)) v))
theorem fv_RC_0 {row col : Nat → Int32} (h1 : ∀ p, p < 72 → row p = 0) (h2 : ∀ p, p < 120 → col p = 0) : fv_RC row col (fun _ _ _ => False) := by
  refine ⟨fun e a v he ha hv => ?_, fun p hp => by rw [h1 p hp]; exact fl_w0 20, fun a v e ha hv => ?_⟩
  · rw [h1 _ (by omega), b_0]
    exact ⟨fun z => absurd z (by decide), fun z => z.elim⟩
  · rw [h2 _ (by omega), b_0]
    by_cases he : e < 12
    · rw [h1 _ (by omega), b_0, Bool.and_false]
    · rw [decide_eq_false he]; rfl
theorem fv_RC_iff {row col : Nat → Int32} {Q Q' : Nat → Nat → Nat → Prop} (h : fv_RC row col Q) (hq : ∀ e a v, e < 12 → a < 6 → v < 20 → (Q e a v ↔ Q' e a v)) : fv_RC row col Q' :=
  ⟨fun e a v he ha hv => (h.1 e a v he ha hv).trans (hq e a v he ha hv), h.2.1, h.2.2⟩
theorem fv_RC_set {row col : Nat → Int32} {Q : Nat → Nat → Nat → Prop} {e a v : Nat} (h : fv_RC row col Q) (he : e < 12) (ha : a < 6) (hv : v < 20) :
    fv_RC (upd row (12 * a + e) (row (12 * a + e) ||| ((1 : Int32) <<< (nI v &&& 31)))) (upd col (20 * a + v) (col (20 * a + v) ||| ((1 : Int32) <<< (nI e &&& 31)))) (fun e' a' v' => Q e' a' v' ∨ (e' = e ∧ a' = a ∧ v' = v)) := by
  have hrow : ∀ e' a' v', e' < 12 → a' < 6 → v' < 20 → bt (upd row (12 * a + e) (row (12 * a + e) ||| ((1 : Int32) <<< (nI v &&& 31))) (12 * a' + e')) v' = (bt (row (12 * a' + e')) v' || decide (e' = e ∧ a' = a ∧ v' = v)) := by
    intro e' a' v' he' ha' hv'
    by_cases hz : 12 * a' + e' = 12 * a + e
    · have h1 : e' = e := by omega
      have h2 : a' = a := by omega
      subst h1; subst h2
      rw [pk_us, b_or, fl_one (by omega)]
      simp
    · rw [pk_un hz]
      have : ¬ (e' = e ∧ a' = a ∧ v' = v) := by
        rintro ⟨rfl, rfl, _⟩; exact hz rfl
      rw [decide_eq_false this, Bool.or_false]
  refine ⟨fun e' a' v' he' ha' hv' => ?_, fun p hp => ?_, fun a' v' e' ha' hv' => ?_⟩
  · rw [hrow e' a' v' he' ha' hv', Bool.or_eq_true, h.1 e' a' v' he' ha' hv', decide_eq_true_iff]
  · by_cases hz : p = 12 * a + e
    · subst hz
      rw [pk_us]
      exact fl_w_or (h.2.1 _ hp) (fl_w_one hv (by omega))
    · rw [pk_un hz]
      exact h.2.1 p hp
  · have hc := h.2.2 a' v' e' ha' hv'
    by_cases he' : e' < 12
    · rw [hrow e' a' v' he' ha' hv', decide_eq_true he', Bool.true_and]
      rw [decide_eq_true he', Bool.true_and] at hc
      by_cases hz : 20 * a' + v' = 20 * a + v
      · have h1 : v' = v := by omega
        have h2 : a' = a := by omega
        subst h1; subst h2
        rw [pk_us, b_or, fl_one (by omega), hc]
        simp
      · rw [pk_un hz, hc]
        have : ¬ (e' = e ∧ a' = a ∧ v' = v) := by
          rintro ⟨_, rfl, rfl⟩; exact hz rfl
        rw [decide_eq_false this, Bool.or_false]
    · rw [decide_eq_false he', Bool.false_and]
      rw [decide_eq_false he', Bool.false_and] at hc
      by_cases hz : 20 * a' + v' = 20 * a + v
      · rw [hz, pk_us, b_or, fl_one (by omega), ← hz, hc, decide_eq_false (by omega)]; rfl
      · rw [pk_un hz, hc]
/-! stages -/
theorem fv_st_zz (r : Nat → Int32) (z : Nat) : fv_st r z z = r z := by
  unfold fv_st
  by_cases h : bt (r z) z = true
  · rw [if_pos h]
    exact b_ext fun i _ => by rw [b_or, Bool.or_self]
  · rw [if_neg h]
theorem fv_cl_eq {r r' : Nat → Int32} (h : ∀ y, y < 20 → r y = r' y) : ∀ z, z ≤ 20 → ∀ y, y < 20 → fv_cl r z y = fv_cl r' z y
  | 0, _, y, hy => h y hy
  | z + 1, hz, y, hy => by
    have h1 := fv_cl_eq h z (by omega) y hy
    have h2 := fv_cl_eq h z (by omega) z (by omega)
    simp only [fv_cl, fv_st]
    rw [h1, h2]
theorem fv_cl_0 {r : Nat → Int32} (h : ∀ y, 12 ≤ y → y < 20 → r y = 0) : ∀ z y, 12 ≤ y → y < 20 → fv_cl r z y = 0
  | 0, y, h1, h2 => h y h1 h2
  | z + 1, y, h1, h2 => by
    have e := fv_cl_0 h z y h1 h2
    simp only [fv_cl, fv_st]
    rw [e, b_0, if_neg (by decide)]
theorem fv_cl_20 {r : Nat → Int32} (h : ∀ y, 12 ≤ y → y < 20 → r y = 0) : ∀ d, d ≤ 8 → ∀ y, fv_cl r (12 + d) y = fv_cl r 12 y
  | 0, _, y => rfl
  | d + 1, hd, y => by
    have e := fv_cl_20 h d (by omega) y
    have e0 := fv_cl_0 h (12 + d) (12 + d) (by omega) (by omega)
    show fv_st (fv_cl r (12 + d)) (12 + d) y = _
    unfold fv_st
    rw [e0, e]
    split
    · exact b_ext fun i _ => by rw [b_or, b_0, Bool.or_false]
    · rfl
section
variable {f_latest f_kept f_steps f_mode f_since f_until f_clauses f_levels f_asked f_level f_assigned f_bounded : Int32} {a_kinds a_keptEntity a_keptAttribute a_keptValue a_came a_went a_now a_work a_stepKind a_stepEntity a_stepAttribute a_stepValue a_stepOther a_row a_column a_reach a_clauseKind a_clauseAttribute a_left a_right a_order a_rest a_number a_bound : Nat → Int32}
variable {md sn un K a z : Nat}
theorem fv_seenX {post : Int32 → Prop} {i c w : Nat} (hi : i < 240) (hc : a_came i = nI c) (hw : a_went i = nI w) (b1 : c < 1000) (b2 : w < 1000) (b3 : sn < 1000) (b4 : un < 1000) (b5 : md < 1000) (h1 : fv_sn md sn un c w → post 1) (h0 : ¬ fv_sn md sn un c w → post 0) : wpX_isSeen post (f_latest, f_kept, f_steps, nI md, nI sn, nI un, f_clauses, f_levels, f_asked, f_level, f_assigned, f_bounded, a_kinds, a_keptEntity, a_keptAttribute, a_keptValue, a_came, a_went, a_now, a_work, a_stepKind, a_stepEntity, a_stepAttribute, a_stepValue, a_stepOther, a_row, a_column, a_reach, a_clauseKind, a_clauseAttribute, a_left, a_right, a_order, a_rest, a_number, a_bound) (nI i) := by
  have hin : vp_in (nI i) 240 := vp_in_nI hi (by omega)
  have e1 : a_came (nI i).toNatClampNeg = nI c := by rw [nI_clamp (n := i) (by omega), hc]
  have e2 : a_went (nI i).toNatClampNeg = nI w := by rw [nI_clamp (n := i) (by omega), hw]
  refine pk_eq md 0 (fun hm => ?_) (fun hm => ?_)
  · subst hm
    rw [fv_sn0] at h1 h0
    rw [e1, e2]
    exact ⟨hin, pk_le c sn (fun z => h0 (by omega)) (fun z1 => ⟨hin, pk_lt un c (fun z => h0 (by omega)) (fun z2 => ⟨hin, pk_le w un (fun z => h0 (by omega)) (fun z3 => h1 ⟨z1, z2, z3⟩)⟩)⟩)⟩
  · rw [fv_sn1 hm] at h1 h0
    rw [e1, e2]
    exact ⟨hin, pk_lt un c (fun z => h0 (by omega)) (fun z2 => ⟨hin, pk_le w sn (fun z => h0 (by omega)) (fun z3 => h1 ⟨z2, z3⟩)⟩)⟩
/-- the paths along one relation -/
theorem fv_cp10 {post : SX → Prop} {J : Int32 → (Nat → Int32) → (Nat → Int32) → (Nat → Int32) → (Nat → Int32) → (Nat → Int32) → (Nat → Int32) → (Nat → Int32) → (Nat → Int32) → (Nat → Int32) → (Nat → Int32) → (Nat → Int32) → (Nat → Int32) → (Nat → Int32) → (Nat → Int32) → (Nat → Int32) → (Nat → Int32) → (Nat → Int32) → (Nat → Int32) → (Nat → Int32) → (Nat → Int32) → (Nat → Int32) → (Nat → Int32) → (Nat → Int32) → (Nat → Int32) → Prop} {r : Nat → Int32} (ha : a < 6) (hz : z < 12)
    (hJ : ∀ R', (∀ y, y < 12 → R' (20 * a + y) = fv_st r z y) → (∀ p, (∀ y, y < 12 → p ≠ 20 * a + y) → R' p = a_reach p) → J (nI (z + 1)) a_kinds a_keptEntity a_keptAttribute a_keptValue a_came a_went a_now a_work a_stepKind a_stepEntity a_stepAttribute a_stepValue a_stepOther a_row a_column R' a_clauseKind a_clauseAttribute a_left a_right a_order a_rest a_number a_bound)
    (hr : ∀ y, y < 12 → a_reach (20 * a + y) = r y) :
    ∃ n, wX_closePaths_10 post J (nI a) (nI z) f_latest f_kept f_steps f_mode f_since f_until f_clauses f_levels f_asked f_level f_assigned f_bounded n 0 a_kinds a_keptEntity a_keptAttribute a_keptValue a_came a_went a_now a_work a_stepKind a_stepEntity a_stepAttribute a_stepValue a_stepOther a_row a_column a_reach a_clauseKind a_clauseAttribute a_left a_right a_order a_rest a_number a_bound := by
  have key : ∀ d x R, x + d = 12 → (∀ y, y < x → R (20 * a + y) = fv_st r z y) → (∀ p, (∀ y, y < x → p ≠ 20 * a + y) → R p = a_reach p) → wX_closePaths_10 post J (nI a) (nI z) f_latest f_kept f_steps f_mode f_since f_until f_clauses f_levels f_asked f_level f_assigned f_bounded (d + 1) (nI x) a_kinds a_keptEntity a_keptAttribute a_keptValue a_came a_went a_now a_work a_stepKind a_stepEntity a_stepAttribute a_stepValue a_stepOther a_row a_column R a_clauseKind a_clauseAttribute a_left a_right a_order a_rest a_number a_bound := by
    intro d
    induction d with
    | zero =>
      intro x R hx h1 h2
      have e : x = 12 := by omega
      subst e
      exact br_t (nI_le (a := 12) (by omega) (by omega)) (nm_r (nI_1 z) (hJ R h1 h2))
    | succ d ih =>
      intro x R hx h1 h2
      have ex : R (20 * a + x) = r x := by
        rw [h2 _ (fun y hy => by omega), hr x (by omega)]
      have ez : R (20 * a + z) = r z := by
        by_cases hzx : z < x
        · rw [h1 z hzx, fv_st_zz]
        · rw [h2 _ (fun y hy => by omega), hr z hz]
      have hin : vp_in (nI (20 * a + x)) 120 := vp_in_nI (by omega) (by omega)
      refine br_f (nI_ge (b := 12) (by omega) (by omega)) ?_
      rw [fv_i20, fv_i20, fk_cl (f := R) (n := 20 * a + x) (by omega), fk_cl (f := R) (n := 20 * a + z) (by omega), fk_ucl (f := R) (n := 20 * a + x) (by omega), ex, ez]
      refine ⟨hin, fl_br1 z (by omega) (fun hb => ⟨hin, vp_in_nI (by omega) (by omega), hin, nm_e (nm_r (nI_1 x) (ih (x + 1) _ (by omega) (fun y hy => ?_) (fun p hp => ?_)))⟩) (fun hb => nm_r (nI_1 x) (ih (x + 1) _ (by omega) (fun y hy => ?_) (fun p hp => ?_)))⟩
      · by_cases hyx : y = x
        · subst hyx
          rw [pk_us]; unfold fv_st; rw [if_pos hb]
        · rw [pk_un (by omega)]; exact h1 y (by omega)
      · rw [pk_un (hp x (by omega))]
        exact h2 p (fun y hy => hp y (by omega))
      · by_cases hyx : y = x
        · subst hyx
          rw [ex]; unfold fv_st; rw [hb, if_neg (by decide)]
        · exact h1 y (by omega)
      · exact h2 p (fun y hy => hp y (by omega))
  exact ⟨_, key 12 0 a_reach rfl (fun y hy => absurd hy (by omega)) (fun p _ => rfl)⟩
theorem fv_cp {post : SX → Prop} {r : Nat → Int32} (ha : a < 6) (hr : ∀ y, y < 20 → a_reach (20 * a + y) = r y) (h0 : ∀ y, 12 ≤ y → y < 20 → r y = 0)
    (h : ∀ R', (∀ y, y < 20 → R' (20 * a + y) = fv_cl r 12 y) → (∀ p, (p < 20 * a ∨ 20 * a + 20 ≤ p) → R' p = a_reach p) → post (f_latest, f_kept, f_steps, f_mode, f_since, f_until, f_clauses, f_levels, f_asked, f_level, f_assigned, f_bounded, a_kinds, a_keptEntity, a_keptAttribute, a_keptValue, a_came, a_went, a_now, a_work, a_stepKind, a_stepEntity, a_stepAttribute, a_stepValue, a_stepOther, a_row, a_column, R', a_clauseKind, a_clauseAttribute, a_left, a_right, a_order, a_rest, a_number, a_bound)) :
    wpX_closePaths post (f_latest, f_kept, f_steps, f_mode, f_since, f_until, f_clauses, f_levels, f_asked, f_level, f_assigned, f_bounded, a_kinds, a_keptEntity, a_keptAttribute, a_keptValue, a_came, a_went, a_now, a_work, a_stepKind, a_stepEntity, a_stepAttribute, a_stepValue, a_stepOther, a_row, a_column, a_reach, a_clauseKind, a_clauseAttribute, a_left, a_right, a_order, a_rest, a_number, a_bound) (nI a) := by
  have key : ∀ d z R, z + d = 12 → (∀ y, y < 20 → R (20 * a + y) = fv_cl r z y) → (∀ p, (p < 20 * a ∨ 20 * a + 20 ≤ p) → R p = a_reach p) → wX_closePaths_2 post (nI a) f_latest f_kept f_steps f_mode f_since f_until f_clauses f_levels f_asked f_level f_assigned f_bounded (d + 1) (nI z) a_kinds a_keptEntity a_keptAttribute a_keptValue a_came a_went a_now a_work a_stepKind a_stepEntity a_stepAttribute a_stepValue a_stepOther a_row a_column R a_clauseKind a_clauseAttribute a_left a_right a_order a_rest a_number a_bound := by
    intro d
    induction d with
    | zero =>
      intro z R hz h1 h2
      have e : z = 12 := by omega
      subst e
      exact br_t (nI_le (a := 12) (by omega) (by omega)) (h R h1 h2)
    | succ d ih =>
      intro z R hz h1 h2
      refine br_f (nI_ge (b := 12) (by omega) (by omega)) (fv_cp10 (r := fv_cl r z) ha (by omega) (fun R' k1 k2 => ?_) (fun y hy => h1 y (by omega)))
      refine ih (z + 1) R' (by omega) (fun y hy => ?_) (fun p hp => ?_)
      · by_cases hy12 : y < 12
        · exact k1 y hy12
        · rw [k2 _ (fun y' hy' => by omega), h1 y hy, fv_cl_0 h0 z y (by omega) hy, fv_cl_0 h0 (z + 1) y (by omega) hy]
      · rw [k2 p (fun y hy => by omega)]
        exact h2 p hp
  exact ⟨_, key 12 0 a_reach rfl hr (fun p _ => rfl)⟩
theorem fv_147 {post : SX → Prop} {J : Int32 → Int32 → Int32 → Int32 → Int32 → Int32 → Int32 → Int32 → Int32 → Int32 → Int32 → Int32 → Int32 → (Nat → Int32) → (Nat → Int32) → (Nat → Int32) → (Nat → Int32) → (Nat → Int32) → (Nat → Int32) → (Nat → Int32) → (Nat → Int32) → (Nat → Int32) → (Nat → Int32) → (Nat → Int32) → (Nat → Int32) → (Nat → Int32) → (Nat → Int32) → (Nat → Int32) → (Nat → Int32) → (Nat → Int32) → (Nat → Int32) → (Nat → Int32) → (Nat → Int32) → (Nat → Int32) → (Nat → Int32) → (Nat → Int32) → (Nat → Int32) → Prop} (ha : a < 6) (h0 : ∀ y, y < 20 → a_reach (20 * a + y) = 0)
    (hJ : ∀ R', (∀ y, y < 20 → R' (20 * a + y) = fv_cl (fv_r0 a_row a) 12 y) → (∀ p, (p < 20 * a ∨ 20 * a + 20 ≤ p) → R' p = a_reach p) → J (nI (a + 1)) f_latest f_kept f_steps f_mode f_since f_until f_clauses f_levels f_asked f_level f_assigned f_bounded a_kinds a_keptEntity a_keptAttribute a_keptValue a_came a_went a_now a_work a_stepKind a_stepEntity a_stepAttribute a_stepValue a_stepOther a_row a_column R' a_clauseKind a_clauseAttribute a_left a_right a_order a_rest a_number a_bound) :
    ∃ n, wX_layView_147 post J (nI a) f_latest f_kept f_steps f_mode f_since f_until f_clauses f_levels f_asked f_level f_assigned f_bounded n 0 a_kinds a_keptEntity a_keptAttribute a_keptValue a_came a_went a_now a_work a_stepKind a_stepEntity a_stepAttribute a_stepValue a_stepOther a_row a_column a_reach a_clauseKind a_clauseAttribute a_left a_right a_order a_rest a_number a_bound := by
  have key : ∀ d e R, e + d = 12 → (∀ y, y < e → R (20 * a + y) = a_row (12 * a + y)) → (∀ p, (∀ y, y < e → p ≠ 20 * a + y) → R p = a_reach p) → wX_layView_147 post J (nI a) f_latest f_kept f_steps f_mode f_since f_until f_clauses f_levels f_asked f_level f_assigned f_bounded (d + 1) (nI e) a_kinds a_keptEntity a_keptAttribute a_keptValue a_came a_went a_now a_work a_stepKind a_stepEntity a_stepAttribute a_stepValue a_stepOther a_row a_column R a_clauseKind a_clauseAttribute a_left a_right a_order a_rest a_number a_bound := by
    intro d
    induction d with
    | zero =>
      intro e R hz h1 h2
      have e12 : e = 12 := by omega
      subst e12
      refine br_t (nI_le (a := 12) (by omega) (by omega)) (fv_cp (r := fv_r0 a_row a) ha (fun y hy => ?_) (fun y hy _ => ?_) (fun R' k1 k2 => nm_r (nI_1 a) (hJ R' k1 (fun p hp => ?_))))
      · unfold fv_r0
        by_cases hy12 : y < 12
        · rw [if_pos hy12, h1 y hy12]
        · rw [if_neg hy12, h2 _ (fun y' hy' => by omega), h0 y hy]
      · unfold fv_r0; rw [if_neg (by omega)]
      · rw [k2 p hp, h2 p (fun y hy => by omega)]
    | succ d ih =>
      intro e R hz h1 h2
      refine br_f (nI_ge (b := 12) (by omega) (by omega)) ?_
      rw [fv_i20, fv_i12, fk_cl (f := a_row) (n := 12 * a + e) (by omega), fk_ucl (f := R) (n := 20 * a + e) (by omega)]
      refine ⟨vp_in_nI (by omega) (by omega), vp_in_nI (by omega) (by omega), nm_e (nm_r (nI_1 e) (ih (e + 1) _ (by omega) (fun y hy => ?_) (fun p hp => ?_)))⟩
      · by_cases hye : y = e
        · subst hye; rw [pk_us]
        · rw [pk_un (by omega)]; exact h1 y (by omega)
      · rw [pk_un (hp e (by omega))]
        exact h2 p (fun y hy => hp y (by omega))
  exact ⟨_, key 12 0 a_reach rfl (fun y hy => absurd hy (by omega)) (fun p _ => rfl)⟩
theorem fv_139 {post : SX → Prop} (h0 : ∀ p, p < 120 → a_reach p = 0)
    (h : ∀ R', (∀ a x, a < 6 → x < 20 → R' (20 * a + x) = fv_cl (fv_r0 a_row a) 12 x) → post (f_latest, f_kept, f_steps, f_mode, f_since, f_until, f_clauses, f_levels, f_asked, f_level, f_assigned, f_bounded, a_kinds, a_keptEntity, a_keptAttribute, a_keptValue, a_came, a_went, a_now, a_work, a_stepKind, a_stepEntity, a_stepAttribute, a_stepValue, a_stepOther, a_row, a_column, R', a_clauseKind, a_clauseAttribute, a_left, a_right, a_order, a_rest, a_number, a_bound)) :
    ∃ n, wX_layView_139 post n 0 f_latest f_kept f_steps f_mode f_since f_until f_clauses f_levels f_asked f_level f_assigned f_bounded a_kinds a_keptEntity a_keptAttribute a_keptValue a_came a_went a_now a_work a_stepKind a_stepEntity a_stepAttribute a_stepValue a_stepOther a_row a_column a_reach a_clauseKind a_clauseAttribute a_left a_right a_order a_rest a_number a_bound := by
  have key : ∀ d a R, a + d = 6 → (∀ a' x, a' < a → x < 20 → R (20 * a' + x) = fv_cl (fv_r0 a_row a') 12 x) → (∀ p, 20 * a ≤ p → p < 120 → R p = 0) → wX_layView_139 post (d + 1) (nI a) f_latest f_kept f_steps f_mode f_since f_until f_clauses f_levels f_asked f_level f_assigned f_bounded a_kinds a_keptEntity a_keptAttribute a_keptValue a_came a_went a_now a_work a_stepKind a_stepEntity a_stepAttribute a_stepValue a_stepOther a_row a_column R a_clauseKind a_clauseAttribute a_left a_right a_order a_rest a_number a_bound := by
    intro d
    induction d with
    | zero =>
      intro a R hz h1 h2
      have e : a = 6 := by omega
      subst e
      exact br_t (nI_le (a := 6) (by omega) (by omega)) (h R h1)
    | succ d ih =>
      intro a R hz h1 h2
      refine br_f (nI_ge (b := 6) (by omega) (by omega)) (fv_147 (by omega) (fun y hy => h2 _ (by omega) (by omega)) (fun R' k1 k2 => ih (a + 1) R' (by omega) (fun a' x ha' hx => ?_) (fun p hp hp2 => ?_)))
      · by_cases hz2 : a' = a
        · subst hz2; exact k1 x hx
        · rw [k2 _ (by omega)]; exact h1 a' x (by omega) hx
      · rw [k2 p (by omega)]; exact h2 p (by omega) hp2
  exact ⟨_, key 6 0 a_reach rfl (fun a' x h _ => absurd h (by omega)) (fun p _ hp => h0 p hp)⟩
/-- what is seen at i -/
def fv_Q (K md sn un : Nat) (ke ka kv kc kw : Nat → Nat) (e a v : Nat) : Prop := ∃ i, i < K ∧ fv_sn md sn un (kc i) (kw i) ∧ ke i = e ∧ ka i = a ∧ kv i = v
theorem fv_51 {post : SX → Prop} {ke ka kv kc kw : Nat → Nat} (hK : K ≤ 240) (b3 : sn < 1000) (b4 : un < 1000) (b5 : md < 1000)
    (hk : ∀ i, i < K → (a_keptEntity i = nI (ke i) ∧ a_keptAttribute i = nI (ka i) ∧ a_keptValue i = nI (kv i) ∧ a_came i = nI (kc i) ∧ a_went i = nI (kw i)) ∧ ke i < 12 ∧ ka i < 6 ∧ kv i < 20 ∧ kc i < 1000 ∧ kw i < 1000)
    (hr : ∀ p, p < 72 → a_row p = 0) (hc : ∀ p, p < 120 → a_column p = 0) (h0 : ∀ p, p < 120 → a_reach p = 0)
    (h : ∀ row col R', fv_RC row col (fv_Q K md sn un ke ka kv kc kw) → (∀ a x, a < 6 → x < 20 → R' (20 * a + x) = fv_cl (fv_r0 row a) 12 x) → post (f_latest, nI K, f_steps, nI md, nI sn, nI un, f_clauses, f_levels, f_asked, f_level, f_assigned, f_bounded, a_kinds, a_keptEntity, a_keptAttribute, a_keptValue, a_came, a_went, a_now, a_work, a_stepKind, a_stepEntity, a_stepAttribute, a_stepValue, a_stepOther, row, col, R', a_clauseKind, a_clauseAttribute, a_left, a_right, a_order, a_rest, a_number, a_bound)) :
    ∃ n, wX_layView_51 post f_latest (nI K) f_steps (nI md) (nI sn) (nI un) f_clauses f_levels f_asked f_level f_assigned f_bounded n 0 a_kinds a_keptEntity a_keptAttribute a_keptValue a_came a_went a_now a_work a_stepKind a_stepEntity a_stepAttribute a_stepValue a_stepOther a_row a_column a_reach a_clauseKind a_clauseAttribute a_left a_right a_order a_rest a_number a_bound := by
  have key : ∀ d i row col, i + d = K → fv_RC row col (fv_Q i md sn un ke ka kv kc kw) → wX_layView_51 post f_latest (nI K) f_steps (nI md) (nI sn) (nI un) f_clauses f_levels f_asked f_level f_assigned f_bounded (d + 1) (nI i) a_kinds a_keptEntity a_keptAttribute a_keptValue a_came a_went a_now a_work a_stepKind a_stepEntity a_stepAttribute a_stepValue a_stepOther row col a_reach a_clauseKind a_clauseAttribute a_left a_right a_order a_rest a_number a_bound := by
    intro d
    induction d with
    | zero =>
      intro i row col hi hq
      have e : i = K := by omega
      subst e
      exact br_t (nI_le (by omega) (by omega)) (fv_139 h0 (fun R' k1 => h row col R' hq k1))
    | succ d ih =>
      intro i row col hi hq
      obtain ⟨⟨k1, k2, k3, k4, k5⟩, r1, r2, r3, r4, r5⟩ := hk i (by omega)
      have hin : vp_in (nI i) 240 := vp_in_nI (by omega) (by omega)
      refine br_f (nI_ge (by omega) (by omega)) (fv_seenX (by omega) k4 k5 r4 r5 b3 b4 b5 (fun hs => br_f fk_10 ?_) (fun hs => br_t rfl (nm_r (nI_1 i) (ih (i + 1) row col (by omega) (fv_RC_iff hq (fun e a v _ _ _ => ?_))))))
      · have e1 : a_keptEntity (nI i).toNatClampNeg = nI (ke i) := by rw [nI_clamp (n := i) (by omega), k1]
        have e2 : a_keptAttribute (nI i).toNatClampNeg = nI (ka i) := by rw [nI_clamp (n := i) (by omega), k2]
        have e3 : a_keptValue (nI i).toNatClampNeg = nI (kv i) := by rw [nI_clamp (n := i) (by omega), k3]
        rw [e1, e2, e3, fv_i12, fv_i20, fk_cl (f := row) (n := 12 * ka i + ke i) (by omega), fk_ucl (f := row) (n := 12 * ka i + ke i) (by omega), fk_cl (f := col) (n := 20 * ka i + kv i) (by omega), fk_ucl (f := col) (n := 20 * ka i + kv i) (by omega)]
        have i72 : vp_in (nI (12 * ka i + ke i)) 72 := vp_in_nI (by omega) (by omega)
        have i120 : vp_in (nI (20 * ka i + kv i)) 120 := vp_in_nI (by omega) (by omega)
        refine ⟨hin, hin, i72, hin, i72, nm_e ⟨hin, hin, i120, hin, i120, nm_e (nm_r (nI_1 i) (ih (i + 1) _ _ (by omega) (fv_RC_iff (fv_RC_set hq r1 r2 r3) (fun e a v _ _ _ => ?_))))⟩⟩
        constructor
        · rintro (⟨j, hj, q⟩ | ⟨rfl, rfl, rfl⟩)
          · exact ⟨j, by omega, q⟩
          · exact ⟨i, by omega, hs, rfl, rfl, rfl⟩
        · rintro ⟨j, hj, q1, q2, q3, q4⟩
          by_cases hz : j = i
          · subst hz; exact Or.inr ⟨q2.symm, q3.symm, q4.symm⟩
          · exact Or.inl ⟨j, by omega, q1, q2, q3, q4⟩
      · constructor
        · rintro ⟨j, hj, q⟩; exact ⟨j, by omega, q⟩
        · rintro ⟨j, hj, q1, q2⟩
          by_cases hz : j = i
          · subst hz; exact absurd q1 hs
          · exact ⟨j, by omega, q1, q2⟩
  exact ⟨_, key K 0 a_row a_column (by omega) (fv_RC_iff (fv_RC_0 hr hc) (fun e a v _ _ _ => ⟨fun z => z.elim, fun ⟨j, hj, _⟩ => absurd hj (by omega)⟩))⟩
theorem fv_lay {post : SX → Prop} {ke ka kv kc kw : Nat → Nat} (hK : K ≤ 240) (b3 : sn < 1000) (b4 : un < 1000) (b5 : md < 1000)
    (hk : ∀ i, i < K → (a_keptEntity i = nI (ke i) ∧ a_keptAttribute i = nI (ka i) ∧ a_keptValue i = nI (kv i) ∧ a_came i = nI (kc i) ∧ a_went i = nI (kw i)) ∧ ke i < 12 ∧ ka i < 6 ∧ kv i < 20 ∧ kc i < 1000 ∧ kw i < 1000)
    (h : ∀ row col R', fv_RC row col (fv_Q K md sn un ke ka kv kc kw) → (∀ a x, a < 6 → x < 20 → R' (20 * a + x) = fv_cl (fv_r0 row a) 12 x) → post (f_latest, nI K, f_steps, nI md, nI sn, nI un, f_clauses, f_levels, f_asked, f_level, f_assigned, f_bounded, a_kinds, a_keptEntity, a_keptAttribute, a_keptValue, a_came, a_went, a_now, a_work, a_stepKind, a_stepEntity, a_stepAttribute, a_stepValue, a_stepOther, row, col, R', a_clauseKind, a_clauseAttribute, a_left, a_right, a_order, a_rest, a_number, a_bound)) :
    wpX_layView post (f_latest, nI K, f_steps, nI md, nI sn, nI un, f_clauses, f_levels, f_asked, f_level, f_assigned, f_bounded, a_kinds, a_keptEntity, a_keptAttribute, a_keptValue, a_came, a_went, a_now, a_work, a_stepKind, a_stepEntity, a_stepAttribute, a_stepValue, a_stepOther, a_row, a_column, a_reach, a_clauseKind, a_clauseAttribute, a_left, a_right, a_order, a_rest, a_number, a_bound) := by
  have key23 : ∀ row, (∀ p, p < 72 → row p = 0) → ∀ d i col R, i + d = 120 → (∀ p, p < i → col p = 0) → (∀ p, p < i → R p = 0) → wX_layView_23 post f_latest (nI K) f_steps (nI md) (nI sn) (nI un) f_clauses f_levels f_asked f_level f_assigned f_bounded (d + 1) (nI i) a_kinds a_keptEntity a_keptAttribute a_keptValue a_came a_went a_now a_work a_stepKind a_stepEntity a_stepAttribute a_stepValue a_stepOther row col R a_clauseKind a_clauseAttribute a_left a_right a_order a_rest a_number a_bound := by
    intro row hrow d
    induction d with
    | zero =>
      intro i col R hi h1 h2
      have e : i = 120 := by omega
      subst e
      exact br_t (nI_le (a := 120) (by omega) (by omega)) (fv_51 hK b3 b4 b5 hk hrow h1 h2 h)
    | succ d ih =>
      intro i col R hi h1 h2
      have hin : vp_in (nI i) 120 := vp_in_nI (by omega) (by omega)
      refine br_f (nI_ge (b := 120) (by omega) (by omega)) ⟨hin, nm_r (fk_ucl (by omega)) ⟨hin, nm_r (fk_ucl (by omega)) (nm_r (nI_1 i) (ih (i + 1) _ _ (by omega) (fun p hp => ?_) (fun p hp => ?_)))⟩⟩
      · by_cases hz : p = i
        · subst hz; rw [pk_us]
        · rw [pk_un hz]; exact h1 p (by omega)
      · by_cases hz : p = i
        · subst hz; rw [pk_us]
        · rw [pk_un hz]; exact h2 p (by omega)
  have key2 : ∀ d i row, i + d = 72 → (∀ p, p < i → row p = 0) → wX_layView_2 post f_latest (nI K) f_steps (nI md) (nI sn) (nI un) f_clauses f_levels f_asked f_level f_assigned f_bounded (d + 1) (nI i) a_kinds a_keptEntity a_keptAttribute a_keptValue a_came a_went a_now a_work a_stepKind a_stepEntity a_stepAttribute a_stepValue a_stepOther row a_column a_reach a_clauseKind a_clauseAttribute a_left a_right a_order a_rest a_number a_bound := by
    intro d
    induction d with
    | zero =>
      intro i row hi h1
      have e : i = 72 := by omega
      subst e
      exact br_t (nI_le (a := 72) (by omega) (by omega)) ⟨_, key23 row h1 120 0 _ _ rfl (fun p hp => absurd hp (by omega)) (fun p hp => absurd hp (by omega))⟩
    | succ d ih =>
      intro i row hi h1
      have hin : vp_in (nI i) 72 := vp_in_nI (by omega) (by omega)
      refine br_f (nI_ge (b := 72) (by omega) (by omega)) ⟨hin, nm_r (fk_ucl (by omega)) (nm_r (nI_1 i) (ih (i + 1) _ (by omega) (fun p hp => ?_)))⟩
      by_cases hz : p = i
      · subst hz; rw [pk_us]
      · rw [pk_un hz]; exact h1 p (by omega)
  exact ⟨_, key2 72 0 a_row rfl (fun p hp => absurd hp (by omega))⟩
end
end
section
/-! the view against the reference's look -/
theorem fv_or_bt (S : Nat → Int32) (p s v : Nat) : ∀ n, bt (fv_or S p s n) v = true ↔ ∃ w, w < n ∧ bt (S (72 * (s + w) + p)) v = true
  | 0 => by
    simp only [fv_or]; rw [b_0]
    exact ⟨fun z => absurd z (by decide), fun ⟨w, h, _⟩ => absurd h (by omega)⟩
  | n + 1 => by
    simp only [fv_or]
    rw [b_or, Bool.or_eq_true, fv_or_bt S p s v n]
    constructor
    · rintro (⟨w, h1, h2⟩ | h)
      · exact ⟨w, by omega, h2⟩
      · exact ⟨n, by omega, h⟩
    · rintro ⟨w, h1, h2⟩
      by_cases hz : w = n
      · subst hz; exact Or.inr h2
      · exact Or.inl ⟨w, by omega, h2⟩
theorem fv_an_bt (S : Nat → Int32) (p s v : Nat) : ∀ n, bt (fv_an S p s n) v = true ↔ (v < 20 ∧ ∀ w, w < n → bt (S (72 * (s + w) + p)) v = true)
  | 0 => by
    simp only [fv_an]; rw [fl_all, decide_eq_true_iff]
    exact ⟨fun z => ⟨z, fun w h => absurd h (by omega)⟩, fun z => z.1⟩
  | n + 1 => by
    simp only [fv_an]
    rw [b_and, Bool.and_eq_true, fv_an_bt S p s v n]
    constructor
    · rintro ⟨⟨h1, h2⟩, h3⟩
      refine ⟨h1, fun w hw => ?_⟩
      by_cases hz : w = n
      · subst hz; exact h3
      · exact h2 w (by omega)
    · rintro ⟨h1, h2⟩
      exact ⟨⟨h1, fun w hw => h2 w (by omega)⟩, h2 n (by omega)⟩
theorem fv_or_w {S : Nat → Int32} {p s : Nat} : ∀ {n : Nat}, (∀ w, w < n → fl_w 20 (S (72 * (s + w) + p))) → fl_w 20 (fv_or S p s n)
  | 0, _ => fl_w0 20
  | n + 1, h => fl_w_or (fv_or_w fun w hw => h w (by omega)) (h n (by omega))
theorem fv_lk_w {S : Nat → Int32} {md sn un L p : Nat} (hS : ∀ q, q < 72 * (L + 1) → fl_w 20 (S q)) (h1 : sn ≤ un) (h2 : un ≤ L) (hp : p < 72) : fl_w 20 (fv_lk md sn un S p) := by
  unfold fv_lk
  split
  · exact fv_or_w fun w hw => hS _ (by omega)
  · split
    · exact hS _ (by omega)
    · exact fl_w_and (hS _ (by omega))
theorem fv_link {L K md sn un : Nat} {a_ke a_ka a_kv a_came a_went a_now b_sets : Nat → Int32} (h : fr_V L K a_ke a_ka a_kv a_came a_went a_now b_sets) (hm : md ≤ 1) (h1 : sn ≤ un) (h2 : un ≤ L) {e a v : Nat} (he : e < 12) (ha : a < 6) (hv : v < 20) :
    bt (fv_lk md sn un b_sets (6 * e + a)) v = true ↔ fv_Q K md sn un (fr_n a_ke) (fr_n a_ka) (fr_n a_kv) (fr_n a_came) (fr_n a_went) e a v := by
  obtain ⟨hL, hK, ⟨n1, n2, n3, n4, n5⟩, ⟨s1, s2, s3, s4⟩, hw, hn⟩ := h
  dsimp only at s2 s3
  have hP : ∀ w, w ≤ L → (bt (b_sets (72 * w + (6 * e + a))) v = true ↔ ∃ i, i < K ∧ fr_n a_ke i = e ∧ fr_n a_ka i = a ∧ fr_n a_kv i = v ∧ fr_n a_came i ≤ w ∧ w < fr_n a_went i) := by
    intro w hw
    rw [← Nat.add_assoc]
    exact s2 w e a v hw he ha hv
  unfold fv_lk fv_Q
  by_cases hmd : md = 1
  · subst hmd
    rw [if_pos rfl, fv_or_bt]
    constructor
    · rintro ⟨w, hw1, hw2⟩
      obtain ⟨i, hi, q1, q2, q3, q4, q5⟩ := (hP _ (by omega)).mp hw2
      exact ⟨i, hi, (fv_sn1 (by decide)).mpr ⟨by omega, by omega⟩, q1, q2, q3⟩
    · rintro ⟨i, hi, q0, q1, q2, q3⟩
      obtain ⟨q4, q5⟩ := (fv_sn1 (by decide)).mp q0
      obtain ⟨_, _, _, r4, r5, r6⟩ := s1 i hi
      rcases Nat.lt_or_ge sn (fr_n a_came i) with z | z
      · exact ⟨fr_n a_came i - sn, by omega, (hP _ (by omega)).mpr ⟨i, hi, q1, q2, q3, by omega, by omega⟩⟩
      · exact ⟨0, by omega, (hP _ (by omega)).mpr ⟨i, hi, q1, q2, q3, by omega, by omega⟩⟩
  · have hm0 : md = 0 := by omega
    subst hm0
    rw [if_neg (by decide)]
    by_cases hs : sn = 0
    · subst hs
      rw [if_pos rfl, hP un h2]
      constructor
      · rintro ⟨i, hi, q1, q2, q3, q4, q5⟩
        obtain ⟨_, _, _, r4, r5, r6⟩ := s1 i hi
        exact ⟨i, hi, fv_sn0.mpr ⟨by omega, q4, q5⟩, q1, q2, q3⟩
      · rintro ⟨i, hi, q0, q1, q2, q3⟩
        obtain ⟨_, q4, q5⟩ := fv_sn0.mp q0
        exact ⟨i, hi, q1, q2, q3, q4, q5⟩
    · rw [if_neg hs, b_and, Bool.and_eq_true, hP un h2, fl_not _ (by omega)]
      constructor
      · rintro ⟨⟨i, hi, q1, q2, q3, q4, q5⟩, hx⟩
        refine ⟨i, hi, fv_sn0.mpr ⟨?_, q4, q5⟩, q1, q2, q3⟩
        rcases Nat.lt_or_ge sn (fr_n a_came i) with z | z
        · exact z
        · exfalso
          have hall := (fv_an_bt b_sets (6 * e + a) sn v (un + 1 - sn)).mpr ⟨hv, fun w hw => (hP _ (by omega)).mpr ⟨i, hi, q1, q2, q3, by omega, by omega⟩⟩
          rw [hall] at hx
          exact absurd hx (by decide)
      · rintro ⟨i, hi, q0, q1, q2, q3⟩
        obtain ⟨q3', q4, q5⟩ := fv_sn0.mp q0
        refine ⟨⟨i, hi, q1, q2, q3, q4, q5⟩, ?_⟩
        cases hb : bt (fv_an b_sets (6 * e + a) sn (un + 1 - sn)) v
        · rfl
        · exfalso
          have hall := ((fv_an_bt b_sets (6 * e + a) sn v (un + 1 - sn)).mp hb).2 (fr_n a_came i - 1 - sn) (by omega)
          have hno := s3 i hi
          rw [q1, q2, q3] at hno
          have e1 : 72 * (sn + (fr_n a_came i - 1 - sn)) + (6 * e + a) = 72 * (fr_n a_came i - 1) + 6 * e + a := by omega
          rw [e1] at hall
          exact hno hall
theorem fv_mkW {L K md sn un : Nat} {a_ke a_ka a_kv a_came a_went a_now b_sets row col R : Nat → Int32} (h : fr_V L K a_ke a_ka a_kv a_came a_went a_now b_sets) (hm : md ≤ 1) (h1 : sn ≤ un) (h2 : un ≤ L) (hq : fv_RC row col (fv_Q K md sn un (fr_n a_ke) (fr_n a_ka) (fr_n a_kv) (fr_n a_came) (fr_n a_went)))
    (hR : ∀ a x, a < 6 → x < 20 → R (20 * a + x) = fv_cl (fv_r0 row a) 12 x) : fr_W L md sn un b_sets row col R := by
  refine ⟨⟨hm, h1, h2⟩, fun e a he ha => ?_, hq.2.2, hR⟩
  refine fl_ext (hq.2.1 _ (by omega)) (fv_lk_w h.2.2.2.2.1 h1 h2 (by omega)) fun v hv => ?_
  rw [Bool.eq_iff_iff, hq.1 e a v he ha hv, fv_link h hm h1 h2 he ha hv]
theorem fv_hk {L K : Nat} {a_ke a_ka a_kv a_came a_went a_now b_sets : Nat → Int32} (h : fr_V L K a_ke a_ka a_kv a_came a_went a_now b_sets) :
    ∀ i, i < K → (a_ke i = nI (fr_n a_ke i) ∧ a_ka i = nI (fr_n a_ka i) ∧ a_kv i = nI (fr_n a_kv i) ∧ a_came i = nI (fr_n a_came i) ∧ a_went i = nI (fr_n a_went i)) ∧ fr_n a_ke i < 12 ∧ fr_n a_ka i < 6 ∧ fr_n a_kv i < 20 ∧ fr_n a_came i < 1000 ∧ fr_n a_went i < 1000 := by
  intro i hi
  obtain ⟨hL, hK, ⟨n1, n2, n3, n4, n5⟩, ⟨s1, s2, s3, s4⟩, hw, hn⟩ := h
  obtain ⟨r1, r2, r3, r4, r5, r6⟩ := s1 i hi
  exact ⟨⟨n1 i hi, n2 i hi, n3 i hi, n4 i hi, n5 i hi⟩, r1, r2, r3, by omega, by omega⟩
section
variable {f_latest f_kept f_steps f_mode f_since f_until f_clauses f_levels f_asked f_level f_assigned f_bounded : Int32} {a_kinds a_keptEntity a_keptAttribute a_keptValue a_came a_went a_now a_work a_stepKind a_stepEntity a_stepAttribute a_stepValue a_stepOther a_row a_column a_reach a_clauseKind a_clauseAttribute a_left a_right a_order a_rest a_number a_bound : Nat → Int32}
variable {g_latest g_steps g_mode g_from g_to g_clauses g_masked : Int32} {b_attributeKinds b_sets b_work b_sorts b_entities b_attributes b_values b_others b_seen b_reach b_kinds b_along b_left b_right b_order b_number : Nat → Int32}
variable {L md sn un p : Nat}
theorem fv_inY {post : Int32 → Prop} (u : SY) {x : Int32} {v : Nat} (hv : v < 32) (h1 : bt x v = true → post 1) (h0 : bt x v = false → post 0) : wpY_in post u x (nI v) := by
  obtain ⟨g_latest, g_steps, g_mode, g_from, g_to, g_clauses, g_masked, b_attributeKinds, b_sets, b_work, b_sorts, b_entities, b_attributes, b_values, b_others, b_seen, b_reach, b_kinds, b_along, b_left, b_right, b_order, b_number⟩ := u
  exact fl_br1 v hv h1 h0
theorem fv_look19 {post : SY → Prop} {J : Int32 → (Nat → Int32) → (Nat → Int32) → (Nat → Int32) → (Nat → Int32) → (Nat → Int32) → (Nat → Int32) → (Nat → Int32) → (Nat → Int32) → (Nat → Int32) → (Nat → Int32) → (Nat → Int32) → (Nat → Int32) → (Nat → Int32) → (Nat → Int32) → (Nat → Int32) → (Nat → Int32) → Prop} (hm : md ≤ 1) (h1 : sn ≤ un) (h2 : un ≤ 24) (hp : p < 72)
    (hJ : J (nI (p + 1)) b_attributeKinds b_sets b_work b_sorts b_entities b_attributes b_values b_others (upd b_seen p (fv_lk md sn un b_sets p)) b_reach b_kinds b_along b_left b_right b_order b_number) :
    ∃ n, wY_look_19 post J (nI p) g_latest g_steps (nI md) (nI sn) (nI un) g_clauses g_masked b_attributeKinds b_sets b_work b_sorts b_entities b_attributes b_values b_others b_seen b_reach b_kinds b_along b_left b_right b_order b_number n 0 1048575 (nI sn) := by
  have key : ∀ d i, sn + i + d = un + 1 → wY_look_19 post J (nI p) g_latest g_steps (nI md) (nI sn) (nI un) g_clauses g_masked b_attributeKinds b_sets b_work b_sorts b_entities b_attributes b_values b_others b_seen b_reach b_kinds b_along b_left b_right b_order b_number (d + 1) (fv_or b_sets p sn i) (fv_an b_sets p sn i) (nI (sn + i)) := by
    intro d
    induction d with
    | zero =>
      intro i hi
      have e : i = un + 1 - sn := by omega
      subst e
      refine br_t (nI_lt (by omega) (by omega)) ?_
      rw [fv_i72, fk_cl (f := b_sets) (n := 72 * un + p) (by omega)]
      refine ⟨vp_in_nI (by omega) (by omega), nm_e (pk_eq md 1 (fun z => ?_) (fun z => pk_eq sn 0 (fun z2 => ?_) (fun z2 => ?_)))⟩
      · refine ⟨vp_in_nI hp (by omega), nm_r (e' := upd b_seen p (fv_lk md sn un b_sets p)) ?_ (nm_r (nI_1 p) hJ)⟩
        rw [fk_ucl (by omega)]; unfold fv_lk; rw [if_pos z]
      · refine ⟨vp_in_nI hp (by omega), nm_r (e' := upd b_seen p (fv_lk md sn un b_sets p)) ?_ (nm_r (nI_1 p) hJ)⟩
        rw [fk_ucl (by omega)]; unfold fv_lk; rw [if_neg z, if_pos z2]
      · refine ⟨vp_in_nI hp (by omega), nm_r (e' := upd b_seen p (fv_lk md sn un b_sets p)) ?_ (nm_r (nI_1 p) hJ)⟩
        rw [fk_ucl (by omega)]; unfold fv_lk; rw [if_neg z, if_neg z2]
    | succ d ih =>
      intro i hi
      refine br_f (nI_nlt (by omega) (by omega)) ?_
      rw [fv_i72, fk_cl (f := b_sets) (n := 72 * (sn + i) + p) (by omega)]
      have hin : vp_in (nI (72 * (sn + i) + p)) 1800 := vp_in_nI (by omega) (by omega)
      exact ⟨hin, nm_e ⟨hin, nm_e (nm_r (nI_1 (sn + i)) (ih (i + 1) (by omega)))⟩⟩
  exact ⟨_, key (un + 1 - sn) 0 (by omega)⟩
theorem fv_look {post : SY → Prop} (hm : md ≤ 1) (h1 : sn ≤ un) (h2 : un ≤ 24)
    (h : ∀ S', (∀ p, p < 72 → S' p = fv_lk md sn un b_sets p) → post (g_latest, g_steps, nI md, nI sn, nI un, g_clauses, g_masked, b_attributeKinds, b_sets, b_work, b_sorts, b_entities, b_attributes, b_values, b_others, S', b_reach, b_kinds, b_along, b_left, b_right, b_order, b_number)) :
    wpY_look post (g_latest, g_steps, nI md, nI sn, nI un, g_clauses, g_masked, b_attributeKinds, b_sets, b_work, b_sorts, b_entities, b_attributes, b_values, b_others, b_seen, b_reach, b_kinds, b_along, b_left, b_right, b_order, b_number) := by
  have key : ∀ d p S, p + d = 72 → (∀ q, q < p → S q = fv_lk md sn un b_sets q) → wY_look_2 post g_latest g_steps (nI md) (nI sn) (nI un) g_clauses g_masked (d + 1) (nI p) b_attributeKinds b_sets b_work b_sorts b_entities b_attributes b_values b_others S b_reach b_kinds b_along b_left b_right b_order b_number := by
    intro d
    induction d with
    | zero =>
      intro p S hp hS
      have e : p = 72 := by omega
      subst e
      exact br_t (nI_le (a := 72) (by omega) (by omega)) (h S hS)
    | succ d ih =>
      intro p S hp hS
      refine br_f (nI_ge (b := 72) (by omega) (by omega)) (fv_look19 hm h1 h2 (by omega) (ih (p + 1) _ (by omega) (fun q hq => ?_)))
      by_cases hz : q = p
      · subst hz; rw [pk_us]
      · rw [pk_un hz]; exact hS q (by omega)
  exact ⟨_, key 72 0 b_seen rfl (fun q hq => absurd hq (by omega))⟩
theorem fv_factsX {post : Int32 → Prop} (hw : ∀ p, p < 72 → fl_w 20 (a_row p)) (h : post (nI (fl_sm (fun p => fl_pc (a_row p)) 72))) : wpX_facts post (f_latest, f_kept, f_steps, f_mode, f_since, f_until, f_clauses, f_levels, f_asked, f_level, f_assigned, f_bounded, a_kinds, a_keptEntity, a_keptAttribute, a_keptValue, a_came, a_went, a_now, a_work, a_stepKind, a_stepEntity, a_stepAttribute, a_stepValue, a_stepOther, a_row, a_column, a_reach, a_clauseKind, a_clauseAttribute, a_left, a_right, a_order, a_rest, a_number, a_bound) := by
  have key : ∀ d p, p + d = 72 → wX_facts_4 post f_latest f_kept f_steps f_mode f_since f_until f_clauses f_levels f_asked f_level f_assigned f_bounded a_kinds a_keptEntity a_keptAttribute a_keptValue a_came a_went a_now a_work a_stepKind a_stepEntity a_stepAttribute a_stepValue a_stepOther a_row a_column a_reach a_clauseKind a_clauseAttribute a_left a_right a_order a_rest a_number a_bound (d + 1) (nI (fl_sm (fun p => fl_pc (a_row p)) p)) (nI p) := by
    intro d
    induction d with
    | zero =>
      intro p hp
      have e : p = 72 := by omega
      subst e
      exact br_t (nI_le (a := 72) (by omega) (by omega)) h
    | succ d ih =>
      intro p hp
      refine br_f (nI_ge (b := 72) (by omega) (by omega)) ⟨vp_in_nI (by omega) (by omega), ?_⟩
      rw [fk_cl (f := a_row) (n := p) (by omega)]
      exact fl_ones (hw p (by omega)) (nm_r (nI_add _ _) (nm_r (nI_1 p) (ih (p + 1) (by omega))))
  exact ⟨_, key 72 0 rfl⟩
theorem fv_factsY {post : Int32 → SY → Prop} (h : post (nI (fl_sm (fun p => fl_pc (b_seen p)) 72)) (g_latest, g_steps, g_mode, g_from, g_to, g_clauses, g_masked, b_attributeKinds, b_sets, b_work, b_sorts, b_entities, b_attributes, b_values, b_others, b_seen, b_reach, b_kinds, b_along, b_left, b_right, b_order, b_number)) : ∃ n, wY_facts_8 post g_latest g_steps g_mode g_from g_to g_clauses g_masked b_attributeKinds b_sets b_work b_sorts b_entities b_attributes b_values b_others b_seen b_reach b_kinds b_along b_left b_right b_order b_number n 0 0 := by
  have key : ∀ d p, p + d = 72 → wY_facts_8 post g_latest g_steps g_mode g_from g_to g_clauses g_masked b_attributeKinds b_sets b_work b_sorts b_entities b_attributes b_values b_others b_seen b_reach b_kinds b_along b_left b_right b_order b_number (d + 1) (nI (fl_sm (fun p => fl_pc (b_seen p)) p)) (nI p) := by
    intro d
    induction d with
    | zero =>
      intro p hp
      have e : p = 72 := by omega
      subst e
      exact br_t (nI_le (a := 72) (by omega) (by omega)) h
    | succ d ih =>
      intro p hp
      refine br_f (nI_ge (b := 72) (by omega) (by omega)) ⟨vp_in_nI (by omega) (by omega), ?_⟩
      rw [fk_cl (f := b_seen) (n := p) (by omega)]
      exact fl_onesY _ (nm_r (nI_add _ _) (nm_r (nI_1 p) (ih (p + 1) (by omega))))
  exact ⟨_, key 72 0 rfl⟩
end
theorem fr_W_w {L K md sn un : Nat} {a_ke a_ka a_kv a_came a_went a_now b_sets a_row a_col a_reach : Nat → Int32} (h : fr_V L K a_ke a_ka a_kv a_came a_went a_now b_sets) (h3 : fr_W L md sn un b_sets a_row a_col a_reach) : ∀ p, p < 72 → fl_w 20 (a_row p) := by
  intro p hp
  have e : p = 12 * (p / 12) + p % 12 := by omega
  rw [e, h3.2.1 (p % 12) (p / 12) (by omega) (by omega)]
  exact fv_lk_w h.2.2.2.2.1 h3.1.2.1 h3.1.2.2 (by omega)
theorem fv_tr {L md sn un : Nat} {b_sets a_row a_col a_reach S' : Nat → Int32} (h3 : fr_W L md sn un b_sets a_row a_col a_reach) (hS : ∀ p, p < 72 → S' p = fv_lk md sn un b_sets p) {e a : Nat} (he : e < 12) (ha : a < 6) : a_row (12 * a + e) = S' (6 * e + a) := by
  rw [h3.2.1 e a he ha, hS _ (by omega)]
theorem i_vc_facts {k : Nat} {u : SX} {v : SY} (I : i_Rel k u v) (hk : k + 5 ≤ 2560) : wpX_facts (fun r => wpY_facts (fun r' v' => r' = r ∧ i_Rel (k + 5) u v') v) u := by
  refine fr_el (P := fun u v => wpX_facts (fun r => wpY_facts (fun r' v' => r' = r ∧ i_Rel (k + 5) u v') v) u) I ?_
  intro L K s md sn un C f_levels f_asked f_level f_assigned f_bounded g_masked a_kinds a_keptEntity a_keptAttribute a_keptValue a_came a_went a_now a_work a_stepKind a_stepEntity a_stepAttribute a_stepValue a_stepOther a_row a_column a_reach a_clauseKind a_clauseAttribute a_left a_right a_order a_rest a_number a_bound b_sets b_work b_attributes b_seen b_reach b_along b_order b_number h1 h2 h3 h4
  have hL := h1.1
  refine fv_factsX (fr_W_w h1 h3) ?_
  unfold wpY_facts
  refine fv_look h3.1.1 h3.1.2.1 (by have := h3.1.2.2; omega) (fun S' hS => fv_factsY ⟨?_, fr_in h1 h2 h3 h4⟩)
  exact congrArg nI (fl_sm_tr fun e a he ha => by rw [fv_tr h3 hS he ha]).symm
theorem i_vc_has {k : Nat} {u : SX} {v : SY} (I : i_Rel k u v) (hk : k + 5 ≤ 2560) (v1 : Int32) (v2 : Int32) (v3 : Int32) : wpX_has (fun r => wpY_has (fun r' v' => r' = r ∧ i_Rel (k + 5) u v') v v1 v2 v3) u v1 v2 v3 := by
  refine fr_el (P := fun u v => wpX_has (fun r => wpY_has (fun r' v' => r' = r ∧ i_Rel (k + 5) u v') v v1 v2 v3) u v1 v2 v3) I ?_
  intro L K s md sn un C f_levels f_asked f_level f_assigned f_bounded g_masked a_kinds a_keptEntity a_keptAttribute a_keptValue a_came a_went a_now a_work a_stepKind a_stepEntity a_stepAttribute a_stepValue a_stepOther a_row a_column a_reach a_clauseKind a_clauseAttribute a_left a_right a_order a_rest a_number a_bound b_sets b_work b_attributes b_seen b_reach b_along b_order b_number h1 h2 h3 h4
  have hL := h1.1
  unfold wpX_has wpY_has
  by_cases hE : ∃ e, e < 12 ∧ v1 = nI e
  · obtain ⟨e, he, rfl⟩ := hE
    by_cases hA : ∃ a, a < 6 ∧ v2 = nI a
    · obtain ⟨a, ha, rfl⟩ := hA
      by_cases hV : ∃ v, v < 20 ∧ v3 = nI v
      · obtain ⟨v, hv, rfl⟩ := hV
        refine fk_eT he (br_f fk_10 (fk_aT ha (br_f fk_10 (fk_vT hv (br_f fk_10 ?_)))))
        rw [fv_i12, fk_cl (f := a_row) (n := 12 * a + e) (by omega)]
        refine ⟨vp_in_nI (by omega) (by omega), ?_⟩
        refine fk_eYT _ he (br_f fk_10 (fk_aYT _ ha (br_f fk_10 (fk_vYT _ hv (br_f fk_10 (fv_look h3.1.1 h3.1.2.1 (by have := h3.1.2.2; omega) (fun S' hS => ?_)))))))
        dsimp only
        rw [fv_i6, fk_cl (f := S') (n := 6 * e + a) (by omega)]
        exact ⟨vp_in_nI (by omega) (by omega), by rw [fv_tr h3 hS he ha], fr_in h1 h2 h3 h4⟩
      · refine fk_eT he (br_f fk_10 (fk_aT ha (br_f fk_10 (fk_vF hV (br_t rfl ?_)))))
        exact fk_eYT _ he (br_f fk_10 (fk_aYT _ ha (br_f fk_10 (fk_vYF _ hV (br_t rfl ⟨rfl, fr_in h1 h2 h3 h4⟩)))))
    · refine fk_eT he (br_f fk_10 (fk_aF hA (br_t rfl ?_)))
      exact fk_eYT _ he (br_f fk_10 (fk_aYF _ hA (br_t rfl ⟨rfl, fr_in h1 h2 h3 h4⟩)))
  · refine fk_eF hE (br_t rfl ?_)
    exact fk_eYF _ hE (br_t rfl ⟨rfl, fr_in h1 h2 h3 h4⟩)
theorem i_vc_view {k : Nat} {u : SX} {v : SY} (I : i_Rel k u v) (hk : k + 5 ≤ 2560) (v1 : Int32) (v2 : Int32) (v3 : Int32) : wpX_view (fun r u' => wpY_view (fun r' v' => r' = r ∧ i_Rel (k + 5) u' v') v v1 v2 v3) u v1 v2 v3 := by
  refine fr_el (P := fun u v => wpX_view (fun r u' => wpY_view (fun r' v' => r' = r ∧ i_Rel (k + 5) u' v') v v1 v2 v3) u v1 v2 v3) I ?_
  intro L K s md sn un C f_levels f_asked f_level f_assigned f_bounded g_masked a_kinds a_keptEntity a_keptAttribute a_keptValue a_came a_went a_now a_work a_stepKind a_stepEntity a_stepAttribute a_stepValue a_stepOther a_row a_column a_reach a_clauseKind a_clauseAttribute a_left a_right a_order a_rest a_number a_bound b_sets b_work b_attributes b_seen b_reach b_along b_order b_number h1 h2 h3 h4
  have hL := h1.1
  by_cases c1 : v1 < 0
  · exact br_t c1 (br_t c1 ⟨rfl, fr_in h1 h2 h3 h4⟩)
  by_cases c2 : v1 ≤ 1
  · by_cases c3 : v2 < 0
    · exact br_f c1 (br_t c2 (br_t c3 (br_f c1 (br_t c2 (br_t c3 ⟨rfl, fr_in h1 h2 h3 h4⟩)))))
    by_cases c4 : v3 < v2
    · exact br_f c1 (br_t c2 (br_f c3 (br_t c4 (br_f c1 (br_t c2 (br_f c3 (br_t c4 ⟨rfl, fr_in h1 h2 h3 h4⟩)))))))
    by_cases c5 : v3 ≤ nI L
    · obtain ⟨m, hm, rfl⟩ := nI_of2 (M := 1) (n := 1) (by decide) c1 c2
      obtain ⟨s', hs', rfl⟩ := nI_of c3
      have c6 : ¬ v3 < 0 := by
        intro hh
        apply c4
        have h0 := nI_pos' hs'
        rw [Int32.lt_iff_toInt_lt] at hh ⊢
        rw [Int32.le_iff_toInt_le] at h0
        omega
      obtain ⟨t', ht', rfl⟩ := nI_of c6
      have l1 : s' ≤ t' := by
        rcases Nat.lt_or_ge t' s' with z | z
        · exact absurd (nI_lt z hs') c4
        · exact z
      have l2 : t' ≤ L := (nI_leI ht' (by omega)).mp c5
      have hK := h1.2.1
      refine br_f c1 (br_t c2 (br_f c3 (br_f c4 (br_t c5 (fv_lay (by omega) (by omega) (by omega) (by omega) (fv_hk h1) (fun row col R' k1 k2 => ?_))))))
      have hW := fv_mkW h1 hm l1 l2 k1 k2
      refine fv_factsX k1.2.1 ?_
      refine br_f c1 (br_t c2 (br_f c3 (br_f c4 (br_t c5 ?_))))
      unfold wpY_facts
      refine fv_look hm l1 (by omega) (fun S' hS => fv_factsY ⟨?_, fr_in h1 h2 hW h4⟩)
      exact congrArg nI (fl_sm_tr fun e a he ha => by rw [fv_tr hW hS he ha]).symm
    · exact br_f c1 (br_t c2 (br_f c3 (br_f c4 (br_f c5 (br_f c1 (br_t c2 (br_f c3 (br_f c4 (br_f c5 ⟨rfl, fr_in h1 h2 h3 h4⟩)))))))))
  · exact br_f c1 (br_f c2 (br_f c1 (br_f c2 ⟨rfl, fr_in h1 h2 h3 h4⟩)))
theorem fr_V_0 {a_ke a_ka a_kv a_came a_went : Nat → Int32} : fr_V 0 0 a_ke a_ka a_kv a_came a_went (fun _ => 0) (fun _ => 0) := by
  refine ⟨by omega, by omega, ⟨?_, ?_, ?_, ?_, ?_⟩, ⟨?_, ?_, ?_, ?_⟩, fun p _ => fl_w0 20, fun e a _ _ => rfl⟩
  · exact fun i hi => absurd hi (by omega)
  · exact fun i hi => absurd hi (by omega)
  · exact fun i hi => absurd hi (by omega)
  · exact fun i hi => absurd hi (by omega)
  · exact fun i hi => absurd hi (by omega)
  · exact fun i hi => absurd hi (by omega)
  · intro w e a v _ _ _ _
    dsimp only
    rw [b_0]
    exact ⟨fun z => absurd z (by decide), fun ⟨i, hi, _⟩ => absurd hi (by omega)⟩
  · exact fun i hi => absurd hi (by omega)
  · exact fun i j _ hj => absurd hj (by omega)
theorem i_vc0 : wpX_init (fun u => wpY_init (fun v => i_Rel 0 u v)) := by
  unfold wpX_init
  refine fv_lay (K := 0) (md := 0) (sn := 0) (un := 0) (by omega) (by omega) (by omega) (by omega) (ke := fun _ => 0) (ka := fun _ => 0) (kv := fun _ => 0) (kc := fun _ => 0) (kw := fun _ => 0) (fun i hi => absurd hi (by omega)) (fun row col R' k1 k2 => ?_)
  have k1' := fv_RC_iff (Q' := fv_Q 0 0 0 0 (fr_n (fun _ => 0)) (fr_n (fun _ => 0)) (fr_n (fun _ => 0)) (fr_n (fun _ => 0)) (fr_n (fun _ => 0))) k1 (fun e a v _ _ _ => ⟨fun ⟨j, hj, _⟩ => absurd hj (by omega), fun ⟨j, hj, _⟩ => absurd hj (by omega)⟩)
  exact fr_in (k := 0) (L := 0) (K := 0) (s := 0) (md := 0) (sn := 0) (un := 0) (C := 0) fr_V_0 (fr_S_0 (s := 0)) (fv_mkW fr_V_0 (by omega) (by omega) (by omega) k1' k2) fr_C_0
end
section
/-! valueAt, holderAt, since -/
/-- how many are set below v -/
def fm_cb (β : Nat → Bool) (v : Nat) : Nat := fl_sm (fun i => (β i).toNat) v
theorem fm_cb_s (β : Nat → Bool) (v : Nat) : fm_cb β (v + 1) = fm_cb β v + (β v).toNat := rfl
theorem fm_cb_le {β : Nat → Bool} {a b : Nat} (h : a ≤ b) : fm_cb β a ≤ fm_cb β b := fl_sm_mono _ h
theorem fm_cb_lt {β : Nat → Bool} {a b : Nat} (h : a < b) (ha : β a = true) : fm_cb β a < fm_cb β b := by
  have h1 := fm_cb_le (β := β) (a := a + 1) (b := b) h
  rw [fm_cb_s, ha] at h1
  exact h1
theorem fm_cb_bd {β : Nat → Bool} {m : Nat} : ∀ n, (∀ v, v < n → β v = true → fm_cb β v < m) → fm_cb β n ≤ m
  | 0, _ => Nat.zero_le _
  | n + 1, h => by
    have h1 := fm_cb_bd n (fun v hv => h v (by omega))
    rw [fm_cb_s]
    cases hb : β n
    · simpa using h1
    · have := h n (by omega) hb
      simp; omega
theorem fm_s0 (k c : Int32) : k - c = 0 ↔ k = c := by
  constructor
  · intro h; grind
  · intro h; grind
theorem fm_s1 (k : Int32) (c : Nat) : k - nI c + (-1) = k - nI (c + 1) := by rw [nI_succ]; grind
theorem fm_s00 (k : Int32) : k - nI 0 = k := by rw [nI_0]; grind
theorem fm_memX {post : Int32 → Prop} {x k : Int32} (hx : fl_w 20 x) (h1 : ∀ v, v < 20 → bt x v = true → k = nI (fm_cb (bt x) v) → post (nI v)) (h0 : (¬ ∃ v, v < 20 ∧ bt x v = true ∧ k = nI (fm_cb (bt x) v)) → post (-2)) : wpX_member post x k := by
  unfold wpX_member
  refine fl_ones hx ?_
  have hpc : fl_pc x = fm_cb (bt x) 20 := rfl
  have hle := fl_pc_le x
  by_cases hk0 : k < 0
  · refine br_t hk0 (h0 ?_)
    rintro ⟨v, hv, _, rfl⟩
    have := fm_cb_le (β := bt x) (a := v) (b := 20) (by omega)
    exact absurd hk0 (nI_pos (by omega))
  · refine br_f hk0 ?_
    obtain ⟨m, hm, rfl⟩ := nI_of hk0
    by_cases hlt : m < fl_pc x
    · refine br_t (nI_lt hlt (by omega)) ?_
      have low : ∀ i y, i ≤ m → (∀ v, bt y v = (bt x v && decide (i ≤ fm_cb (bt x) v))) → ∃ k, k < 20 ∧ bt y k = true ∧ (∀ j, j < k → bt y j = false) ∧ bt x k = true ∧ fm_cb (bt x) k = i := by
        intro i y hi hy
        have hyw : fl_w 20 y := fun j hj => by rw [hy, hx j hj]; rfl
        have hy0 : y ≠ 0 := by
          intro hz
          have := fm_cb_bd (β := bt x) (m := i) 20 (fun v hv hb => by
            have h := hy v
            rw [hz, b_0, hb, Bool.true_and] at h
            have := of_decide_eq_false h.symm
            omega)
          omega
        obtain ⟨k, k1, k2, k3⟩ := fl_low hyw hy0
        have h := hy k
        rw [k2] at h
        have hh := Bool.and_eq_true_iff.mp h.symm
        refine ⟨k, k1, k2, k3, hh.1, Nat.le_antisymm (fm_cb_bd k (fun v hv hb => ?_)) (of_decide_eq_true hh.2)⟩
        have h := hy v
        rw [k3 v hv, hb, Bool.true_and] at h
        have := of_decide_eq_false h.symm
        omega
      have key : ∀ d i y, i + d = m → (∀ v, bt y v = (bt x v && decide (i ≤ fm_cb (bt x) v))) → wX_member_22 post (nI m) (d + 1) y (nI i) := by
        intro d
        induction d with
        | zero =>
          intro i y hi hy
          have e : i = m := by omega
          subst e
          obtain ⟨k, k1, k2, k3, k4, k5⟩ := low i y (by omega) hy
          exact br_t (nI_le (by omega) (by omega)) (fl_lowest k1 k2 k3 (h1 k k1 k4 (by rw [k5])))
        | succ d ih =>
          intro i y hi hy
          obtain ⟨k, k1, k2, k3, k4, k5⟩ := low i y (by omega) hy
          refine br_f (nI_ge (by omega) (by omega)) (nm_e (nm_r (nI_1 i) (ih (i + 1) _ (by omega) (fun v => ?_))))
          rw [fl_pop k2 k3, hy v]
          cases hb : bt x v
          · rfl
          · rw [Bool.true_and, Bool.true_and, Bool.eq_iff_iff, Bool.and_eq_true, decide_eq_true_iff, decide_eq_true_iff, decide_eq_true_iff]
            constructor
            · rintro ⟨q1, q2⟩
              rcases Nat.lt_or_ge v k with z | z
              · have := fm_cb_lt z hb
                omega
              · have := fm_cb_lt (a := k) (b := v) (by omega) k4
                omega
            · intro q
              refine ⟨by omega, fun z => ?_⟩
              subst z
              omega
      exact ⟨_, key m 0 x (by omega) (fun v => by simp)⟩
    · refine br_f (nI_nlt (by omega) (by omega)) (h0 ?_)
      rintro ⟨v, hv, hb, he⟩
      have h2 := fm_cb_lt hv hb
      rw [nI_eq (by omega) (by omega)] at he
      omega
section
variable {f_latest f_kept f_steps f_mode f_since f_until f_clauses f_levels f_asked f_level f_assigned f_bounded : Int32} {a_kinds a_keptEntity a_keptAttribute a_keptValue a_came a_went a_now a_work a_stepKind a_stepEntity a_stepAttribute a_stepValue a_stepOther a_row a_column a_reach a_clauseKind a_clauseAttribute a_left a_right a_order a_rest a_number a_bound : Nat → Int32}
variable {g_latest g_steps g_mode g_from g_to g_clauses g_masked : Int32} {b_attributeKinds b_sets b_work b_sorts b_entities b_attributes b_values b_others b_seen b_reach b_kinds b_along b_left b_right b_order b_number : Nat → Int32}
variable {L K e a v : Nat} {k : Int32}
theorem fm_valY {post : Int32 → SY → Prop} (he : e < 12) (ha : a < 6)
    (h1 : ∀ v, v < 20 → bt (b_seen (6 * e + a)) v = true → k = nI (fm_cb (bt (b_seen (6 * e + a))) v) → post (nI v) (g_latest, g_steps, g_mode, g_from, g_to, g_clauses, g_masked, b_attributeKinds, b_sets, b_work, b_sorts, b_entities, b_attributes, b_values, b_others, b_seen, b_reach, b_kinds, b_along, b_left, b_right, b_order, b_number))
    (h0 : (¬ ∃ v, v < 20 ∧ bt (b_seen (6 * e + a)) v = true ∧ k = nI (fm_cb (bt (b_seen (6 * e + a))) v)) → post (-2) (g_latest, g_steps, g_mode, g_from, g_to, g_clauses, g_masked, b_attributeKinds, b_sets, b_work, b_sorts, b_entities, b_attributes, b_values, b_others, b_seen, b_reach, b_kinds, b_along, b_left, b_right, b_order, b_number)) : ∃ n, wY_valueAt_28 post (nI e) (nI a) g_latest g_steps g_mode g_from g_to g_clauses g_masked b_attributeKinds b_sets b_work b_sorts b_entities b_attributes b_values b_others b_seen b_reach b_kinds b_along b_left b_right b_order b_number n k 0 := by
  have key : ∀ d v, v + d = 20 → (∀ j, j < v → ¬ (bt (b_seen (6 * e + a)) j = true ∧ k = nI (fm_cb (bt (b_seen (6 * e + a))) j))) → wY_valueAt_28 post (nI e) (nI a) g_latest g_steps g_mode g_from g_to g_clauses g_masked b_attributeKinds b_sets b_work b_sorts b_entities b_attributes b_values b_others b_seen b_reach b_kinds b_along b_left b_right b_order b_number (d + 1) (k - nI (fm_cb (bt (b_seen (6 * e + a))) v)) (nI v) := by
    intro d
    induction d with
    | zero =>
      intro v hv hj
      have e20 : v = 20 := by omega
      subst e20
      refine br_t (nI_le (a := 20) (by omega) (by omega)) (h0 ?_)
      rintro ⟨j, q1, q2⟩
      exact hj j q1 q2
    | succ d ih =>
      intro v hv hj
      refine br_f (nI_ge (b := 20) (by omega) (by omega)) ?_
      rw [fv_i6, fk_cl (f := b_seen) (n := 6 * e + a) (by omega)]
      have hnext : ¬ (bt (b_seen (6 * e + a)) v = true ∧ k = nI (fm_cb (bt (b_seen (6 * e + a))) v)) → ∀ j, j < v + 1 → ¬ (bt (b_seen (6 * e + a)) j = true ∧ k = nI (fm_cb (bt (b_seen (6 * e + a))) j)) := by
        intro hn j hjv
        by_cases hz : j = v
        · subst hz; exact hn
        · exact hj j (by omega)
      refine ⟨vp_in_nI (by omega) (by omega), fv_inY _ (by omega) (fun hb => br_f fk_10 ?_) (fun hb => br_t rfl ?_)⟩
      · rw [fm_s0]
        refine br_c (fun hz => h1 v (by omega) hb hz) (fun hz => nm_r (fm_s1 _ _) (nm_r (nI_1 v) ?_))
        have h := ih (v + 1) (by omega) (hnext fun q => hz q.2)
        rw [fm_cb_s, hb] at h
        exact h
      · have h := ih (v + 1) (by omega) (hnext fun q => by rw [hb] at q; exact absurd q.1 (by decide))
        rw [fm_cb_s, hb] at h
        exact nm_r (nI_1 v) h
  have h := key 20 0 rfl (fun j hj => absurd hj (by omega))
  rw [show fm_cb (bt (b_seen (6 * e + a))) 0 = 0 from rfl, fm_s00] at h
  exact ⟨_, h⟩
theorem fm_holY {post : Int32 → SY → Prop} (hv : v < 20) (ha : a < 6) {β : Nat → Bool} (hβ : ∀ e, e < 12 → β e = bt (b_seen (6 * e + a)) v)
    (h1 : ∀ e, e < 12 → β e = true → k = nI (fm_cb β e) → post (nI e) (g_latest, g_steps, g_mode, g_from, g_to, g_clauses, g_masked, b_attributeKinds, b_sets, b_work, b_sorts, b_entities, b_attributes, b_values, b_others, b_seen, b_reach, b_kinds, b_along, b_left, b_right, b_order, b_number))
    (h0 : (¬ ∃ e, e < 12 ∧ β e = true ∧ k = nI (fm_cb β e)) → post (-2) (g_latest, g_steps, g_mode, g_from, g_to, g_clauses, g_masked, b_attributeKinds, b_sets, b_work, b_sorts, b_entities, b_attributes, b_values, b_others, b_seen, b_reach, b_kinds, b_along, b_left, b_right, b_order, b_number)) : ∃ n, wY_holderAt_28 post (nI a) (nI v) g_latest g_steps g_mode g_from g_to g_clauses g_masked b_attributeKinds b_sets b_work b_sorts b_entities b_attributes b_values b_others b_seen b_reach b_kinds b_along b_left b_right b_order b_number n k 0 := by
  have key : ∀ d e, e + d = 12 → (∀ j, j < e → ¬ (β j = true ∧ k = nI (fm_cb β j))) → wY_holderAt_28 post (nI a) (nI v) g_latest g_steps g_mode g_from g_to g_clauses g_masked b_attributeKinds b_sets b_work b_sorts b_entities b_attributes b_values b_others b_seen b_reach b_kinds b_along b_left b_right b_order b_number (d + 1) (k - nI (fm_cb β e)) (nI e) := by
    intro d
    induction d with
    | zero =>
      intro e he hj
      have e20 : e = 12 := by omega
      subst e20
      refine br_t (nI_le (a := 12) (by omega) (by omega)) (h0 ?_)
      rintro ⟨j, q1, q2⟩
      exact hj j q1 q2
    | succ d ih =>
      intro e he hj
      refine br_f (nI_ge (b := 12) (by omega) (by omega)) ?_
      rw [fv_i6, fk_cl (f := b_seen) (n := 6 * e + a) (by omega)]
      have hnext : ¬ (β e = true ∧ k = nI (fm_cb β e)) → ∀ j, j < e + 1 → ¬ (β j = true ∧ k = nI (fm_cb β j)) := by
        intro hn j hjv
        by_cases hz : j = e
        · subst hz; exact hn
        · exact hj j (by omega)
      refine ⟨vp_in_nI (by omega) (by omega), fv_inY _ (by omega) (fun hb => br_f fk_10 ?_) (fun hb => br_t rfl ?_)⟩
      · rw [← hβ e (by omega)] at hb
        rw [fm_s0]
        refine br_c (fun hz => h1 e (by omega) hb hz) (fun hz => nm_r (fm_s1 _ _) (nm_r (nI_1 e) ?_))
        have h := ih (e + 1) (by omega) (hnext fun q => hz q.2)
        rw [fm_cb_s, hb] at h
        exact h
      · rw [← hβ e (by omega)] at hb
        have h := ih (e + 1) (by omega) (hnext fun q => by rw [hb] at q; exact absurd q.1 (by decide))
        rw [fm_cb_s, hb] at h
        exact nm_r (nI_1 e) h
  have h := key 12 0 rfl (fun j hj => absurd hj (by omega))
  rw [show fm_cb β 0 = 0 from rfl, fm_s00] at h
  exact ⟨_, h⟩
theorem fm_open {post : Int32 → Prop} {x1 x2 x3 : Int32} (hK : K ≤ 240) (h1 : ∀ i, i < K → a_went i = 99 → a_keptEntity i = x1 → a_keptAttribute i = x2 → a_keptValue i = x3 → post (nI i))
    (h0 : (¬ ∃ i, i < K ∧ a_went i = 99 ∧ a_keptEntity i = x1 ∧ a_keptAttribute i = x2 ∧ a_keptValue i = x3) → post (-1)) : wpX_openFact post (f_latest, nI K, f_steps, f_mode, f_since, f_until, f_clauses, f_levels, f_asked, f_level, f_assigned, f_bounded, a_kinds, a_keptEntity, a_keptAttribute, a_keptValue, a_came, a_went, a_now, a_work, a_stepKind, a_stepEntity, a_stepAttribute, a_stepValue, a_stepOther, a_row, a_column, a_reach, a_clauseKind, a_clauseAttribute, a_left, a_right, a_order, a_rest, a_number, a_bound) x1 x2 x3 := by
  have key : ∀ i, i ≤ K → (∀ j, i ≤ j → j < K → ¬ (a_went j = 99 ∧ a_keptEntity j = x1 ∧ a_keptAttribute j = x2 ∧ a_keptValue j = x3)) → wX_openFact_8 post x1 x2 x3 f_latest (nI K) f_steps f_mode f_since f_until f_clauses f_levels f_asked f_level f_assigned f_bounded a_kinds a_keptEntity a_keptAttribute a_keptValue a_came a_went a_now a_work a_stepKind a_stepEntity a_stepAttribute a_stepValue a_stepOther a_row a_column a_reach a_clauseKind a_clauseAttribute a_left a_right a_order a_rest a_number a_bound (i + 1) (nI i - 1) := by
    intro i
    induction i with
    | zero =>
      intro _ hj
      refine br_t (by decide) (h0 ?_)
      rintro ⟨j, q1, q2⟩
      exact hj j (by omega) q1 q2
    | succ i ih =>
      intro hi hj
      have hin : vp_in (nI i) 240 := vp_in_nI (by omega) (by omega)
      rw [nI_pred]
      refine br_f (nI_pos (by omega)) ?_
      rw [fk_cl (f := a_went) (n := i) (by omega), fk_cl (f := a_keptEntity) (n := i) (by omega), fk_cl (f := a_keptAttribute) (n := i) (by omega), fk_cl (f := a_keptValue) (n := i) (by omega)]
      have hnext : ¬ (a_went i = 99 ∧ a_keptEntity i = x1 ∧ a_keptAttribute i = x2 ∧ a_keptValue i = x3) → wX_openFact_8 post x1 x2 x3 f_latest (nI K) f_steps f_mode f_since f_until f_clauses f_levels f_asked f_level f_assigned f_bounded a_kinds a_keptEntity a_keptAttribute a_keptValue a_came a_went a_now a_work a_stepKind a_stepEntity a_stepAttribute a_stepValue a_stepOther a_row a_column a_reach a_clauseKind a_clauseAttribute a_left a_right a_order a_rest a_number a_bound (i + 1) (nI i - 1) := by
        intro hn
        refine ih (by omega) fun j hj1 hj2 => ?_
        by_cases hz : j = i
        · subst hz; exact hn
        · exact hj j (by omega) hj2
      have em : nI i + (-1) = nI i - 1 := by grind
      exact ⟨hin, br_c (fun q1 => ⟨hin, br_c (fun q2 => ⟨hin, br_c (fun q3 => ⟨hin, br_c (fun q4 => h1 i (by omega) q1 q2 q3 q4) (fun q4 => nm_r em (hnext fun q => q4 q.2.2.2))⟩) (fun q3 => nm_r em (hnext fun q => q3 q.2.2.1))⟩) (fun q2 => nm_r em (hnext fun q => q2 q.2.1))⟩) (fun q1 => nm_r em (hnext fun q => q1 q.1))⟩
  exact nm_e ⟨_, key K (by omega) (fun j h1 h2 => absurd h2 (by omega))⟩
theorem fm_sinceY {post : Int32 → Prop} {c : Nat} (hL : L ≤ 24) (he : e < 12) (ha : a < 6) (hv : v < 20) (hc : c ≤ L) (hn : bt (b_sets (72 * c + 6 * e + a)) v = false) (hy : ∀ w, c < w → w ≤ L → bt (b_sets (72 * w + 6 * e + a)) v = true)
    (h : wY_since_68 post (nI c) (nI L) g_steps g_mode g_from g_to g_clauses g_masked b_attributeKinds b_sets b_work b_sorts b_entities b_attributes b_values b_others b_seen b_reach b_kinds b_along b_left b_right b_order b_number) : ∃ n, wY_since_32 post (nI e) (nI a) (nI v) (nI L) g_steps g_mode g_from g_to g_clauses g_masked b_attributeKinds b_sets b_work b_sorts b_entities b_attributes b_values b_others b_seen b_reach b_kinds b_along b_left b_right b_order b_number n (nI L) := by
  have key : ∀ d, ∀ w, w = c + d → w ≤ L → wY_since_32 post (nI e) (nI a) (nI v) (nI L) g_steps g_mode g_from g_to g_clauses g_masked b_attributeKinds b_sets b_work b_sorts b_entities b_attributes b_values b_others b_seen b_reach b_kinds b_along b_left b_right b_order b_number (d + 1) (nI w) := by
    intro d
    induction d with
    | zero =>
      intro w hw hwL
      have e1 : w = c := by omega
      subst e1
      refine br_f (nI_pos (by omega)) ?_
      rw [show (72 : Int32) = nI 72 from rfl, show (6 : Int32) = nI 6 from rfl, pk_mul, pk_mul, nI_add, nI_add, fk_cl (f := b_sets) (n := 72 * w + 6 * e + a) (by omega)]
      exact ⟨vp_in_nI (by omega) (by omega), fv_inY _ (by omega) (fun hb => by rw [hn] at hb; exact absurd hb (by decide)) (fun _ => br_t rfl h)⟩
    | succ d ih =>
      intro w hw hwL
      refine br_f (nI_pos (by omega)) ?_
      rw [show (72 : Int32) = nI 72 from rfl, show (6 : Int32) = nI 6 from rfl, pk_mul, pk_mul, nI_add, nI_add, fk_cl (f := b_sets) (n := 72 * w + 6 * e + a) (by omega)]
      refine ⟨vp_in_nI (by omega) (by omega), fv_inY _ (by omega) (fun _ => br_f fk_10 ?_) (fun hb => by rw [hy w (by omega) hwL] at hb; exact absurd hb (by decide))⟩
      obtain ⟨w', rfl⟩ : ∃ w', w = w' + 1 := ⟨w - 1, by omega⟩
      exact nm_r (pk_m1 w') (ih w' (by omega) (by omega))
  exact ⟨_, key (L - c) L (by omega) (by omega)⟩
end
theorem i_vc_valueAt {k : Nat} {u : SX} {v : SY} (I : i_Rel k u v) (hk : k + 5 ≤ 2560) (v1 : Int32) (v2 : Int32) (v3 : Int32) : wpX_valueAt (fun r => wpY_valueAt (fun r' v' => r' = r ∧ i_Rel (k + 5) u v') v v1 v2 v3) u v1 v2 v3 := by
  refine fr_el (P := fun u v => wpX_valueAt (fun r => wpY_valueAt (fun r' v' => r' = r ∧ i_Rel (k + 5) u v') v v1 v2 v3) u v1 v2 v3) I ?_
  intro L K s md sn un C f_levels f_asked f_level f_assigned f_bounded g_masked a_kinds a_keptEntity a_keptAttribute a_keptValue a_came a_went a_now a_work a_stepKind a_stepEntity a_stepAttribute a_stepValue a_stepOther a_row a_column a_reach a_clauseKind a_clauseAttribute a_left a_right a_order a_rest a_number a_bound b_sets b_work b_attributes b_seen b_reach b_along b_order b_number h1 h2 h3 h4
  have hL := h1.1
  have hun := h3.1.2.2
  unfold wpX_valueAt wpY_valueAt
  by_cases hE : ∃ e, e < 12 ∧ v1 = nI e
  · obtain ⟨e, he, rfl⟩ := hE
    by_cases hA : ∃ a, a < 6 ∧ v2 = nI a
    · obtain ⟨a, ha, rfl⟩ := hA
      refine fk_eT he (br_f fk_10 (fk_aT ha (br_f fk_10 ?_)))
      rw [fv_i12, fk_cl (f := a_row) (n := 12 * a + e) (by omega)]
      refine ⟨vp_in_nI (by omega) (by omega), fm_memX (fr_W_w h1 h3 _ (by omega)) (fun w hw hb hc => ?_) (fun hno => ?_)⟩
      · refine fk_eYT _ he (br_f fk_10 (fk_aYT _ ha (br_f fk_10 (fv_look h3.1.1 h3.1.2.1 (by omega) (fun S' hS => ?_)))))
        rw [fv_tr h3 hS he ha] at hb hc
        refine fm_valY he ha (fun w' hw' hb' hc' => ⟨?_, fr_in h1 h2 h3 h4⟩) (fun hno => absurd ⟨w, hw, hb, hc⟩ hno)
        rw [hc, nI_eq (by have := fm_cb_le (β := bt (S' (6 * e + a))) (a := w) (b := 20) (by omega); have := fl_pc_le (S' (6 * e + a)); unfold fl_pc at this; unfold fm_cb at *; omega) (by have := fm_cb_le (β := bt (S' (6 * e + a))) (a := w') (b := 20) (by omega); have := fl_pc_le (S' (6 * e + a)); unfold fl_pc at this; unfold fm_cb at *; omega)] at hc'
        apply congrArg nI
        rcases Nat.lt_trichotomy w w' with z | z | z
        · have := fm_cb_lt z hb; omega
        · exact z.symm
        · have := fm_cb_lt z hb'; omega
      · refine fk_eYT _ he (br_f fk_10 (fk_aYT _ ha (br_f fk_10 (fv_look h3.1.1 h3.1.2.1 (by omega) (fun S' hS => ?_)))))
        rw [fv_tr h3 hS he ha] at hno
        exact fm_valY he ha (fun w' hw' hb' hc' => absurd ⟨w', hw', hb', hc'⟩ hno) (fun _ => ⟨rfl, fr_in h1 h2 h3 h4⟩)
    · refine fk_eT he (br_f fk_10 (fk_aF hA (br_t rfl ?_)))
      exact fk_eYT _ he (br_f fk_10 (fk_aYF _ hA (br_t rfl ⟨rfl, fr_in h1 h2 h3 h4⟩)))
  · refine fk_eF hE (br_t rfl ?_)
    exact fk_eYF _ hE (br_t rfl ⟨rfl, fr_in h1 h2 h3 h4⟩)
theorem fm_cb_20 (x : Int32) {v : Nat} (h : v ≤ 20) : fm_cb (bt x) v < 2 ^ 31 := by
  have h1 := fm_cb_le (β := bt x) (a := v) (b := 20) h
  have h2 := fl_pc_le x
  unfold fl_pc at h2
  unfold fm_cb at h1 ⊢
  omega
theorem i_vc_holderAt {k : Nat} {u : SX} {v : SY} (I : i_Rel k u v) (hk : k + 5 ≤ 2560) (v1 : Int32) (v2 : Int32) (v3 : Int32) : wpX_holderAt (fun r => wpY_holderAt (fun r' v' => r' = r ∧ i_Rel (k + 5) u v') v v1 v2 v3) u v1 v2 v3 := by
  refine fr_el (P := fun u v => wpX_holderAt (fun r => wpY_holderAt (fun r' v' => r' = r ∧ i_Rel (k + 5) u v') v v1 v2 v3) u v1 v2 v3) I ?_
  intro L K s md sn un C f_levels f_asked f_level f_assigned f_bounded g_masked a_kinds a_keptEntity a_keptAttribute a_keptValue a_came a_went a_now a_work a_stepKind a_stepEntity a_stepAttribute a_stepValue a_stepOther a_row a_column a_reach a_clauseKind a_clauseAttribute a_left a_right a_order a_rest a_number a_bound b_sets b_work b_attributes b_seen b_reach b_along b_order b_number h1 h2 h3 h4
  have hL := h1.1
  have hun := h3.1.2.2
  unfold wpX_holderAt wpY_holderAt
  by_cases hA : ∃ a, a < 6 ∧ v1 = nI a
  · obtain ⟨a, ha, rfl⟩ := hA
    by_cases hV : ∃ v, v < 20 ∧ v2 = nI v
    · obtain ⟨v, hv, rfl⟩ := hV
      refine fk_aT ha (br_f fk_10 (fk_vT hv (br_f fk_10 ?_)))
      rw [fv_i20, fk_cl (f := a_column) (n := 20 * a + v) (by omega)]
      have hcol := h3.2.2.1
      have hb12 : ∀ e, bt (a_column (20 * a + v)) e = true → e < 12 := by
        intro e hb
        rw [hcol a v e ha hv] at hb
        exact of_decide_eq_true (Bool.and_eq_true_iff.mp hb).1
      have hcw : fl_w 20 (a_column (20 * a + v)) := fun e he => by
        rw [hcol a v e ha hv, decide_eq_false (by omega)]; rfl
      refine ⟨vp_in_nI (by omega) (by omega), fm_memX hcw (fun w hw hb hc => ?_) (fun hno => ?_)⟩
      · refine fk_aYT _ ha (br_f fk_10 (fk_vYT _ hv (br_f fk_10 (fv_look h3.1.1 h3.1.2.1 (by omega) (fun S' hS => ?_)))))
        refine fm_holY hv ha (β := bt (a_column (20 * a + v))) (fun e he => by rw [hcol a v e ha hv, decide_eq_true he, Bool.true_and, fv_tr h3 hS he ha]) (fun w' hw' hb' hc' => ⟨?_, fr_in h1 h2 h3 h4⟩) (fun hno => absurd ⟨w, hb12 w hb, hb, hc⟩ hno)
        rw [hc, nI_eq (fm_cb_20 _ (by omega)) (fm_cb_20 _ (by omega))] at hc'
        apply congrArg nI
        rcases Nat.lt_trichotomy w w' with z | z | z
        · have := fm_cb_lt z hb; omega
        · exact z.symm
        · have := fm_cb_lt z hb'; omega
      · refine fk_aYT _ ha (br_f fk_10 (fk_vYT _ hv (br_f fk_10 (fv_look h3.1.1 h3.1.2.1 (by omega) (fun S' hS => ?_)))))
        exact fm_holY hv ha (β := bt (a_column (20 * a + v))) (fun e he => by rw [hcol a v e ha hv, decide_eq_true he, Bool.true_and, fv_tr h3 hS he ha]) (fun w' hw' hb' hc' => absurd ⟨w', by omega, hb', hc'⟩ hno) (fun _ => ⟨rfl, fr_in h1 h2 h3 h4⟩)
    · refine fk_aT ha (br_f fk_10 (fk_vF hV (br_t rfl ?_)))
      exact fk_aYT _ ha (br_f fk_10 (fk_vYF _ hV (br_t rfl ⟨rfl, fr_in h1 h2 h3 h4⟩)))
  · refine fk_aF hA (br_t rfl ?_)
    exact fk_aYF _ hA (br_t rfl ⟨rfl, fr_in h1 h2 h3 h4⟩)
theorem fm_n_eq {a : Nat → Int32} {i x : Nat} (hx : x < 2 ^ 31) (h : a i = nI x) : fr_n a i = x := by unfold fr_n; rw [h, nI_clamp hx]
theorem i_vc_since {k : Nat} {u : SX} {v : SY} (I : i_Rel k u v) (hk : k + 5 ≤ 2560) (v1 : Int32) (v2 : Int32) (v3 : Int32) : wpX_since (fun r => wpY_since (fun r' => r' = r ∧ i_Rel (k + 5) u v) v v1 v2 v3) u v1 v2 v3 := by
  refine fr_el (P := fun u v => wpX_since (fun r => wpY_since (fun r' => r' = r ∧ i_Rel (k + 5) u v) v v1 v2 v3) u v1 v2 v3) I ?_
  intro L K s md sn un C f_levels f_asked f_level f_assigned f_bounded g_masked a_kinds a_keptEntity a_keptAttribute a_keptValue a_came a_went a_now a_work a_stepKind a_stepEntity a_stepAttribute a_stepValue a_stepOther a_row a_column a_reach a_clauseKind a_clauseAttribute a_left a_right a_order a_rest a_number a_bound b_sets b_work b_attributes b_seen b_reach b_along b_order b_number h1 h2 h3 h4
  have hL := h1.1
  have hK := h1.2.1
  unfold wpX_since wpY_since
  by_cases hE : ∃ e, e < 12 ∧ v1 = nI e
  · obtain ⟨e, he, rfl⟩ := hE
    by_cases hA : ∃ a, a < 6 ∧ v2 = nI a
    · obtain ⟨a, ha, rfl⟩ := hA
      by_cases hV : ∃ v, v < 20 ∧ v3 = nI v
      · obtain ⟨v, hv, rfl⟩ := hV
        have h1' := h1
        obtain ⟨_, _, ⟨n1, n2, n3, n4, n5⟩, ⟨s1, s2, s3, s4⟩, hw, hn⟩ := h1'
        dsimp only at s2 s3
        refine fk_eT he (br_f fk_10 (fk_aT ha (br_f fk_10 (fk_vT hv (br_f fk_10 (fm_open (by omega) (fun i hi q1 q2 q3 q4 => ?_) (fun hno => ?_)))))))
        · obtain ⟨r1, r2, r3, r4, r5, r6⟩ := s1 i hi
          have m1 := fm_n_eq (x := 99) (by omega) q1
          have m2 := fm_n_eq (by omega) q2
          have m3 := fm_n_eq (by omega) q3
          have m4 := fm_n_eq (by omega) q4
          refine br_t (nI_pos' (by omega)) ⟨vp_in_nI (by omega) (by omega), ?_⟩
          refine fk_eYT _ he (br_f fk_10 (fk_aYT _ ha (br_f fk_10 (fk_vYT _ hv (br_f fk_10 (fm_sinceY (c := fr_n a_came i - 1) hL he ha hv (by omega) ?_ (fun w hw1 hw2 => ?_) ?_))))))
          · have := s3 i hi
            rw [m2, m3, m4] at this
            simpa using this
          · exact (s2 w e a v hw2 he ha hv).mpr ⟨i, hi, m2, m3, m4, by omega, by omega⟩
          · refine br_f (fun z => ?_) ⟨?_, fr_in h1 h2 h3 h4⟩
            · rw [nI_eq (by omega) (by omega)] at z; omega
            · rw [nI_1, fk_cl (f := a_came) (n := i) (by omega), n4 i hi]
              exact congrArg nI (by omega)
        · have hnP : bt (b_sets (72 * L + 6 * e + a)) v = false := by
            cases hb : bt (b_sets (72 * L + 6 * e + a)) v
            · rfl
            · exfalso
              obtain ⟨i, hi, m2, m3, m4, m5, m6⟩ := (s2 L e a v (Nat.le_refl _) he ha hv).mp hb
              obtain ⟨r1, r2, r3, r4, r5, r6⟩ := s1 i hi
              refine hno ⟨i, hi, ?_, ?_, ?_, ?_⟩
              · rw [n5 i hi]
                have : fr_n a_went i = 99 := by omega
                rw [this]; rfl
              · rw [n1 i hi, m2]
              · rw [n2 i hi, m3]
              · rw [n3 i hi, m4]
          refine br_f (by decide) ?_
          exact fk_eYT _ he (br_f fk_10 (fk_aYT _ ha (br_f fk_10 (fk_vYT _ hv (br_f fk_10 (fm_sinceY (c := L) hL he ha hv (by omega) hnP (fun w hw1 hw2 => absurd hw1 (by omega)) (br_t rfl ⟨rfl, fr_in h1 h2 h3 h4⟩)))))))
      · refine fk_eT he (br_f fk_10 (fk_aT ha (br_f fk_10 (fk_vF hV (br_t rfl ?_)))))
        exact fk_eYT _ he (br_f fk_10 (fk_aYT _ ha (br_f fk_10 (fk_vYF _ hV (br_t rfl ⟨rfl, fr_in h1 h2 h3 h4⟩)))))
    · refine fk_eT he (br_f fk_10 (fk_aF hA (br_t rfl ?_)))
      exact fk_eYT _ he (br_f fk_10 (fk_aYF _ hA (br_t rfl ⟨rfl, fr_in h1 h2 h3 h4⟩)))
  · refine fk_eF hE (br_t rfl ?_)
    exact fk_eYF _ hE (br_t rfl ⟨rfl, fr_in h1 h2 h3 h4⟩)
end
section
/-! the store: one fact at a time -/
def fc_un (f : Nat → Nat) (i x : Nat) : Nat → Nat := fun j => if j = i then x else f j
theorem fc_us {f : Nat → Nat} {i x : Nat} : fc_un f i x i = x := if_pos rfl
theorem fc_uo {f : Nat → Nat} {i x j : Nat} (h : j ≠ i) : fc_un f i x j = f j := if_neg h
theorem fc_n_upd {a : Nat → Int32} {i x : Nat} (hx : x < 2 ^ 31) : fr_n (upd a i (nI x)) = fc_un (fr_n a) i x := by
  funext j
  unfold fr_n
  by_cases h : j = i
  · subst h; rw [pk_us, fc_us, nI_clamp hx]
  · rw [pk_un h, fc_uo h]
theorem fc_N_upd {a : Nat → Int32} {i x K : Nat} (hx : x < 2 ^ 31) (h : fr_N a K) : fr_N (upd a i (nI x)) K := by
  intro j hj
  rw [fc_n_upd hx]
  by_cases hz : j = i
  · subst hz; rw [pk_us, fc_us]
  · rw [pk_un hz, fc_uo hz]; exact h j hj
theorem fc_N_push {a : Nat → Int32} {x K : Nat} (hx : x < 2 ^ 31) (h : fr_N a K) : fr_N (upd a K (nI x)) (K + 1) := by
  intro j hj
  rw [fc_n_upd hx]
  by_cases hz : j = K
  · subst hz; rw [pk_us, fc_us]
  · rw [pk_un hz, fc_uo hz]; exact h j (by omega)
theorem fc_congr {L K : Nat} {ke ka kv kc kw : Nat → Nat} {P P' : Nat → Nat → Nat → Nat → Prop} (h : fr_Sto L K ke ka kv kc kw P) (hP : ∀ w e a v, w ≤ L → e < 12 → a < 6 → v < 20 → (P w e a v ↔ P' w e a v)) : fr_Sto L K ke ka kv kc kw P' := by
  obtain ⟨s1, s2, s3, s4⟩ := h
  refine ⟨s1, fun w e a v hw he ha hv => (hP w e a v hw he ha hv).symm.trans (s2 w e a v hw he ha hv), fun i hi => ?_, s4⟩
  obtain ⟨r1, r2, r3, r4, r5, r6⟩ := s1 i hi
  rw [← hP _ _ _ _ (by omega) r1 r2 r3]
  exact s3 i hi
theorem fc_up {L K : Nat} {ke ka kv kc kw : Nat → Nat} {P P' : Nat → Nat → Nat → Nat → Prop} (hL : L < 90) (h : fr_Sto L K ke ka kv kc kw P) (hP : ∀ w e a v, w ≤ L → e < 12 → a < 6 → v < 20 → (P w e a v ↔ P' w e a v)) (hN : ∀ e a v, e < 12 → a < 6 → v < 20 → (P L e a v ↔ P' (L + 1) e a v)) : fr_Sto (L + 1) K ke ka kv kc kw P' := by
  obtain ⟨s1, s2, s3, s4⟩ := h
  refine ⟨fun i hi => ?_, fun w e a v hw he ha hv => ?_, fun i hi => ?_, s4⟩
  · obtain ⟨r1, r2, r3, r4, r5, r6⟩ := s1 i hi
    exact ⟨r1, r2, r3, r4, by omega, by omega⟩
  · rcases Nat.lt_or_ge L w with z | z
    · have e1 : w = L + 1 := by omega
      subst e1
      rw [← hN e a v he ha hv, s2 L e a v (Nat.le_refl _) he ha hv]
      constructor
      · rintro ⟨i, hi, q1, q2, q3, q4, q5⟩
        obtain ⟨r1, r2, r3, r4, r5, r6⟩ := s1 i hi
        exact ⟨i, hi, q1, q2, q3, by omega, by omega⟩
      · rintro ⟨i, hi, q1, q2, q3, q4, q5⟩
        obtain ⟨r1, r2, r3, r4, r5, r6⟩ := s1 i hi
        exact ⟨i, hi, q1, q2, q3, by omega, by omega⟩
    · exact (hP w e a v z he ha hv).symm.trans (s2 w e a v z he ha hv)
  · obtain ⟨r1, r2, r3, r4, r5, r6⟩ := s1 i hi
    rw [← hP _ _ _ _ (by omega) r1 r2 r3]
    exact s3 i hi
theorem fc_close {L K : Nat} {ke ka kv kc kw : Nat → Nat} {P P' : Nat → Nat → Nat → Nat → Prop} {e a v i : Nat} (hL : L < 90) (h : fr_Sto L K ke ka kv kc kw P) (hi : i < K) (o1 : kw i = 99) (o2 : ke i = e) (o3 : ka i = a) (o4 : kv i = v) (hpre : P (L - 1) e a v) (hno : ¬ P' L e a v)
    (hP : ∀ w e' a' v', w ≤ L → e' < 12 → a' < 6 → v' < 20 → ¬ (w = L ∧ e' = e ∧ a' = a ∧ v' = v) → (P w e' a' v' ↔ P' w e' a' v')) : fr_Sto L K ke ka kv kc (fc_un kw i L) P' := by
  obtain ⟨s1, s2, s3, s4⟩ := h
  obtain ⟨r1, r2, r3, r4, r5, r6⟩ := s1 i hi
  have hlt : kc i < L := by
    rcases Nat.lt_or_ge (kc i) L with z | z
    · exact z
    · exfalso
      have hh := s3 i hi
      rw [o2, o3, o4, show kc i = L by omega] at hh
      exact hh hpre
  have hw : ∀ j, j ≠ i → fc_un kw i L j = kw j := fun j hj => fc_uo hj
  refine ⟨fun j hj => ?_, fun w e' a' v' hw1 he ha hv => ?_, fun j hj => ?_, fun j1 j2 hj hj2 q1 q2 q3 => ?_⟩
  · by_cases hz : j = i
    · subst hz
      rw [fc_us]
      exact ⟨r1, r2, r3, r4, r5, Or.inr ⟨hlt, Nat.le_refl _⟩⟩
    · rw [hw j hz]; exact s1 j hj
  · by_cases hc : w = L ∧ e' = e ∧ a' = a ∧ v' = v
    · obtain ⟨rfl, rfl, rfl, rfl⟩ := hc
      refine ⟨fun z => absurd z hno, ?_⟩
      rintro ⟨j, hj, q1, q2, q3, q4, q5⟩
      exfalso
      by_cases hz : j = i
      · subst hz; rw [fc_us] at q5; omega
      · rw [hw j hz] at q5
        obtain ⟨t1, t2, t3, t4, t5, t6⟩ := s1 j hj
        have h99 : kw j = 99 := by omega
        rcases Nat.lt_or_ge i j with z | z
        · exact s4 i j z hj (by rw [o2, q1]) (by rw [o3, q2]) (by rw [o4, q3]) o1
        · exact s4 j i (by omega) hi (by rw [o2, q1]) (by rw [o3, q2]) (by rw [o4, q3]) h99
    · rw [← hP w e' a' v' hw1 he ha hv hc, s2 w e' a' v' hw1 he ha hv]
      constructor
      · rintro ⟨j, hj, q1, q2, q3, q4, q5⟩
        refine ⟨j, hj, q1, q2, q3, q4, ?_⟩
        by_cases hz : j = i
        · subst hz
          rw [fc_us]
          rcases Nat.lt_or_ge w L with z | z
          · exact z
          · exact absurd ⟨by omega, by omega, by omega, by omega⟩ hc
        · rw [hw j hz]; exact q5
      · rintro ⟨j, hj, q1, q2, q3, q4, q5⟩
        refine ⟨j, hj, q1, q2, q3, q4, ?_⟩
        by_cases hz : j = i
        · subst hz; rw [fc_us] at q5; omega
        · rw [hw j hz] at q5; exact q5
  · obtain ⟨t1, t2, t3, t4, t5, t6⟩ := s1 j hj
    rw [← hP _ _ _ _ (by omega) t1 t2 t3 (by omega)]
    exact s3 j hj
  · by_cases hz : j1 = i
    · subst hz; rw [fc_us]; omega
    · rw [hw j1 hz]; exact s4 j1 j2 hj hj2 q1 q2 q3
theorem fc_begin {L K : Nat} {ke ka kv kc kw : Nat → Nat} {P P' : Nat → Nat → Nat → Nat → Prop} {e a v : Nat} (hL : L < 90) (hL1 : 1 ≤ L) (h : fr_Sto L K ke ka kv kc kw P) (he : e < 12) (ha : a < 6) (hv : v < 20) (hpre : ¬ P (L - 1) e a v) (hno : ¬ P L e a v) (hyes : P' L e a v)
    (hP : ∀ w e' a' v', w ≤ L → e' < 12 → a' < 6 → v' < 20 → ¬ (w = L ∧ e' = e ∧ a' = a ∧ v' = v) → (P w e' a' v' ↔ P' w e' a' v')) : fr_Sto L (K + 1) (fc_un ke K e) (fc_un ka K a) (fc_un kv K v) (fc_un kc K L) (fc_un kw K 99) P' := by
  obtain ⟨s1, s2, s3, s4⟩ := h
  refine ⟨fun j hj => ?_, fun w e' a' v' hw1 he' ha' hv' => ?_, fun j hj => ?_, fun j1 j2 hj hj2 q1 q2 q3 => ?_⟩
  · by_cases hz : j = K
    · subst hz
      rw [fc_us, fc_us, fc_us, fc_us, fc_us]
      exact ⟨he, ha, hv, hL1, Nat.le_refl _, Or.inl rfl⟩
    · rw [fc_uo hz, fc_uo hz, fc_uo hz, fc_uo hz, fc_uo hz]
      exact s1 j (by omega)
  · by_cases hc : w = L ∧ e' = e ∧ a' = a ∧ v' = v
    · obtain ⟨rfl, rfl, rfl, rfl⟩ := hc
      refine ⟨fun _ => ⟨K, by omega, fc_us, fc_us, fc_us, ?_, ?_⟩, fun _ => hyes⟩
      · rw [fc_us]; exact Nat.le_refl _
      · rw [fc_us]; omega
    · rw [← hP w e' a' v' hw1 he' ha' hv' hc, s2 w e' a' v' hw1 he' ha' hv']
      constructor
      · rintro ⟨j, hj, q⟩
        have hz : j ≠ K := by omega
        refine ⟨j, by omega, ?_⟩
        rw [fc_uo hz, fc_uo hz, fc_uo hz, fc_uo hz, fc_uo hz]
        exact q
      · rintro ⟨j, hj, q⟩
        by_cases hz : j = K
        · subst hz
          rw [fc_us, fc_us, fc_us, fc_us, fc_us] at q
          exact absurd ⟨by omega, q.1.symm, q.2.1.symm, q.2.2.1.symm⟩ hc
        · rw [fc_uo hz, fc_uo hz, fc_uo hz, fc_uo hz, fc_uo hz] at q
          exact ⟨j, by omega, q⟩
  · by_cases hz : j = K
    · subst hz
      rw [fc_us, fc_us, fc_us, fc_us, ← hP _ _ _ _ (by omega) he ha hv (by omega)]
      exact hpre
    · rw [fc_uo hz, fc_uo hz, fc_uo hz, fc_uo hz]
      obtain ⟨t1, t2, t3, t4, t5, t6⟩ := s1 j (by omega)
      rw [← hP _ _ _ _ (by omega) t1 t2 t3 (by omega)]
      exact s3 j (by omega)
  · have hz1 : j1 ≠ K := by omega
    rw [fc_uo hz1] at q1 q2 q3
    rw [fc_uo hz1]
    by_cases hz : j2 = K
    · subst hz
      rw [fc_us] at q1 q2 q3
      intro h99
      obtain ⟨t1, t2, t3, t4, t5, t6⟩ := s1 j1 (by omega)
      exact hno ((s2 L e a v (Nat.le_refl _) he ha hv).mpr ⟨j1, by omega, q1, q2, q3, t5, by omega⟩)
    · rw [fc_uo hz] at q1 q2 q3
      exact s4 j1 j2 hj (by omega) q1 q2 q3
/-! counting fresh facts -/
def fc_FR (n w : Nat → Int32) : Nat := fl_sm (fun p => fl_pc (w p &&& (n p ^^^ (-1)))) 72
theorem fc_pc_le {x y : Int32} (h : ∀ i, i < 20 → bt x i = true → bt y i = true) : fl_pc x ≤ fl_pc y := by
  refine fl_sm_le fun i hi => ?_
  cases hb : bt x i
  · exact Nat.zero_le _
  · rw [h i hi hb]; exact Nat.le_refl _
theorem fc_pc_le1 {x y : Int32} {v : Nat} (h : ∀ i, i < 20 → bt x i = true → i = v ∨ bt y i = true) : fl_pc x ≤ fl_pc y + 1 := by
  have key : ∀ n, fl_sm (fun i => (bt x i).toNat) n ≤ fl_sm (fun i => (bt y i).toNat) n + (if v < n then 1 else 0) ∨ 20 < n := by
    intro n
    induction n with
    | zero => left; exact Nat.zero_le _
    | succ n ih =>
      rcases ih with ih | ih
      · rcases Nat.lt_or_ge n 20 with z | z
        · left
          simp only [fl_sm]
          have hh := h n z
          have b1 : (bt x n).toNat ≤ 1 := by cases bt x n <;> decide
          by_cases hv : n = v
          · subst hv
            rw [if_neg (by omega)] at ih
            rw [if_pos (by omega)]
            omega
          · have : (bt x n).toNat ≤ (bt y n).toNat := by
              cases hb : bt x n
              · exact Nat.zero_le _
              · rw [(hh hb).resolve_left hv]; exact Nat.le_refl _
            split at ih <;> split <;> omega
        · right; omega
      · right; omega
  have := key 20
  unfold fl_pc
  rcases this with z | z
  · split at z <;> omega
  · omega
theorem fc_FR_upd {n w : Nat → Int32} {p : Nat} {x : Int32} (hp : p < 72) {c : Nat} (h : fl_pc (x &&& (n p ^^^ (-1))) ≤ fl_pc (w p &&& (n p ^^^ (-1))) + c) : fc_FR n (upd w p x) ≤ fc_FR n w + c := by
  have e := fl_sm_at (f := fun q => fl_pc (upd w p x q &&& (n q ^^^ (-1)))) (g := fun q => fl_pc (w q &&& (n q ^^^ (-1)))) (k := p) (n := 72) (fun q _ hq => by rw [pk_un hq]) hp
  rw [pk_us] at e
  unfold fc_FR
  omega
theorem fc_FR_or {n w : Nat → Int32} {p v : Nat} (hp : p < 72) (hv : v < 20) : fc_FR n (upd w p (w p ||| ((1 : Int32) <<< (nI v &&& 31)))) ≤ fc_FR n w + 1 := by
  refine fc_FR_upd hp (fc_pc_le1 (v := v) fun i _ hb => ?_)
  rw [b_and, b_or, fl_one (by omega)] at hb
  rw [b_and]
  by_cases hz : i = v
  · exact Or.inl hz
  · rw [decide_eq_false hz, Bool.or_false] at hb
    exact Or.inr hb
theorem fc_FR_one {n w : Nat → Int32} {p v : Nat} (hp : p < 72) (hv : v < 20) : fc_FR n (upd w p ((1 : Int32) <<< (nI v &&& 31))) ≤ fc_FR n w + 1 := by
  refine fc_FR_upd hp (fc_pc_le1 (v := v) fun i _ hb => ?_)
  rw [b_and, fl_one (by omega)] at hb
  exact Or.inl (of_decide_eq_true (Bool.and_eq_true_iff.mp hb).1)
theorem fc_FR_sub {n w w' : Nat → Int32} (h : ∀ p i, p < 72 → bt (w' p) i = true → bt (w p) i = true) : fc_FR n w' ≤ fc_FR n w := by
  refine fl_sm_le fun p hp => fc_pc_le fun i _ hb => ?_
  rw [b_and, Bool.and_eq_true] at hb ⊢
  exact ⟨h p i hp hb.1, hb.2⟩
theorem fc_pcx (n w : Int32) : fl_pc (n &&& (w ^^^ (-1))) + fl_pc (w &&& (n ^^^ (-1))) = fl_pc (w ^^^ n) := by
  unfold fl_pc
  rw [← fl_sm_add]
  refine fl_sm_eq fun i hi => ?_
  rw [b_and, b_and, fl_not w (by omega), fl_not n (by omega), b_xor]
  cases bt n i <;> cases bt w i <;> rfl
/-- the two versions under work -/
def fc_WR (wx wy : Nat → Int32) : Prop := (∀ e a, e < 12 → a < 6 → wx (12 * a + e) = wy (6 * e + a)) ∧ (∀ p, p < 72 → fl_w 20 (wy p))
theorem fc_WR_x {wx wy : Nat → Int32} (h : fc_WR wx wy) : ∀ p, p < 72 → fl_w 20 (wx p) := by
  intro p hp
  have e : p = 12 * (p / 12) + p % 12 := by omega
  rw [e, h.1 (p % 12) (p / 12) (by omega) (by omega)]
  exact h.2 _ (by omega)
theorem fc_WR_upd {wx wy : Nat → Int32} {e a : Nat} {x : Int32} (h : fc_WR wx wy) (he : e < 12) (ha : a < 6) (hx : fl_w 20 x) : fc_WR (upd wx (12 * a + e) x) (upd wy (6 * e + a) x) := by
  refine ⟨fun e' a' he' ha' => ?_, fun p hp => ?_⟩
  · by_cases hz : 12 * a' + e' = 12 * a + e
    · have h1 : e' = e := by omega
      have h2 : a' = a := by omega
      rw [h1, h2, pk_us, pk_us]
    · rw [pk_un hz, pk_un (by omega)]; exact h.1 e' a' he' ha'
  · by_cases hz : p = 6 * e + a
    · subst hz; rw [pk_us]; exact hx
    · rw [pk_un hz]; exact h.2 p hp
end
section
/-! one step, on both sides -/
theorem fc_w_del {x : Int32} {v : Nat} (h : fl_w 20 x) : fl_w 20 (x &&& (((1 : Int32) <<< (nI v &&& 31)) ^^^ (-1))) := fl_w_and h
section
variable {f_latest f_kept f_steps f_mode f_since f_until f_clauses f_levels f_asked f_level f_assigned f_bounded : Int32} {a_kinds a_keptEntity a_keptAttribute a_keptValue a_came a_went a_now a_work a_stepKind a_stepEntity a_stepAttribute a_stepValue a_stepOther a_row a_column a_reach a_clauseKind a_clauseAttribute a_left a_right a_order a_rest a_number a_bound : Nat → Int32}
variable {g_latest g_steps g_mode g_from g_to g_clauses g_masked : Int32} {b_attributeKinds b_sets b_work b_sorts b_entities b_attributes b_values b_others b_seen b_reach b_kinds b_along b_left b_right b_order b_number : Nat → Int32}
variable {e a v w : Nat} {wx wy : Nat → Int32}
theorem fc_71 {post : Int32 → SX → Prop} (he : e < 12) (ha : a < 6) (hv : v < 20)
    (h : post 1 (f_latest, f_kept, f_steps, f_mode, f_since, f_until, f_clauses, f_levels, f_asked, f_level, f_assigned, f_bounded, a_kinds, a_keptEntity, a_keptAttribute, a_keptValue, a_came, a_went, a_now, upd wx (12 * a + e) (if (a_kinds a &&& 1) = 0 then wx (12 * a + e) ||| ((1 : Int32) <<< (nI v &&& 31)) else (1 : Int32) <<< (nI v &&& 31)), a_stepKind, a_stepEntity, a_stepAttribute, a_stepValue, a_stepOther, a_row, a_column, a_reach, a_clauseKind, a_clauseAttribute, a_left, a_right, a_order, a_rest, a_number, a_bound)) : wX_come_71 post (nI a) (nI v) (nI (12 * a + e)) f_latest f_kept f_steps f_mode f_since f_until f_clauses f_levels f_asked f_level f_assigned f_bounded a_kinds a_keptEntity a_keptAttribute a_keptValue a_came a_went a_now wx a_stepKind a_stepEntity a_stepAttribute a_stepValue a_stepOther a_row a_column a_reach a_clauseKind a_clauseAttribute a_left a_right a_order a_rest a_number a_bound := by
  have hin : vp_in (nI (12 * a + e)) 72 := vp_in_nI (by omega) (by omega)
  unfold wX_come_71
  by_cases hs : (a_kinds a &&& 1) = 0
  · rw [if_pos hs] at h
    refine ⟨vp_in_nI ha (by omega), ?_⟩
    rw [fk_cl (f := a_kinds) (n := a) (by omega), fk_cl (f := wx) (n := 12 * a + e) (by omega), fk_ucl (f := wx) (n := 12 * a + e) (by omega)]
    exact br_t hs (br_t rfl ⟨hin, hin, nm_e h⟩)
  · rw [if_neg hs] at h
    refine ⟨vp_in_nI ha (by omega), ?_⟩
    rw [fk_cl (f := a_kinds) (n := a) (by omega), fk_cl (f := wx) (n := 12 * a + e) (by omega), fk_ucl (f := wx) (n := 12 * a + e) (by omega), fk_ucl (f := wx) (n := 12 * a + e) (by omega)]
    exact br_f hs (br_f fk_10 ⟨hin, nm_e h⟩)
theorem fc_comeX {post : Int32 → SX → Prop} (he : e < 12) (ha : a < 6) (hv : v < 20)
    (h1 : bt (wx (12 * a + e)) v = true → post 1 (f_latest, f_kept, f_steps, f_mode, f_since, f_until, f_clauses, f_levels, f_asked, f_level, f_assigned, f_bounded, a_kinds, a_keptEntity, a_keptAttribute, a_keptValue, a_came, a_went, a_now, wx, a_stepKind, a_stepEntity, a_stepAttribute, a_stepValue, a_stepOther, a_row, a_column, a_reach, a_clauseKind, a_clauseAttribute, a_left, a_right, a_order, a_rest, a_number, a_bound))
    (h2 : bt (wx (12 * a + e)) v = false → ¬ (a_kinds a &&& 2) = 0 → (∃ f, f < 12 ∧ bt (wx (12 * a + f)) v = true) → post 0 (f_latest, f_kept, f_steps, f_mode, f_since, f_until, f_clauses, f_levels, f_asked, f_level, f_assigned, f_bounded, a_kinds, a_keptEntity, a_keptAttribute, a_keptValue, a_came, a_went, a_now, wx, a_stepKind, a_stepEntity, a_stepAttribute, a_stepValue, a_stepOther, a_row, a_column, a_reach, a_clauseKind, a_clauseAttribute, a_left, a_right, a_order, a_rest, a_number, a_bound))
    (h3 : bt (wx (12 * a + e)) v = false → ((a_kinds a &&& 2) = 0 ∨ ¬ ∃ f, f < 12 ∧ bt (wx (12 * a + f)) v = true) → post 1 (f_latest, f_kept, f_steps, f_mode, f_since, f_until, f_clauses, f_levels, f_asked, f_level, f_assigned, f_bounded, a_kinds, a_keptEntity, a_keptAttribute, a_keptValue, a_came, a_went, a_now, upd wx (12 * a + e) (if (a_kinds a &&& 1) = 0 then wx (12 * a + e) ||| ((1 : Int32) <<< (nI v &&& 31)) else (1 : Int32) <<< (nI v &&& 31)), a_stepKind, a_stepEntity, a_stepAttribute, a_stepValue, a_stepOther, a_row, a_column, a_reach, a_clauseKind, a_clauseAttribute, a_left, a_right, a_order, a_rest, a_number, a_bound)) : wpX_come post (f_latest, f_kept, f_steps, f_mode, f_since, f_until, f_clauses, f_levels, f_asked, f_level, f_assigned, f_bounded, a_kinds, a_keptEntity, a_keptAttribute, a_keptValue, a_came, a_went, a_now, wx, a_stepKind, a_stepEntity, a_stepAttribute, a_stepValue, a_stepOther, a_row, a_column, a_reach, a_clauseKind, a_clauseAttribute, a_left, a_right, a_order, a_rest, a_number, a_bound) (nI e) (nI a) (nI v) := by
  refine nm_r (fv_i12 a e) ⟨vp_in_nI (by omega) (by omega), ?_⟩
  rw [fk_cl (f := wx) (n := 12 * a + e) (by omega)]
  refine fl_br1 v (by omega) h1 (fun hb => ?_)
  by_cases ho : (a_kinds a &&& 2) = 0
  · refine ⟨vp_in_nI ha (by omega), br_t ?_ (br_t rfl (fc_71 he ha hv (h3 hb (Or.inl ho))))⟩
    rw [fk_cl (f := a_kinds) (n := a) (by omega)]; exact ho
  · refine ⟨vp_in_nI ha (by omega), br_f ?_ (br_f fk_10 ?_)⟩
    · rw [fk_cl (f := a_kinds) (n := a) (by omega)]; exact ho
    · have key : ∀ d f, f + d = 12 → (∀ g, g < f → bt (wx (12 * a + g)) v = false) → wX_come_36 post (nI a) (nI v) (nI (12 * a + e)) f_latest f_kept f_steps f_mode f_since f_until f_clauses f_levels f_asked f_level f_assigned f_bounded a_kinds a_keptEntity a_keptAttribute a_keptValue a_came a_went a_now wx a_stepKind a_stepEntity a_stepAttribute a_stepValue a_stepOther a_row a_column a_reach a_clauseKind a_clauseAttribute a_left a_right a_order a_rest a_number a_bound (d + 1) (nI f) := by
        intro d
        induction d with
        | zero =>
          intro f hf hg
          refine br_t (nI_le (a := 12) (by omega) (by omega)) (fc_71 he ha hv (h3 hb (Or.inr ?_)))
          rintro ⟨g, g1, g2⟩
          rw [hg g (by omega)] at g2
          exact absurd g2 (by decide)
        | succ d ih =>
          intro f hf hg
          refine br_f (nI_ge (b := 12) (by omega) (by omega)) ?_
          rw [fv_i12, fk_cl (f := wx) (n := 12 * a + f) (by omega)]
          refine ⟨vp_in_nI (by omega) (by omega), fl_br1 v (by omega) (fun q => h2 hb ho ⟨f, by omega, q⟩) (fun q => nm_r (nI_1 f) (ih (f + 1) (by omega) fun g hgf => ?_))⟩
          by_cases hz : g = f
          · subst hz; exact q
          · exact hg g (by omega)
      exact ⟨_, key 12 0 rfl (fun g hg => absurd hg (by omega))⟩
theorem fc_putY {post : Int32 → SY → Prop} (he : e < 12) (ha : a < 6) (hv : v < 20)
    (h1 : bt (wy (6 * e + a)) v = true → post 1 (g_latest, g_steps, g_mode, g_from, g_to, g_clauses, g_masked, b_attributeKinds, b_sets, wy, b_sorts, b_entities, b_attributes, b_values, b_others, b_seen, b_reach, b_kinds, b_along, b_left, b_right, b_order, b_number))
    (h2 : bt (wy (6 * e + a)) v = false → ¬ (b_attributeKinds a &&& 2) = 0 → (∃ f, f < 12 ∧ bt (wy (6 * f + a)) v = true) → post 0 (g_latest, g_steps, g_mode, g_from, g_to, g_clauses, g_masked, b_attributeKinds, b_sets, wy, b_sorts, b_entities, b_attributes, b_values, b_others, b_seen, b_reach, b_kinds, b_along, b_left, b_right, b_order, b_number))
    (h3 : bt (wy (6 * e + a)) v = false → ((b_attributeKinds a &&& 2) = 0 ∨ ¬ ∃ f, f < 12 ∧ bt (wy (6 * f + a)) v = true) → post 1 (g_latest, g_steps, g_mode, g_from, g_to, g_clauses, g_masked, b_attributeKinds, b_sets, upd wy (6 * e + a) (if (b_attributeKinds a &&& 1) = 0 then wy (6 * e + a) ||| ((1 : Int32) <<< (nI v &&& 31)) else (1 : Int32) <<< (nI v &&& 31)), b_sorts, b_entities, b_attributes, b_values, b_others, b_seen, b_reach, b_kinds, b_along, b_left, b_right, b_order, b_number)) : wpY_put post (g_latest, g_steps, g_mode, g_from, g_to, g_clauses, g_masked, b_attributeKinds, b_sets, wy, b_sorts, b_entities, b_attributes, b_values, b_others, b_seen, b_reach, b_kinds, b_along, b_left, b_right, b_order, b_number) (nI e) (nI a) (nI v) := by
  unfold wpY_put
  dsimp only
  have hin : vp_in (nI (6 * e + a)) 72 := vp_in_nI (by omega) (by omega)
  rw [fv_i6, fk_cl (f := wy) (n := 6 * e + a) (by omega)]
  refine ⟨hin, fv_inY _ (by omega) (fun hb => br_f fk_10 (h1 hb)) (fun hb => br_t rfl ?_)⟩
  have hend : ((b_attributeKinds a &&& 2) = 0 ∨ ¬ ∃ f, f < 12 ∧ bt (wy (6 * f + a)) v = true) → wY_put_24 post (nI e) (nI a) (nI v) g_latest g_steps g_mode g_from g_to g_clauses g_masked b_attributeKinds b_sets wy b_sorts b_entities b_attributes b_values b_others b_seen b_reach b_kinds b_along b_left b_right b_order b_number 1 (nI 12) := by
    intro hc
    have h := h3 hb hc
    refine br_t (nI_le (a := 12) (by omega) (by omega)) ?_
    rw [fv_i6, fk_cl (f := wy) (n := 6 * e + a) (by omega)]
    by_cases hs : (b_attributeKinds a &&& 1) = 0
    · rw [if_pos hs] at h
      refine ⟨vp_in_nI ha (by omega), br_t ?_ (br_t rfl ⟨hin, hin, nm_r (fk_ucl (by omega)) h⟩)⟩
      rw [fk_cl (f := b_attributeKinds) (n := a) (by omega)]; exact hs
    · rw [if_neg hs] at h
      refine ⟨vp_in_nI ha (by omega), br_f ?_ (br_f fk_10 ⟨hin, nm_r (fk_ucl (by omega)) h⟩)⟩
      rw [fk_cl (f := b_attributeKinds) (n := a) (by omega)]; exact hs
  have key : ∀ d f, f + d = 12 → ((b_attributeKinds a &&& 2) = 0 ∨ ∀ g, g < f → bt (wy (6 * g + a)) v = false) → wY_put_24 post (nI e) (nI a) (nI v) g_latest g_steps g_mode g_from g_to g_clauses g_masked b_attributeKinds b_sets wy b_sorts b_entities b_attributes b_values b_others b_seen b_reach b_kinds b_along b_left b_right b_order b_number (d + 1) (nI f) := by
    intro d
    induction d with
    | zero =>
      intro f hf hg
      have e12 : f = 12 := by omega
      subst e12
      refine hend (hg.elim Or.inl fun hg => Or.inr ?_)
      rintro ⟨g, g1, g2⟩
      rw [hg g (by omega)] at g2
      exact absurd g2 (by decide)
    | succ d ih =>
      intro f hf hg
      refine br_f (nI_ge (b := 12) (by omega) (by omega)) ?_
      by_cases ho : (b_attributeKinds a &&& 2) = 0
      · refine ⟨vp_in_nI ha (by omega), br_t ?_ (br_t rfl (nm_r (nI_1 f) (ih (f + 1) (by omega) (Or.inl ho))))⟩
        rw [fk_cl (f := b_attributeKinds) (n := a) (by omega)]; exact ho
      · refine ⟨vp_in_nI ha (by omega), br_f ?_ (br_f fk_10 ?_)⟩
        · rw [fk_cl (f := b_attributeKinds) (n := a) (by omega)]; exact ho
        · have hg' := hg.resolve_left ho
          refine pk_eq f e (fun hfe => nm_r (nI_1 f) (ih (f + 1) (by omega) (Or.inr fun g hgf => ?_))) (fun hfe => ?_)
          · by_cases hz : g = f
            · subst hz; rw [hfe]; exact hb
            · exact hg' g (by omega)
          · rw [fv_i6, fk_cl (f := wy) (n := 6 * f + a) (by omega)]
            refine ⟨vp_in_nI (by omega) (by omega), fv_inY _ (by omega) (fun q => br_f fk_10 (h2 hb ho ⟨f, by omega, q⟩)) (fun q => br_t rfl (nm_r (nI_1 f) (ih (f + 1) (by omega) (Or.inr fun g hgf => ?_))))⟩
            by_cases hz : g = f
            · subst hz; exact q
            · exact hg' g (by omega)
  exact ⟨_, key 12 0 rfl (Or.inr fun g hg => absurd hg (by omega))⟩
/-- a fact comes, on both sides -/
theorem fc_come (he : e < 12) (ha : a < 6) (hv : v < 20) (hW : fc_WR wx wy) : ∃ (r : Int32) (wx' wy' : Nat → Int32), (r = 0 ∨ r = 1) ∧ fc_WR wx' wy' ∧ (∀ n, fc_FR n wy' ≤ fc_FR n wy + 1) ∧
    (∀ post : Int32 → SX → Prop, post r (f_latest, f_kept, f_steps, f_mode, f_since, f_until, f_clauses, f_levels, f_asked, f_level, f_assigned, f_bounded, a_kinds, a_keptEntity, a_keptAttribute, a_keptValue, a_came, a_went, a_now, wx', a_stepKind, a_stepEntity, a_stepAttribute, a_stepValue, a_stepOther, a_row, a_column, a_reach, a_clauseKind, a_clauseAttribute, a_left, a_right, a_order, a_rest, a_number, a_bound) → wpX_come post (f_latest, f_kept, f_steps, f_mode, f_since, f_until, f_clauses, f_levels, f_asked, f_level, f_assigned, f_bounded, a_kinds, a_keptEntity, a_keptAttribute, a_keptValue, a_came, a_went, a_now, wx, a_stepKind, a_stepEntity, a_stepAttribute, a_stepValue, a_stepOther, a_row, a_column, a_reach, a_clauseKind, a_clauseAttribute, a_left, a_right, a_order, a_rest, a_number, a_bound) (nI e) (nI a) (nI v)) ∧
    (∀ post : Int32 → SY → Prop, post r (g_latest, g_steps, g_mode, g_from, g_to, g_clauses, g_masked, a_kinds, b_sets, wy', b_sorts, b_entities, b_attributes, b_values, b_others, b_seen, b_reach, b_kinds, b_along, b_left, b_right, b_order, b_number) → wpY_put post (g_latest, g_steps, g_mode, g_from, g_to, g_clauses, g_masked, a_kinds, b_sets, wy, b_sorts, b_entities, b_attributes, b_values, b_others, b_seen, b_reach, b_kinds, b_along, b_left, b_right, b_order, b_number) (nI e) (nI a) (nI v)) := by
  have ew := hW.1 e a he ha
  have eo : (∃ f, f < 12 ∧ bt (wx (12 * a + f)) v = true) ↔ ∃ f, f < 12 ∧ bt (wy (6 * f + a)) v = true := by
    constructor
    · rintro ⟨f, f1, f2⟩; exact ⟨f, f1, by rw [← hW.1 f a f1 ha]; exact f2⟩
    · rintro ⟨f, f1, f2⟩; exact ⟨f, f1, by rw [hW.1 f a f1 ha]; exact f2⟩
  cases hb : bt (wy (6 * e + a)) v
  · by_cases hc : ¬ (a_kinds a &&& 2) = 0 ∧ ∃ f, f < 12 ∧ bt (wy (6 * f + a)) v = true
    · refine ⟨0, wx, wy, Or.inl rfl, hW, fun n => by omega, fun post h => ?_, fun post h => ?_⟩
      · refine fc_comeX he ha hv (fun q => ?_) (fun _ _ _ => h) (fun _ q => ?_)
        · rw [ew, hb] at q; exact absurd q (by decide)
        · exact absurd q (fun q => q.elim hc.1 (fun q => q (eo.mpr hc.2)))
      · refine fc_putY he ha hv (fun q => ?_) (fun _ _ _ => h) (fun _ q => ?_)
        · rw [hb] at q; exact absurd q (by decide)
        · exact absurd q (fun q => q.elim hc.1 (fun q => q hc.2))
    · refine ⟨1, _, _, Or.inr rfl, fc_WR_upd (x := if (a_kinds a &&& 1) = 0 then wy (6 * e + a) ||| ((1 : Int32) <<< (nI v &&& 31)) else (1 : Int32) <<< (nI v &&& 31)) hW he ha ?_, fun n => ?_, fun post h => ?_, fun post h => ?_⟩
      · split
        · exact fl_w_or (hW.2 _ (by omega)) (fl_w_one hv (by omega))
        · exact fl_w_one hv (by omega)
      · split
        · exact fc_FR_or (by omega) hv
        · exact fc_FR_one (by omega) hv
      · refine fc_comeX he ha hv (fun q => ?_) (fun _ q1 q2 => absurd ⟨q1, eo.mp q2⟩ hc) (fun _ q => ?_)
        · rw [ew, hb] at q; exact absurd q (by decide)
        · rw [ew]; exact h
      · refine fc_putY he ha hv (fun q => ?_) (fun _ q1 q2 => absurd ⟨q1, q2⟩ hc) (fun _ q => h)
        rw [hb] at q; exact absurd q (by decide)
  · refine ⟨1, wx, wy, Or.inr rfl, hW, fun n => by omega, fun post h => ?_, fun post h => ?_⟩
    · refine fc_comeX he ha hv (fun _ => h) (fun q => ?_) (fun q => ?_)
      · rw [ew, hb] at q; exact absurd q (by decide)
      · rw [ew, hb] at q; exact absurd q (by decide)
    · refine fc_putY he ha hv (fun _ => h) (fun q => ?_) (fun q => ?_)
      · rw [hb] at q; exact absurd q (by decide)
      · rw [hb] at q; exact absurd q (by decide)
/-- an entity goes -/
def fc_g2 (kk : Int32) (e : Nat) (x : Int32) : Int32 := if (kk &&& 4) = 0 then x else x &&& (((1 : Int32) <<< (nI e &&& 31)) ^^^ (-1))
def fc_g (kk : Int32) (e f : Nat) (x : Int32) : Int32 := fc_g2 kk e (if f = e then 0 else x)
def fc_GX (kk : Nat → Int32) (e : Nat) (w : Nat → Int32) : Nat → Int32 := fun p => if p < 72 then fc_g (kk (p / 12)) e (p % 12) (w p) else w p
def fc_GY (kk : Nat → Int32) (e : Nat) (w : Nat → Int32) : Nat → Int32 := fun p => if p < 72 then fc_g (kk (p % 6)) e (p / 6) (w p) else w p
theorem fc_go22 {post : SX → Prop} {J : Int32 → (Nat → Int32) → (Nat → Int32) → (Nat → Int32) → (Nat → Int32) → (Nat → Int32) → (Nat → Int32) → (Nat → Int32) → (Nat → Int32) → (Nat → Int32) → (Nat → Int32) → (Nat → Int32) → (Nat → Int32) → (Nat → Int32) → (Nat → Int32) → (Nat → Int32) → (Nat → Int32) → (Nat → Int32) → (Nat → Int32) → (Nat → Int32) → (Nat → Int32) → (Nat → Int32) → (Nat → Int32) → (Nat → Int32) → (Nat → Int32) → Prop} (he : e < 12) (ha : a < 6)
    (hJ : ∀ w', (∀ f, f < 12 → w' (12 * a + f) = fc_g2 (a_kinds a) e (wx (12 * a + f))) → (∀ p, (∀ f, f < 12 → p ≠ 12 * a + f) → w' p = wx p) → J (nI (a + 1)) a_kinds a_keptEntity a_keptAttribute a_keptValue a_came a_went a_now w' a_stepKind a_stepEntity a_stepAttribute a_stepValue a_stepOther a_row a_column a_reach a_clauseKind a_clauseAttribute a_left a_right a_order a_rest a_number a_bound) :
    ∃ n, wX_goEntity_22 post J (nI e) (nI a) f_latest f_kept f_steps f_mode f_since f_until f_clauses f_levels f_asked f_level f_assigned f_bounded n 0 a_kinds a_keptEntity a_keptAttribute a_keptValue a_came a_went a_now wx a_stepKind a_stepEntity a_stepAttribute a_stepValue a_stepOther a_row a_column a_reach a_clauseKind a_clauseAttribute a_left a_right a_order a_rest a_number a_bound := by
  have key : ∀ d f w', f + d = 12 → (∀ g, g < f → w' (12 * a + g) = fc_g2 (a_kinds a) e (wx (12 * a + g))) → (∀ p, (∀ g, g < f → p ≠ 12 * a + g) → w' p = wx p) → wX_goEntity_22 post J (nI e) (nI a) f_latest f_kept f_steps f_mode f_since f_until f_clauses f_levels f_asked f_level f_assigned f_bounded (d + 1) (nI f) a_kinds a_keptEntity a_keptAttribute a_keptValue a_came a_went a_now w' a_stepKind a_stepEntity a_stepAttribute a_stepValue a_stepOther a_row a_column a_reach a_clauseKind a_clauseAttribute a_left a_right a_order a_rest a_number a_bound := by
    intro d
    induction d with
    | zero =>
      intro f w' hf h1 h2
      have e12 : f = 12 := by omega
      subst e12
      exact br_t (nI_le (a := 12) (by omega) (by omega)) (nm_r (nI_1 a) (hJ w' h1 h2))
    | succ d ih =>
      intro f w' hf h1 h2
      have hwf : w' (12 * a + f) = wx (12 * a + f) := h2 _ (fun g hg => by omega)
      refine br_f (nI_ge (b := 12) (by omega) (by omega)) ?_
      by_cases hl : (a_kinds a &&& 4) = 0
      · refine fk_linkF ha hl (br_t rfl (nm_r (nI_1 f) (ih (f + 1) w' (by omega) (fun g hg => ?_) (fun p hp => h2 p (fun g hg => hp g (by omega))))))
        by_cases hz : g = f
        · subst hz; rw [hwf]; unfold fc_g2; rw [if_pos hl]
        · exact h1 g (by omega)
      · refine fk_linkT ha hl (br_f fk_10 ?_)
        rw [fv_i12, fk_cl (f := w') (n := 12 * a + f) (by omega), fk_ucl (f := w') (n := 12 * a + f) (by omega)]
        have hin : vp_in (nI (12 * a + f)) 72 := vp_in_nI (by omega) (by omega)
        refine ⟨hin, hin, nm_e (nm_r (nI_1 f) (ih (f + 1) _ (by omega) (fun g hg => ?_) (fun p hp => ?_)))⟩
        · by_cases hz : g = f
          · subst hz; rw [pk_us, hwf]; unfold fc_g2; rw [if_neg hl]
          · rw [pk_un (by omega)]; exact h1 g (by omega)
        · rw [pk_un (hp f (by omega))]
          exact h2 p (fun g hg => hp g (by omega))
  exact ⟨_, key 12 0 wx rfl (fun g hg => absurd hg (by omega)) (fun p _ => rfl)⟩
theorem fc_goX {post : SX → Prop} (he : e < 12) (h : post (f_latest, f_kept, f_steps, f_mode, f_since, f_until, f_clauses, f_levels, f_asked, f_level, f_assigned, f_bounded, a_kinds, a_keptEntity, a_keptAttribute, a_keptValue, a_came, a_went, a_now, fc_GX a_kinds e wx, a_stepKind, a_stepEntity, a_stepAttribute, a_stepValue, a_stepOther, a_row, a_column, a_reach, a_clauseKind, a_clauseAttribute, a_left, a_right, a_order, a_rest, a_number, a_bound)) : wpX_goEntity post (f_latest, f_kept, f_steps, f_mode, f_since, f_until, f_clauses, f_levels, f_asked, f_level, f_assigned, f_bounded, a_kinds, a_keptEntity, a_keptAttribute, a_keptValue, a_came, a_went, a_now, wx, a_stepKind, a_stepEntity, a_stepAttribute, a_stepValue, a_stepOther, a_row, a_column, a_reach, a_clauseKind, a_clauseAttribute, a_left, a_right, a_order, a_rest, a_number, a_bound) (nI e) := by
  have key : ∀ d a w', a + d = 6 → (∀ f a', f < 12 → a' < a → w' (12 * a' + f) = fc_g (a_kinds a') e f (wx (12 * a' + f))) → (∀ p, 12 * a ≤ p → w' p = wx p) → wX_goEntity_2 post (nI e) f_latest f_kept f_steps f_mode f_since f_until f_clauses f_levels f_asked f_level f_assigned f_bounded (d + 1) (nI a) a_kinds a_keptEntity a_keptAttribute a_keptValue a_came a_went a_now w' a_stepKind a_stepEntity a_stepAttribute a_stepValue a_stepOther a_row a_column a_reach a_clauseKind a_clauseAttribute a_left a_right a_order a_rest a_number a_bound := by
    intro d
    induction d with
    | zero =>
      intro a w' ha h1 h2
      have e6 : a = 6 := by omega
      subst e6
      have ef : w' = fc_GX a_kinds e wx := by
        funext p
        unfold fc_GX
        by_cases hp : p < 72
        · rw [if_pos hp]
          have hh := h1 (p % 12) (p / 12) (by omega) (by omega)
          rw [show 12 * (p / 12) + p % 12 = p by omega] at hh
          exact hh
        · rw [if_neg hp]; exact h2 p (by omega)
      rw [ef]
      exact br_t (nI_le (a := 6) (by omega) (by omega)) h
    | succ d ih =>
      intro a w' ha h1 h2
      refine br_f (nI_ge (b := 6) (by omega) (by omega)) ?_
      rw [fv_i12, fk_ucl (f := w') (n := 12 * a + e) (by omega)]
      refine ⟨vp_in_nI (by omega) (by omega), nm_e (fc_go22 he (by omega) (fun w'' k1 k2 => ih (a + 1) w'' (by omega) (fun f a' hf ha' => ?_) (fun p hp => ?_)))⟩
      · by_cases hz : a' = a
        · subst hz
          rw [k1 f hf]
          unfold fc_g
          congr 1
          by_cases hfe : f = e
          · subst hfe; rw [pk_us, if_pos rfl]
          · rw [pk_un (by omega), if_neg hfe]; exact h2 _ (by omega)
        · rw [k2 _ (fun g hg => by omega), pk_un (by omega)]
          exact h1 f a' hf (by omega)
      · rw [k2 p (fun g hg => by omega), pk_un (by omega)]
        exact h2 p (by omega)
  exact ⟨_, key 6 0 wx rfl (fun f a' _ h => absurd h (by omega)) (fun p _ => rfl)⟩
theorem fc_tk22 {post : SY → Prop} {J : Int32 → (Nat → Int32) → (Nat → Int32) → (Nat → Int32) → (Nat → Int32) → (Nat → Int32) → (Nat → Int32) → (Nat → Int32) → (Nat → Int32) → (Nat → Int32) → (Nat → Int32) → (Nat → Int32) → (Nat → Int32) → (Nat → Int32) → (Nat → Int32) → (Nat → Int32) → (Nat → Int32) → Prop} (he : e < 12) (ha : a < 6)
    (hJ : ∀ w', (∀ f, f < 12 → w' (6 * f + a) = fc_g2 (b_attributeKinds a) e (wy (6 * f + a))) → (∀ p, (∀ f, f < 12 → p ≠ 6 * f + a) → w' p = wy p) → J (nI (a + 1)) b_attributeKinds b_sets w' b_sorts b_entities b_attributes b_values b_others b_seen b_reach b_kinds b_along b_left b_right b_order b_number) :
    ∃ n, wY_takeEntity_22 post J (nI e) (nI a) g_latest g_steps g_mode g_from g_to g_clauses g_masked n 0 b_attributeKinds b_sets wy b_sorts b_entities b_attributes b_values b_others b_seen b_reach b_kinds b_along b_left b_right b_order b_number := by
  have key : ∀ d f w', f + d = 12 → (∀ g, g < f → w' (6 * g + a) = fc_g2 (b_attributeKinds a) e (wy (6 * g + a))) → (∀ p, (∀ g, g < f → p ≠ 6 * g + a) → w' p = wy p) → wY_takeEntity_22 post J (nI e) (nI a) g_latest g_steps g_mode g_from g_to g_clauses g_masked (d + 1) (nI f) b_attributeKinds b_sets w' b_sorts b_entities b_attributes b_values b_others b_seen b_reach b_kinds b_along b_left b_right b_order b_number := by
    intro d
    induction d with
    | zero =>
      intro f w' hf h1 h2
      have e12 : f = 12 := by omega
      subst e12
      exact br_t (nI_le (a := 12) (by omega) (by omega)) (nm_r (nI_1 a) (hJ w' h1 h2))
    | succ d ih =>
      intro f w' hf h1 h2
      have hwf : w' (6 * f + a) = wy (6 * f + a) := h2 _ (fun g hg => by omega)
      have hin : vp_in (nI (6 * f + a)) 72 := vp_in_nI (by omega) (by omega)
      have hkeep : ∀ x, x = fc_g2 (b_attributeKinds a) e (wy (6 * f + a)) → wY_takeEntity_22 post J (nI e) (nI a) g_latest g_steps g_mode g_from g_to g_clauses g_masked (d + 1) (nI (f + 1)) b_attributeKinds b_sets (upd w' (6 * f + a) x) b_sorts b_entities b_attributes b_values b_others b_seen b_reach b_kinds b_along b_left b_right b_order b_number := by
        intro x hx
        refine ih (f + 1) _ (by omega) (fun g hg => ?_) (fun p hp => ?_)
        · by_cases hz : g = f
          · subst hz; rw [pk_us, hx]
          · rw [pk_un (by omega)]; exact h1 g (by omega)
        · rw [pk_un (hp f (by omega))]
          exact h2 p (fun g hg => hp g (by omega))
      refine br_f (nI_ge (b := 12) (by omega) (by omega)) ?_
      by_cases hl : (b_attributeKinds a &&& 4) = 0
      · refine fk_linkYF ha hl (br_t rfl ?_)
        rw [fv_i6, fk_cl (f := w') (n := 6 * f + a) (by omega), fk_ucl (f := w') (n := 6 * f + a) (by omega)]
        refine ⟨hin, hin, nm_e (nm_r (nI_1 f) (hkeep _ ?_))⟩
        rw [hwf]; unfold fc_g2; rw [if_pos hl]
      · refine fk_linkYT ha hl (br_f fk_10 ?_)
        rw [fv_i6, fk_cl (f := w') (n := 6 * f + a) (by omega), fk_ucl (f := w') (n := 6 * f + a) (by omega)]
        refine ⟨hin, hin, nm_e (nm_r (nI_1 f) (hkeep _ ?_))⟩
        rw [hwf]; unfold fc_g2; rw [if_neg hl]
  exact ⟨_, key 12 0 wy rfl (fun g hg => absurd hg (by omega)) (fun p _ => rfl)⟩
theorem fc_tkY {post : SY → Prop} (he : e < 12) (h : post (g_latest, g_steps, g_mode, g_from, g_to, g_clauses, g_masked, b_attributeKinds, b_sets, fc_GY b_attributeKinds e wy, b_sorts, b_entities, b_attributes, b_values, b_others, b_seen, b_reach, b_kinds, b_along, b_left, b_right, b_order, b_number)) : wpY_takeEntity post (g_latest, g_steps, g_mode, g_from, g_to, g_clauses, g_masked, b_attributeKinds, b_sets, wy, b_sorts, b_entities, b_attributes, b_values, b_others, b_seen, b_reach, b_kinds, b_along, b_left, b_right, b_order, b_number) (nI e) := by
  have key : ∀ d a w', a + d = 6 → (∀ f a', f < 12 → a' < a → w' (6 * f + a') = fc_g (b_attributeKinds a') e f (wy (6 * f + a'))) → (∀ f a', f < 12 → a ≤ a' → a' < 6 → w' (6 * f + a') = wy (6 * f + a')) → (∀ p, 72 ≤ p → w' p = wy p) → wY_takeEntity_2 post (nI e) g_latest g_steps g_mode g_from g_to g_clauses g_masked (d + 1) (nI a) b_attributeKinds b_sets w' b_sorts b_entities b_attributes b_values b_others b_seen b_reach b_kinds b_along b_left b_right b_order b_number := by
    intro d
    induction d with
    | zero =>
      intro a w' ha h1 h2 h3
      have e6 : a = 6 := by omega
      subst e6
      have ef : w' = fc_GY b_attributeKinds e wy := by
        funext p
        unfold fc_GY
        by_cases hp : p < 72
        · rw [if_pos hp]
          have hh := h1 (p / 6) (p % 6) (by omega) (by omega)
          rw [show 6 * (p / 6) + p % 6 = p by omega] at hh
          exact hh
        · rw [if_neg hp]; exact h3 p (by omega)
      rw [ef]
      exact br_t (nI_le (a := 6) (by omega) (by omega)) h
    | succ d ih =>
      intro a w' ha h1 h2 h3
      refine br_f (nI_ge (b := 6) (by omega) (by omega)) ?_
      rw [fv_i6, fk_ucl (f := w') (n := 6 * e + a) (by omega)]
      refine ⟨vp_in_nI (by omega) (by omega), nm_e (fc_tk22 he (by omega) (fun w'' k1 k2 => ih (a + 1) w'' (by omega) (fun f a' hf ha' => ?_) (fun f a' hf ha' ha6 => ?_) (fun p hp => ?_)))⟩
      · by_cases hz : a' = a
        · subst hz
          rw [k1 f hf]
          unfold fc_g
          congr 1
          by_cases hfe : f = e
          · subst hfe; rw [pk_us, if_pos rfl]
          · rw [pk_un (by omega), if_neg hfe]; exact h2 f a' hf (by omega) (by omega)
        · rw [k2 _ (fun g hg => by omega), pk_un (by omega)]
          exact h1 f a' hf (by omega)
      · rw [k2 _ (fun g hg => by omega), pk_un (by omega)]
        exact h2 f a' hf (by omega) ha6
      · rw [k2 _ (fun g hg => by omega), pk_un (by omega)]
        exact h3 p hp
  exact ⟨_, key 6 0 wy rfl (fun f a' _ h => absurd h (by omega)) (fun f a' _ _ _ => rfl) (fun p _ => rfl)⟩
end
theorem fc_g_bt {kk : Int32} {e f i : Nat} {x : Int32} (h : bt (fc_g kk e f x) i = true) : bt x i = true := by
  unfold fc_g fc_g2 at h
  by_cases hz : f = e
  · rw [if_pos hz] at h
    split at h
    · rw [b_0] at h; exact absurd h (by decide)
    · rw [b_and, b_0, Bool.false_and] at h; exact absurd h (by decide)
  · rw [if_neg hz] at h
    split at h
    · exact h
    · rw [b_and, Bool.and_eq_true] at h; exact h.1
end
section
/-! a step of either kind; all steps of a commit -/
theorem fc_nar {r : Int32} (h : r = 0 ∨ r = 1) : narrow .boolean (.int r) = .int r := by
  rcases h with rfl | rfl
  · exact narrow_b0
  · exact narrow_b1
theorem fc_del_sub {n wy : Nat → Int32} {p v : Nat} : fc_FR n (upd wy p (wy p &&& (((1 : Int32) <<< (nI v &&& 31)) ^^^ (-1)))) ≤ fc_FR n wy := by
  refine fc_FR_sub fun q i _ hb => ?_
  by_cases hz : q = p
  · subst hz
    rw [pk_us, b_and, Bool.and_eq_true] at hb
    exact hb.1
  · rw [pk_un hz] at hb; exact hb
theorem fc_zero_sub {n wy : Nat → Int32} {p : Nat} : fc_FR n (upd wy p 0) ≤ fc_FR n wy := by
  refine fc_FR_sub fun q i _ hb => ?_
  by_cases hz : q = p
  · subst hz
    rw [pk_us, b_0] at hb
    exact absurd hb (by decide)
  · rw [pk_un hz] at hb; exact hb
section
variable {f_latest f_kept f_steps f_mode f_since f_until f_clauses f_levels f_asked f_level f_assigned f_bounded : Int32} {a_kinds a_keptEntity a_keptAttribute a_keptValue a_came a_went a_now a_work a_stepKind a_stepEntity a_stepAttribute a_stepValue a_stepOther a_row a_column a_reach a_clauseKind a_clauseAttribute a_left a_right a_order a_rest a_number a_bound : Nat → Int32}
variable {g_latest g_steps g_mode g_from g_to g_clauses g_masked : Int32} {b_attributeKinds b_sets b_work b_sorts b_entities b_attributes b_values b_others b_seen b_reach b_kinds b_along b_left b_right b_order b_number : Nat → Int32}
variable {s i : Nat} {wx wy : Nat → Int32}
theorem fc_step (hs : fr_S s a_stepKind a_stepEntity a_stepAttribute a_stepValue a_stepOther b_attributes) (hi : i < s) (hW : fc_WR wx wy) : ∃ (r : Int32) (wx' wy' : Nat → Int32), (r = 0 ∨ r = 1) ∧ (∀ p, p < 72 → fl_w 20 (wx' p)) ∧ (r = 1 → fc_WR wx' wy' ∧ ∀ n, fc_FR n wy' ≤ fc_FR n wy + 1) ∧
    (∀ post : Int32 → SX → Prop, post r (f_latest, f_kept, f_steps, f_mode, f_since, f_until, f_clauses, f_levels, f_asked, f_level, f_assigned, f_bounded, a_kinds, a_keptEntity, a_keptAttribute, a_keptValue, a_came, a_went, a_now, wx', a_stepKind, a_stepEntity, a_stepAttribute, a_stepValue, a_stepOther, a_row, a_column, a_reach, a_clauseKind, a_clauseAttribute, a_left, a_right, a_order, a_rest, a_number, a_bound) → wpX_doStep post (f_latest, f_kept, f_steps, f_mode, f_since, f_until, f_clauses, f_levels, f_asked, f_level, f_assigned, f_bounded, a_kinds, a_keptEntity, a_keptAttribute, a_keptValue, a_came, a_went, a_now, wx, a_stepKind, a_stepEntity, a_stepAttribute, a_stepValue, a_stepOther, a_row, a_column, a_reach, a_clauseKind, a_clauseAttribute, a_left, a_right, a_order, a_rest, a_number, a_bound) (nI i)) ∧
    (∀ post : Int32 → SY → Prop, post r (g_latest, g_steps, g_mode, g_from, g_to, g_clauses, g_masked, a_kinds, b_sets, wy', a_stepKind, a_stepEntity, b_attributes, a_stepValue, a_stepOther, b_seen, b_reach, b_kinds, b_along, b_left, b_right, b_order, b_number) → wpY_done post (g_latest, g_steps, g_mode, g_from, g_to, g_clauses, g_masked, a_kinds, b_sets, wy, a_stepKind, a_stepEntity, b_attributes, a_stepValue, a_stepOther, b_seen, b_reach, b_kinds, b_along, b_left, b_right, b_order, b_number) (nI i)) := by
  obtain ⟨k, e, a, v, w, ⟨b1, b2, b3, b4, b5⟩, q1, q2, q3, q4, q5, q6⟩ := hs.2 i hi
  have hs10 := hs.1
  have hin : vp_in (nI i) 10 := vp_in_nI (by omega) (by omega)
  have E1 : a_stepKind (nI i).toNatClampNeg = nI k := by rw [nI_clamp (by omega), q1]
  have E2 : a_stepEntity (nI i).toNatClampNeg = nI e := by rw [nI_clamp (by omega), q2]
  have E3 : a_stepAttribute (nI i).toNatClampNeg = nI a := by rw [nI_clamp (by omega), q3]
  have E4 : a_stepValue (nI i).toNatClampNeg = nI v := by rw [nI_clamp (by omega), q4]
  have E5 : a_stepOther (nI i).toNatClampNeg = nI w := by rw [nI_clamp (by omega), q5]
  have E6 : k ≠ 3 → b_attributes (nI i).toNatClampNeg = nI a := fun hk => by rw [nI_clamp (by omega), q6, if_neg hk]
  have i12 : vp_in (nI (12 * a + e)) 72 := vp_in_nI (by omega) (by omega)
  have i6 : vp_in (nI (6 * e + a)) 72 := vp_in_nI (by omega) (by omega)
  have ew := hW.1 e a b2 b3
  have k5 : k = 0 ∨ k = 1 ∨ k = 2 ∨ k = 3 ∨ k = 4 := by omega
  rcases k5 with rfl | rfl | rfl | rfl | rfl
  · obtain ⟨r, wx', wy', h01, hW', hF, hX, hY⟩ := fc_come (e := e) (a := a) (v := v) b2 b3 b4 hW (f_latest := f_latest) (f_kept := f_kept) (f_steps := f_steps) (f_mode := f_mode) (f_since := f_since) (f_until := f_until) (f_clauses := f_clauses) (f_levels := f_levels) (f_asked := f_asked) (f_level := f_level) (f_assigned := f_assigned) (f_bounded := f_bounded) (a_kinds := a_kinds) (a_keptEntity := a_keptEntity) (a_keptAttribute := a_keptAttribute) (a_keptValue := a_keptValue) (a_came := a_came) (a_went := a_went) (a_now := a_now) (a_stepKind := a_stepKind) (a_stepEntity := a_stepEntity) (a_stepAttribute := a_stepAttribute) (a_stepValue := a_stepValue) (a_stepOther := a_stepOther) (a_row := a_row) (a_column := a_column) (a_reach := a_reach) (a_clauseKind := a_clauseKind) (a_clauseAttribute := a_clauseAttribute) (a_left := a_left) (a_right := a_right) (a_order := a_order) (a_rest := a_rest) (a_number := a_number) (a_bound := a_bound) (g_latest := g_latest) (g_steps := g_steps) (g_mode := g_mode) (g_from := g_from) (g_to := g_to) (g_clauses := g_clauses) (g_masked := g_masked) (b_sets := b_sets) (b_sorts := a_stepKind) (b_entities := a_stepEntity) (b_attributes := b_attributes) (b_values := a_stepValue) (b_others := a_stepOther) (b_seen := b_seen) (b_reach := b_reach) (b_kinds := b_kinds) (b_along := b_along) (b_left := b_left) (b_right := b_right) (b_order := b_order) (b_number := b_number)
    refine ⟨r, wx', wy', h01, fc_WR_x hW', fun _ => ⟨hW', hF⟩, fun post h => ?_, fun post h => ?_⟩
    · exact ⟨hin, nm_r E2 ⟨hin, nm_r E3 ⟨hin, nm_r E4 (nm_r (fv_i12 a e) ⟨hin, nm_r E1 (br_f (by decide) (br_f (by decide) (br_t rfl (hX _ (And.intro (fc_nar h01) h)))))⟩)⟩⟩⟩
    · refine ⟨hin, nm_r E2 ⟨hin, nm_r (E6 (by decide)) ⟨hin, nm_r E4 ⟨hin, br_t E1 (hY _ (And.intro (fc_nar h01) h))⟩⟩⟩⟩
  · refine ⟨1, _, _, Or.inr rfl, fc_WR_x (fc_WR_upd (x := wy (6 * e + a) &&& (((1 : Int32) <<< (nI v &&& 31)) ^^^ (-1))) hW b2 b3 (fc_w_del (hW.2 _ (by omega)))), fun _ => ⟨fc_WR_upd hW b2 b3 (fc_w_del (hW.2 _ (by omega))), fun n => Nat.le_trans fc_del_sub (by omega)⟩, fun post h => ?_, fun post h => ?_⟩
    · refine ⟨hin, nm_r E2 ⟨hin, nm_r E3 ⟨hin, nm_r E4 (nm_r (fv_i12 a e) ⟨hin, nm_r E1 (br_f (by decide) (br_f (by decide) (br_f (by decide) (br_t rfl ⟨i12, i12, nm_r ?_ h⟩))))⟩)⟩⟩⟩
      rw [fk_ucl (f := wx) (n := 12 * a + e) (by omega), fk_cl (f := wx) (n := 12 * a + e) (by omega), ew]
    · refine ⟨hin, nm_r E2 ⟨hin, nm_r (E6 (by decide)) ⟨hin, nm_r E4 ⟨hin, ?_⟩⟩⟩⟩
      rw [E1, fv_i6, fk_cl (f := wy) (n := 6 * e + a) (by omega)]
      exact br_f (by decide) ⟨hin, br_f (by decide) ⟨hin, br_f (by decide) ⟨i6, fv_inY _ (by omega) (fun _ => ⟨i6, i6, nm_r (fk_ucl (by omega)) ⟨hin, br_t rfl h⟩⟩) (fun _ => ⟨i6, i6, nm_r (fk_ucl (by omega)) ⟨hin, br_t rfl h⟩⟩)⟩⟩⟩
  · refine ⟨1, _, _, Or.inr rfl, fc_WR_x (fc_WR_upd (x := 0) hW b2 b3 (fl_w0 20)), fun _ => ⟨fc_WR_upd hW b2 b3 (fl_w0 20), fun n => Nat.le_trans fc_zero_sub (by omega)⟩, fun post h => ?_, fun post h => ?_⟩
    · exact ⟨hin, nm_r E2 ⟨hin, nm_r E3 ⟨hin, nm_r E4 (nm_r (fv_i12 a e) ⟨hin, nm_r E1 (br_f (by decide) (br_f (by decide) (br_f (by decide) (br_f (by decide) (br_t rfl ⟨i12, nm_r (fk_ucl (by omega)) h⟩)))))⟩)⟩⟩⟩
    · refine ⟨hin, nm_r E2 ⟨hin, nm_r (E6 (by decide)) ⟨hin, nm_r E4 ⟨hin, ?_⟩⟩⟩⟩
      rw [E1, fv_i6, fk_ucl (f := wy) (n := 6 * e + a) (by omega)]
      exact br_f (by decide) ⟨hin, br_f (by decide) ⟨hin, br_t rfl ⟨i6, nm_e h⟩⟩⟩
  · have hGx : ∀ f a, f < 12 → a < 6 → fc_GX a_kinds e wx (12 * a + f) = fc_g (a_kinds a) e f (wx (12 * a + f)) := fun f a hf ha => by
      unfold fc_GX
      rw [if_pos (by omega), show (12 * a + f) / 12 = a by omega, show (12 * a + f) % 12 = f by omega]
    have hGy : ∀ f a, f < 12 → a < 6 → fc_GY a_kinds e wy (6 * f + a) = fc_g (a_kinds a) e f (wy (6 * f + a)) := fun f a hf ha => by
      unfold fc_GY
      rw [if_pos (by omega), show (6 * f + a) / 6 = f by omega, show (6 * f + a) % 6 = a by omega]
    have hsub : ∀ p j, p < 72 → bt (fc_GY a_kinds e wy p) j = true → bt (wy p) j = true := fun p j hp hb => by
      unfold fc_GY at hb
      rw [if_pos hp] at hb
      exact fc_g_bt hb
    have hWR : fc_WR (fc_GX a_kinds e wx) (fc_GY a_kinds e wy) := by
      refine ⟨fun f a hf ha => by rw [hGx f a hf ha, hGy f a hf ha, hW.1 f a hf ha], fun p hp j hj => ?_⟩
      cases hb : bt (fc_GY a_kinds e wy p) j
      · rfl
      · have := hsub p j hp hb
        rw [hW.2 p hp j hj] at this
        exact absurd this (by decide)
    refine ⟨1, _, _, Or.inr rfl, fc_WR_x hWR, fun _ => ⟨hWR, fun n => Nat.le_trans (fc_FR_sub hsub) (by omega)⟩, fun post h => ?_, fun post h => ?_⟩
    · exact ⟨hin, nm_r E2 ⟨hin, nm_r E3 ⟨hin, nm_r E4 (nm_r (fv_i12 a e) ⟨hin, nm_r E1 (br_f (by decide) (br_f (by decide) (br_f (by decide) (br_f (by decide) (br_f (by decide) (br_t rfl (fc_goX b2 h)))))))⟩)⟩⟩⟩
    · refine ⟨hin, nm_r E2 ⟨hin, nm_e ⟨hin, nm_r E4 ⟨hin, ?_⟩⟩⟩⟩
      rw [E1]
      exact br_f (by decide) ⟨hin, br_t rfl (fc_tkY b2 h)⟩
  · have hW1 : fc_WR (upd wx (12 * a + e) (wy (6 * e + a) &&& (((1 : Int32) <<< (nI v &&& 31)) ^^^ (-1)))) (upd wy (6 * e + a) (wy (6 * e + a) &&& (((1 : Int32) <<< (nI v &&& 31)) ^^^ (-1)))) := fc_WR_upd hW b2 b3 (fc_w_del (hW.2 _ (by omega)))
    cases hb : bt (wy (6 * e + a)) v
    · refine ⟨0, wx, upd wy (6 * e + a) (wy (6 * e + a) &&& (((1 : Int32) <<< (nI v &&& 31)) ^^^ (-1))), Or.inl rfl, fc_WR_x hW, fun z => absurd z (by decide), fun post h => ?_, fun post h => ?_⟩
      · refine ⟨hin, nm_r E2 ⟨hin, nm_r E3 ⟨hin, nm_r E4 (nm_r (fv_i12 a e) ⟨hin, nm_r E1 (br_f (by decide) (br_t (by decide) ⟨i12, br_t ?_ h⟩))⟩)⟩⟩⟩
        rw [fk_cl (f := wx) (n := 12 * a + e) (by omega), ew, fl_is0 _ (by omega)]; exact hb
      · refine ⟨hin, nm_r E2 ⟨hin, nm_r (E6 (by decide)) ⟨hin, nm_r E4 ⟨hin, ?_⟩⟩⟩⟩
        rw [E1, fv_i6, fk_cl (f := wy) (n := 6 * e + a) (by omega)]
        exact br_f (by decide) ⟨hin, br_f (by decide) ⟨hin, br_f (by decide) ⟨i6, fv_inY _ (by omega) (fun z => by rw [hb] at z; exact absurd z (by decide)) (fun _ => ⟨i6, i6, nm_r (fk_ucl (by omega)) ⟨hin, br_f (by decide) (br_t rfl h)⟩⟩)⟩⟩⟩
    · obtain ⟨r, wx', wy', h01, hW', hF, hX, hY⟩ := fc_come (e := e) (a := a) (v := w) b2 b3 b5 hW1 (f_latest := f_latest) (f_kept := f_kept) (f_steps := f_steps) (f_mode := f_mode) (f_since := f_since) (f_until := f_until) (f_clauses := f_clauses) (f_levels := f_levels) (f_asked := f_asked) (f_level := f_level) (f_assigned := f_assigned) (f_bounded := f_bounded) (a_kinds := a_kinds) (a_keptEntity := a_keptEntity) (a_keptAttribute := a_keptAttribute) (a_keptValue := a_keptValue) (a_came := a_came) (a_went := a_went) (a_now := a_now) (a_stepKind := a_stepKind) (a_stepEntity := a_stepEntity) (a_stepAttribute := a_stepAttribute) (a_stepValue := a_stepValue) (a_stepOther := a_stepOther) (a_row := a_row) (a_column := a_column) (a_reach := a_reach) (a_clauseKind := a_clauseKind) (a_clauseAttribute := a_clauseAttribute) (a_left := a_left) (a_right := a_right) (a_order := a_order) (a_rest := a_rest) (a_number := a_number) (a_bound := a_bound) (g_latest := g_latest) (g_steps := g_steps) (g_mode := g_mode) (g_from := g_from) (g_to := g_to) (g_clauses := g_clauses) (g_masked := g_masked) (b_sets := b_sets) (b_sorts := a_stepKind) (b_entities := a_stepEntity) (b_attributes := b_attributes) (b_values := a_stepValue) (b_others := a_stepOther) (b_seen := b_seen) (b_reach := b_reach) (b_kinds := b_kinds) (b_along := b_along) (b_left := b_left) (b_right := b_right) (b_order := b_order) (b_number := b_number)
      refine ⟨r, wx', wy', h01, fc_WR_x hW', fun _ => ⟨hW', fun n => Nat.le_trans (hF n) (Nat.add_le_add_right fc_del_sub 1)⟩, fun post h => ?_, fun post h => ?_⟩
      · refine ⟨hin, nm_r E2 ⟨hin, nm_r E3 ⟨hin, nm_r E4 (nm_r (fv_i12 a e) ⟨hin, nm_r E1 (br_f (by decide) (br_t (by decide) ⟨i12, br_f ?_ ⟨i12, i12, nm_r (e' := upd wx (12 * a + e) (wy (6 * e + a) &&& (((1 : Int32) <<< (nI v &&& 31)) ^^^ (-1)))) ?_ ⟨hin, ?_⟩⟩⟩))⟩)⟩⟩⟩
        · rw [fk_cl (f := wx) (n := 12 * a + e) (by omega), ew, fl_is0 _ (by omega), hb]; decide
        · rw [fk_ucl (f := wx) (n := 12 * a + e) (by omega), fk_cl (f := wx) (n := 12 * a + e) (by omega), ew]
        · rw [E5]
          exact hX _ (And.intro (fc_nar h01) h)
      · refine ⟨hin, nm_r E2 ⟨hin, nm_r (E6 (by decide)) ⟨hin, nm_r E4 ⟨hin, ?_⟩⟩⟩⟩
        rw [E1, E5, fv_i6, fk_cl (f := wy) (n := 6 * e + a) (by omega)]
        refine br_f (by decide) ⟨hin, br_f (by decide) ⟨hin, br_f (by decide) ⟨i6, fv_inY _ (by omega) (fun _ => ⟨i6, i6, nm_r (fk_ucl (by omega)) ⟨hin, br_f (by decide) (br_f fk_10 ⟨hin, hY _ ?_⟩)⟩⟩) (fun z => by rw [hb] at z; exact absurd z (by decide))⟩⟩⟩
        rcases h01 with rfl | rfl
        · exact br_t rfl h
        · exact br_f fk_10 h
end
end
section
/-! all steps; settling -/
section
variable {f_latest f_kept f_steps f_mode f_since f_until f_clauses f_levels f_asked f_level f_assigned f_bounded : Int32} {a_kinds a_keptEntity a_keptAttribute a_keptValue a_came a_went a_now a_work a_stepKind a_stepEntity a_stepAttribute a_stepValue a_stepOther a_row a_column a_reach a_clauseKind a_clauseAttribute a_left a_right a_order a_rest a_number a_bound : Nat → Int32}
variable {g_latest g_steps g_mode g_from g_to g_clauses g_masked : Int32} {b_attributeKinds b_sets b_work b_sorts b_entities b_attributes b_values b_others b_seen b_reach b_kinds b_along b_left b_right b_order b_number : Nat → Int32}
variable {L s : Nat} {n0 : Nat → Int32}
theorem fc_wfX {post : Int32 → Prop} (hw : ∀ p, p < 72 → fl_w 20 (a_work p)) (h : post (nI (fl_sm (fun p => fl_pc (a_work p)) 72))) : wpX_workFacts post (f_latest, f_kept, f_steps, f_mode, f_since, f_until, f_clauses, f_levels, f_asked, f_level, f_assigned, f_bounded, a_kinds, a_keptEntity, a_keptAttribute, a_keptValue, a_came, a_went, a_now, a_work, a_stepKind, a_stepEntity, a_stepAttribute, a_stepValue, a_stepOther, a_row, a_column, a_reach, a_clauseKind, a_clauseAttribute, a_left, a_right, a_order, a_rest, a_number, a_bound) := by
  have key : ∀ d p, p + d = 72 → wX_workFacts_4 post f_latest f_kept f_steps f_mode f_since f_until f_clauses f_levels f_asked f_level f_assigned f_bounded a_kinds a_keptEntity a_keptAttribute a_keptValue a_came a_went a_now a_work a_stepKind a_stepEntity a_stepAttribute a_stepValue a_stepOther a_row a_column a_reach a_clauseKind a_clauseAttribute a_left a_right a_order a_rest a_number a_bound (d + 1) (nI (fl_sm (fun p => fl_pc (a_work p)) p)) (nI p) := by
    intro d
    induction d with
    | zero =>
      intro p hp
      have e : p = 72 := by omega
      subst e
      exact br_t (nI_le (a := 72) (by omega) (by omega)) h
    | succ d ih =>
      intro p hp
      refine br_f (nI_ge (b := 72) (by omega) (by omega)) ⟨vp_in_nI (by omega) (by omega), ?_⟩
      rw [fk_cl (f := a_work) (n := p) (by omega)]
      exact fl_ones (hw p (by omega)) (nm_r (nI_add _ _) (nm_r (nI_1 p) (ih (p + 1) (by omega))))
  exact ⟨_, key 72 0 rfl⟩
theorem fc_cwY {post : Int32 → Prop} (h : post (nI (fl_sm (fun p => fl_pc (b_work p)) 72))) : wpY_countWork post (g_latest, g_steps, g_mode, g_from, g_to, g_clauses, g_masked, b_attributeKinds, b_sets, b_work, b_sorts, b_entities, b_attributes, b_values, b_others, b_seen, b_reach, b_kinds, b_along, b_left, b_right, b_order, b_number) := by
  have key : ∀ d p, p + d = 72 → wY_countWork_4 post g_latest g_steps g_mode g_from g_to g_clauses g_masked b_attributeKinds b_sets b_work b_sorts b_entities b_attributes b_values b_others b_seen b_reach b_kinds b_along b_left b_right b_order b_number (d + 1) (nI (fl_sm (fun p => fl_pc (b_work p)) p)) (nI p) := by
    intro d
    induction d with
    | zero =>
      intro p hp
      have e : p = 72 := by omega
      subst e
      exact br_t (nI_le (a := 72) (by omega) (by omega)) h
    | succ d ih =>
      intro p hp
      refine br_f (nI_ge (b := 72) (by omega) (by omega)) ⟨vp_in_nI (by omega) (by omega), ?_⟩
      rw [fk_cl (f := b_work) (n := p) (by omega)]
      exact fl_onesY _ (nm_r (nI_add _ _) (nm_r (nI_1 p) (ih (p + 1) (by omega))))
  exact ⟨_, key 72 0 rfl⟩
theorem fc_steps (hs : fr_S s a_stepKind a_stepEntity a_stepAttribute a_stepValue a_stepOther b_attributes) : ∀ d i wx wy, i + d = s → fc_WR wx wy → fc_FR n0 wy ≤ i →
    (∃ (r : Int32) (wx' wy' : Nat → Int32), (∀ post : Int32 → SX → Prop, post r (nI L, f_kept, nI s, f_mode, f_since, f_until, f_clauses, f_levels, f_asked, f_level, f_assigned, f_bounded, a_kinds, a_keptEntity, a_keptAttribute, a_keptValue, a_came, a_went, a_now, wx', a_stepKind, a_stepEntity, a_stepAttribute, a_stepValue, a_stepOther, a_row, a_column, a_reach, a_clauseKind, a_clauseAttribute, a_left, a_right, a_order, a_rest, a_number, a_bound) → wX_commit_39 post (d + 1) (nI i) (nI L) f_kept (nI s) f_mode f_since f_until f_clauses f_levels f_asked f_level f_assigned f_bounded a_kinds a_keptEntity a_keptAttribute a_keptValue a_came a_went a_now wx a_stepKind a_stepEntity a_stepAttribute a_stepValue a_stepOther a_row a_column a_reach a_clauseKind a_clauseAttribute a_left a_right a_order a_rest a_number a_bound) ∧ (∀ post : Int32 → SY → Prop, post r (nI L, nI s, g_mode, g_from, g_to, g_clauses, g_masked, a_kinds, b_sets, wy', a_stepKind, a_stepEntity, b_attributes, a_stepValue, a_stepOther, b_seen, b_reach, b_kinds, b_along, b_left, b_right, b_order, b_number) → wY_commit_47 post (d + 1) (nI i) (nI L) (nI s) g_mode g_from g_to g_clauses g_masked a_kinds b_sets wy a_stepKind a_stepEntity b_attributes a_stepValue a_stepOther b_seen b_reach b_kinds b_along b_left b_right b_order b_number)) ∨
    (∃ (wx' wy' : Nat → Int32), fc_WR wx' wy' ∧ fc_FR n0 wy' ≤ s ∧ (∀ post : Int32 → SX → Prop, (∃ n, wX_commit_98 post n 0 0 (nI (L + 1)) f_kept 0 f_mode f_since f_until f_clauses f_levels f_asked f_level f_assigned f_bounded a_kinds a_keptEntity a_keptAttribute a_keptValue a_came a_went a_now wx' a_stepKind a_stepEntity a_stepAttribute a_stepValue a_stepOther a_row a_column a_reach a_clauseKind a_clauseAttribute a_left a_right a_order a_rest a_number a_bound) → wX_commit_39 post (d + 1) (nI i) (nI L) f_kept (nI s) f_mode f_since f_until f_clauses f_levels f_asked f_level f_assigned f_bounded a_kinds a_keptEntity a_keptAttribute a_keptValue a_came a_went a_now wx a_stepKind a_stepEntity a_stepAttribute a_stepValue a_stepOther a_row a_column a_reach a_clauseKind a_clauseAttribute a_left a_right a_order a_rest a_number a_bound) ∧
      (∀ post : Int32 → SY → Prop, (∃ n, wY_commit_97 post (nI (L + 1)) (nI s) g_mode g_from g_to g_clauses g_masked n 0 0 a_kinds b_sets wy' a_stepKind a_stepEntity b_attributes a_stepValue a_stepOther b_seen b_reach b_kinds b_along b_left b_right b_order b_number) → wY_commit_47 post (d + 1) (nI i) (nI L) (nI s) g_mode g_from g_to g_clauses g_masked a_kinds b_sets wy a_stepKind a_stepEntity b_attributes a_stepValue a_stepOther b_seen b_reach b_kinds b_along b_left b_right b_order b_number)) := by
  have hs10 := hs.1
  intro d
  induction d with
  | zero =>
    intro i wx wy hi hW hF
    have e : i = s := by omega
    subst e
    exact Or.inr ⟨wx, wy, hW, hF, fun post h => br_t (nI_le (by omega) (by omega)) (nm_r (nI_1 L) h), fun post h => br_t (nI_le (by omega) (by omega)) (nm_r (nI_1 L) h)⟩
  | succ d ih =>
    intro i wx wy hi hW hF
    obtain ⟨r, wx1, wy1, h01, hw1, hr1, hX, hY⟩ := fc_step (i := i) hs (by omega) hW (f_latest := nI L) (f_kept := f_kept) (f_steps := nI s) (f_mode := f_mode) (f_since := f_since) (f_until := f_until) (f_clauses := f_clauses) (f_levels := f_levels) (f_asked := f_asked) (f_level := f_level) (f_assigned := f_assigned) (f_bounded := f_bounded) (a_kinds := a_kinds) (a_keptEntity := a_keptEntity) (a_keptAttribute := a_keptAttribute) (a_keptValue := a_keptValue) (a_came := a_came) (a_went := a_went) (a_now := a_now) (a_row := a_row) (a_column := a_column) (a_reach := a_reach) (a_clauseKind := a_clauseKind) (a_clauseAttribute := a_clauseAttribute) (a_left := a_left) (a_right := a_right) (a_order := a_order) (a_rest := a_rest) (a_number := a_number) (a_bound := a_bound) (g_latest := nI L) (g_steps := nI s) (g_mode := g_mode) (g_from := g_from) (g_to := g_to) (g_clauses := g_clauses) (g_masked := g_masked) (b_sets := b_sets) (b_seen := b_seen) (b_reach := b_reach) (b_kinds := b_kinds) (b_along := b_along) (b_left := b_left) (b_right := b_right) (b_order := b_order) (b_number := b_number)
    have nf : ¬ nI s ≤ nI i := nI_ge (by omega) (by omega)
    rcases h01 with rfl | rfl
    · exact Or.inl ⟨-10 - nI i, wx1, wy1, fun post h => br_f nf (hX _ (fc_wfX hw1 (br_t rfl h))), fun post h => br_f nf (hY _ (br_t rfl h))⟩
    · obtain ⟨hW1, hF1⟩ := hr1 rfl
      have ecnt : fl_sm (fun p => fl_pc (wx1 p)) 72 = fl_sm (fun p => fl_pc (wy1 p)) 72 := fl_sm_tr fun e a he ha => by rw [hW1.1 e a he ha]
      have hbd : fl_sm (fun p => fl_pc (wy1 p)) 72 ≤ 1440 := by
        have h : fl_sm (fun p => fl_pc (wy1 p)) 72 ≤ fl_sm (fun _ => 20) 72 := fl_sm_le fun p _ => fl_pc_le _
        rw [fl_sm_const] at h; omega
      by_cases h48 : fl_sm (fun p => fl_pc (wy1 p)) 72 ≤ 48
      · have c48 : nI (fl_sm (fun p => fl_pc (wy1 p)) 72) ≤ 48 := nI_le (b := 48) h48 (by omega)
        rcases ih (i + 1) wx1 wy1 (by omega) hW1 (by have := hF1 n0; omega) with ⟨r', wx', wy', kX, kY⟩ | ⟨wx', wy', kW, kF, kX, kY⟩
        · refine Or.inl ⟨r', wx', wy', fun post h => br_f nf (hX _ (fc_wfX hw1 (br_f fk_10 (br_t ?_ (nm_r (nI_1 i) (kX post h)))))), fun post h => br_f nf (hY _ (br_f fk_10 (fc_cwY (br_t c48 (nm_r (nI_1 i) (kY post h))))))⟩
          rw [ecnt]; exact c48
        · refine Or.inr ⟨wx', wy', kW, kF, fun post h => br_f nf (hX _ (fc_wfX hw1 (br_f fk_10 (br_t ?_ (nm_r (nI_1 i) (kX post h)))))), fun post h => br_f nf (hY _ (br_f fk_10 (fc_cwY (br_t c48 (nm_r (nI_1 i) (kY post h))))))⟩
          rw [ecnt]; exact c48
      · have c48 : ¬ nI (fl_sm (fun p => fl_pc (wy1 p)) 72) ≤ 48 := nI_ge (a := 48) (by omega) (by omega)
        refine Or.inl ⟨-10 - nI i, wx1, wy1, fun post h => br_f nf (hX _ (fc_wfX hw1 (br_f fk_10 (br_f ?_ h)))), fun post h => br_f nf (hY _ (br_f fk_10 (fc_cwY (br_f c48 h))))⟩
        rw [ecnt]; exact c48
end
/-- presence while the new version is settled up to place q -/
def fc_P (L q : Nat) (P0 : Nat → Nat → Nat → Nat → Prop) (wx n0 : Nat → Int32) (w e a v : Nat) : Prop :=
  if w ≤ L then P0 w e a v else bt (if 20 * (12 * a + e) + v < q then wx (12 * a + e) else n0 (12 * a + e)) v = true
theorem fc_P_lo {L q w e a v : Nat} {P0 : Nat → Nat → Nat → Nat → Prop} {wx n0 : Nat → Int32} (h : w ≤ L) : fc_P L q P0 wx n0 w e a v ↔ P0 w e a v := by unfold fc_P; rw [if_pos h]
theorem fc_P_n {L q e a v : Nat} {P0 : Nat → Nat → Nat → Nat → Prop} {wx n0 : Nat → Int32} (h : q ≤ 20 * (12 * a + e) + v) : fc_P L q P0 wx n0 (L + 1) e a v ↔ bt (n0 (12 * a + e)) v = true := by unfold fc_P; rw [if_neg (by omega), if_neg (by omega)]
theorem fc_P_w {L q e a v : Nat} {P0 : Nat → Nat → Nat → Nat → Prop} {wx n0 : Nat → Int32} (h : 20 * (12 * a + e) + v < q) : fc_P L q P0 wx n0 (L + 1) e a v ↔ bt (wx (12 * a + e)) v = true := by unfold fc_P; rw [if_neg (by omega), if_pos h]
theorem fc_P_s {L q w e a v e' a' v' : Nat} {P0 : Nat → Nat → Nat → Nat → Prop} {wx n0 : Nat → Int32} (he : e < 12) (ha : a < 6) (hv : v < 20) (he' : e' < 12) (ha' : a' < 6) (hv' : v' < 20) (hq : q = 20 * (12 * a + e) + v) (hn : ¬ (w = L + 1 ∧ e' = e ∧ a' = a ∧ v' = v)) (hw : w ≤ L + 1) : fc_P L q P0 wx n0 w e' a' v' ↔ fc_P L (q + 1) P0 wx n0 w e' a' v' := by
  rcases Nat.lt_or_ge L w with z | z
  · have e1 : w = L + 1 := by omega
    subst e1
    rcases Nat.lt_or_ge (20 * (12 * a' + e') + v') q with y | y
    · rw [fc_P_w y, fc_P_w (by omega)]
    · rw [fc_P_n y, fc_P_n (by omega)]
  · rw [fc_P_lo z, fc_P_lo z]
/-- fresh facts ahead of place q -/
def fc_fn (wx n0 : Nat → Int32) (q : Nat) : Nat := fl_sm (fun t => (bt (wx (t / 20) &&& (n0 (t / 20) ^^^ (-1))) (t % 20)).toNat) q
theorem fc_fn_all (wx n0 : Nat → Int32) : fc_fn wx n0 1440 = fl_sm (fun p => fl_pc (wx p &&& (n0 p ^^^ (-1)))) 72 := by
  have h : fc_fn wx n0 1440 = _ := fl_sm_split _ 20 72
  rw [h]
  refine fl_sm_eq fun p _ => ?_
  unfold fl_pc
  refine fl_sm_eq fun j hj => ?_
  rw [show (20 * p + j) / 20 = p by omega, show (20 * p + j) % 20 = j by omega]
theorem fc_fn_s {wx n0 : Nat → Int32} {q : Nat} : fc_fn wx n0 (q + 1) = fc_fn wx n0 q + (bt (wx (q / 20) &&& (n0 (q / 20) ^^^ (-1))) (q % 20)).toNat := rfl
def fc_SS (L q K : Nat) (P0 : Nat → Nat → Nat → Nat → Prop) (wx n0 a_ke a_ka a_kv a_came a_went : Nat → Int32) : Prop :=
  K ≤ 10 * L + fc_fn wx n0 q ∧ (fr_N a_ke K ∧ fr_N a_ka K ∧ fr_N a_kv K ∧ fr_N a_came K ∧ fr_N a_went K) ∧
  fr_Sto (L + 1) K (fr_n a_ke) (fr_n a_ka) (fr_n a_kv) (fr_n a_came) (fr_n a_went) (fc_P L q P0 wx n0)
section
variable {L q K e a v : Nat} {P0 : Nat → Nat → Nat → Nat → Prop} {wx n0 a_ke a_ka a_kv a_came a_went : Nat → Int32}
theorem fc_SS_same (he : e < 12) (ha : a < 6) (hv : v < 20) (hq : q = 20 * (12 * a + e) + v) (h : fc_SS L q K P0 wx n0 a_ke a_ka a_kv a_came a_went) (hb : bt (n0 (12 * a + e)) v = bt (wx (12 * a + e)) v) : fc_SS L (q + 1) K P0 wx n0 a_ke a_ka a_kv a_came a_went := by
  refine ⟨by have := h.1; rw [fc_fn_s]; omega, h.2.1, fc_congr h.2.2 fun w e' a' v' hw he' ha' hv' => ?_⟩
  by_cases hc : w = L + 1 ∧ e' = e ∧ a' = a ∧ v' = v
  · obtain ⟨rfl, rfl, rfl, rfl⟩ := hc
    rw [fc_P_n (by omega), fc_P_w (by omega), hb]
  · exact fc_P_s he ha hv he' ha' hv' hq hc hw
theorem fc_SS_gone {i : Nat} (hL : L ≤ 23) (he : e < 12) (ha : a < 6) (hv : v < 20) (hq : q = 20 * (12 * a + e) + v) (h : fc_SS L q K P0 wx n0 a_ke a_ka a_kv a_came a_went) (hp : P0 L e a v) (hb : bt (wx (12 * a + e)) v = false) (hi : i < K) (o1 : a_went i = 99) (o2 : a_ke i = nI e) (o3 : a_ka i = nI a) (o4 : a_kv i = nI v) :
    fc_SS L (q + 1) K P0 wx n0 a_ke a_ka a_kv a_came (upd a_went i (nI (L + 1))) := by
  obtain ⟨h1, ⟨n1, n2, n3, n4, n5⟩, hS⟩ := h
  refine ⟨by rw [fc_fn_s]; omega, ⟨n1, n2, n3, n4, fc_N_upd (by omega) n5⟩, ?_⟩
  rw [fc_n_upd (by omega)]
  refine fc_close (by omega) hS hi (fm_n_eq (x := 99) (by omega) o1) (fm_n_eq (by omega) o2) (fm_n_eq (by omega) o3) (fm_n_eq (by omega) o4) ?_ ?_ (fun w e' a' v' hw he' ha' hv' hc => fc_P_s he ha hv he' ha' hv' hq hc hw)
  · rw [fc_P_lo (by omega)]; exact hp
  · rw [fc_P_w (by omega), hb]; decide
theorem fc_SS_fresh (hL : L ≤ 23) (he : e < 12) (ha : a < 6) (hv : v < 20) (hq : q = 20 * (12 * a + e) + v) (h : fc_SS L q K P0 wx n0 a_ke a_ka a_kv a_came a_went) (hp : ¬ P0 L e a v) (hb0 : bt (n0 (12 * a + e)) v = false) (hb : bt (wx (12 * a + e)) v = true) :
    fc_SS L (q + 1) (K + 1) P0 wx n0 (upd a_ke K (nI e)) (upd a_ka K (nI a)) (upd a_kv K (nI v)) (upd a_came K (nI (L + 1))) (upd a_went K 99) := by
  obtain ⟨h1, ⟨n1, n2, n3, n4, n5⟩, hS⟩ := h
  refine ⟨?_, ⟨fc_N_push (by omega) n1, fc_N_push (by omega) n2, fc_N_push (by omega) n3, fc_N_push (by omega) n4, fc_N_push (x := 99) (by omega) n5⟩, ?_⟩
  · have e1 : q / 20 = 12 * a + e := by omega
    have e2 : q % 20 = v := by omega
    rw [fc_fn_s, e1, e2, b_and, fl_not _ (by omega), hb, hb0]
    simp; omega
  · rw [fc_n_upd (by omega), fc_n_upd (by omega), fc_n_upd (by omega), fc_n_upd (by omega), show upd a_went K 99 = upd a_went K (nI 99) from rfl, fc_n_upd (by omega)]
    refine fc_begin (by omega) (by omega) hS he ha hv ?_ ?_ ?_ (fun w e' a' v' hw he' ha' hv' hc => fc_P_s he ha hv he' ha' hv' hq hc hw)
    · rw [fc_P_lo (by omega)]; exact hp
    · rw [fc_P_n (by omega), hb0]; decide
    · rw [fc_P_w (by omega), hb]
theorem fc_SS_open (hL : L ≤ 23) (he : e < 12) (ha : a < 6) (hv : v < 20) (hq : q = 20 * (12 * a + e) + v) (h : fc_SS L q K P0 wx n0 a_ke a_ka a_kv a_came a_went) (hb : bt (n0 (12 * a + e)) v = true) :
    ∃ i, i < K ∧ a_went i = 99 ∧ a_ke i = nI e ∧ a_ka i = nI a ∧ a_kv i = nI v := by
  obtain ⟨h1, ⟨n1, n2, n3, n4, n5⟩, s1, s2, s3, s4⟩ := h
  obtain ⟨i, hi, q1, q2, q3, q4, q5⟩ := (s2 (L + 1) e a v (Nat.le_refl _) he ha hv).mp ((fc_P_n (by omega)).mpr hb)
  obtain ⟨r1, r2, r3, r4, r5, r6⟩ := s1 i hi
  refine ⟨i, hi, ?_, ?_, ?_, ?_⟩
  · rw [n5 i hi, show fr_n a_went i = 99 by omega]; rfl
  · rw [n1 i hi, q1]
  · rw [n2 i hi, q2]
  · rw [n3 i hi, q3]
end
section
variable {f_latest f_kept f_steps f_mode f_since f_until f_clauses f_levels f_asked f_level f_assigned f_bounded : Int32} {a_kinds a_keptEntity a_keptAttribute a_keptValue a_came a_went a_now a_work a_stepKind a_stepEntity a_stepAttribute a_stepValue a_stepOther a_row a_column a_reach a_clauseKind a_clauseAttribute a_left a_right a_order a_rest a_number a_bound : Nat → Int32}
variable {L K e a : Nat} {P0 : Nat → Nat → Nat → Nat → Prop} {wx n0 : Nat → Int32}
theorem fc_settle {post : Int32 → SX → Prop} (hL : L ≤ 23) (he : e < 12) (ha : a < 6) (hF : fc_fn wx n0 1440 ≤ 10) (w1 : fl_w 20 (wx (12 * a + e))) (w2 : fl_w 20 (n0 (12 * a + e))) (hn : a_now (12 * a + e) = n0 (12 * a + e)) (hP : ∀ v, v < 20 → (P0 L e a v ↔ bt (n0 (12 * a + e)) v = true))
    (hSS : fc_SS L (20 * (12 * a + e)) K P0 wx n0 a_keptEntity a_keptAttribute a_keptValue a_came a_went)
    (h : ∀ K' ke ka kv kc kw, fc_SS L (20 * (12 * a + e) + 20) K' P0 wx n0 ke ka kv kc kw → post (nI (fl_pc (n0 (12 * a + e) &&& (wx (12 * a + e) ^^^ (-1))) + fl_pc (wx (12 * a + e) &&& (n0 (12 * a + e) ^^^ (-1))))) (nI (L + 1), nI K', f_steps, f_mode, f_since, f_until, f_clauses, f_levels, f_asked, f_level, f_assigned, f_bounded, a_kinds, ke, ka, kv, kc, kw, upd a_now (12 * a + e) (wx (12 * a + e)), wx, a_stepKind, a_stepEntity, a_stepAttribute, a_stepValue, a_stepOther, a_row, a_column, a_reach, a_clauseKind, a_clauseAttribute, a_left, a_right, a_order, a_rest, a_number, a_bound)) :
    wpX_settle post (nI (L + 1), nI K, f_steps, f_mode, f_since, f_until, f_clauses, f_levels, f_asked, f_level, f_assigned, f_bounded, a_kinds, a_keptEntity, a_keptAttribute, a_keptValue, a_came, a_went, a_now, wx, a_stepKind, a_stepEntity, a_stepAttribute, a_stepValue, a_stepOther, a_row, a_column, a_reach, a_clauseKind, a_clauseAttribute, a_left, a_right, a_order, a_rest, a_number, a_bound) (nI (12 * a + e)) := by
  have i72 : vp_in (nI (12 * a + e)) 72 := vp_in_nI (by omega) (by omega)
  have key : ∀ d v K' ke ka kv kc kw, v + d = 20 → fc_SS L (20 * (12 * a + e) + v) K' P0 wx n0 ke ka kv kc kw → wX_settle_47 post (nI (12 * a + e)) (n0 (12 * a + e) &&& (wx (12 * a + e) ^^^ (-1))) (wx (12 * a + e) &&& (n0 (12 * a + e) ^^^ (-1))) (nI e) (nI a) (d + 1) (nI v) (nI (L + 1)) (nI K') f_steps f_mode f_since f_until f_clauses f_levels f_asked f_level f_assigned f_bounded a_kinds ke ka kv kc kw a_now wx a_stepKind a_stepEntity a_stepAttribute a_stepValue a_stepOther a_row a_column a_reach a_clauseKind a_clauseAttribute a_left a_right a_order a_rest a_number a_bound := by
    intro d
    induction d with
    | zero =>
      intro v K' ke ka kv kc kw hv hS
      have e20 : v = 20 := by omega
      subst e20
      refine br_t (nI_le (a := 20) (by omega) (by omega)) ⟨i72, i72, nm_r (e' := upd a_now (12 * a + e) (wx (12 * a + e))) ?_ (fl_ones (fl_w_and w2) (fl_ones (fl_w_and w1) ?_))⟩
      · rw [nI_clamp (by omega)]
      · rw [nI_add]
        exact h K' ke ka kv kc kw hS
    | succ d ih =>
      intro v K' ke ka kv kc kw hv hS
      have hK : K' ≤ 240 := by
        have h1 := hS.1
        have h2 := fl_sm_mono (fun t => (bt (wx (t / 20) &&& (n0 (t / 20) ^^^ (-1))) (t % 20)).toNat) (a := 20 * (12 * a + e) + v) (b := 1440) (by omega)
        unfold fc_fn at h1 hF
        omega
      refine br_f (nI_ge (b := 20) (by omega) (by omega)) ?_
      have bg : bt (n0 (12 * a + e) &&& (wx (12 * a + e) ^^^ (-1))) v = (bt (n0 (12 * a + e)) v && !bt (wx (12 * a + e)) v) := by rw [b_and, fl_not _ (by omega)]
      have bf : bt (wx (12 * a + e) &&& (n0 (12 * a + e) ^^^ (-1))) v = (bt (wx (12 * a + e)) v && !bt (n0 (12 * a + e)) v) := by rw [b_and, fl_not _ (by omega)]
      cases hbn : bt (n0 (12 * a + e)) v
      · have hg : bt (n0 (12 * a + e) &&& (wx (12 * a + e) ^^^ (-1))) v = false := by rw [bg, hbn]; rfl
        refine fl_br1 v (by omega) (fun z => by rw [hg] at z; exact absurd z (by decide)) (fun _ => ?_)
        cases hbw : bt (wx (12 * a + e)) v
        · have hf : bt (wx (12 * a + e) &&& (n0 (12 * a + e) ^^^ (-1))) v = false := by rw [bf, hbw]; rfl
          exact fl_br1 v (by omega) (fun z => by rw [hf] at z; exact absurd z (by decide)) (fun _ => nm_r (nI_1 v) (ih (v + 1) K' ke ka kv kc kw (by omega) (fc_SS_same he ha (by omega) rfl hS (by rw [hbn, hbw]))))
        · have hf : bt (wx (12 * a + e) &&& (n0 (12 * a + e) ^^^ (-1))) v = true := by rw [bf, hbw, hbn]; rfl
          have hnext := fc_SS_fresh hL he ha (by omega) rfl hS (fun z => by rw [hP v (by omega), hbn] at z; exact absurd z (by decide)) hbn hbw
          have hK2 : K' < 240 := by
            have h1 := hnext.1
            have h2 := fl_sm_mono (fun t => (bt (wx (t / 20) &&& (n0 (t / 20) ^^^ (-1))) (t % 20)).toNat) (a := 20 * (12 * a + e) + v + 1) (b := 1440) (by omega)
            unfold fc_fn at h1 hF
            omega
          have hin : vp_in (nI K') 240 := vp_in_nI hK2 (by omega)
          refine fl_br1 v (by omega) (fun _ => ?_) (fun z => by rw [hf] at z; exact absurd z (by decide))
          exact ⟨hin, nm_r (fk_ucl (by omega)) ⟨hin, nm_r (fk_ucl (by omega)) ⟨hin, nm_r (fk_ucl (by omega)) ⟨hin, nm_r (fk_ucl (by omega)) ⟨hin, nm_r (fk_ucl (by omega)) (nm_r (nI_1 K') (nm_r (nI_1 v) (ih (v + 1) (K' + 1) _ _ _ _ _ (by omega) hnext)))⟩⟩⟩⟩⟩
      · cases hbw : bt (wx (12 * a + e)) v
        · have hg : bt (n0 (12 * a + e) &&& (wx (12 * a + e) ^^^ (-1))) v = true := by rw [bg, hbn, hbw]; rfl
          have hf : bt (wx (12 * a + e) &&& (n0 (12 * a + e) ^^^ (-1))) v = false := by rw [bf, hbw]; rfl
          refine fl_br1 v (by omega) (fun _ => ?_) (fun z => by rw [hg] at z; exact absurd z (by decide))
          refine fm_open hK (fun i hi o1 o2 o3 o4 => br_f (nI_pos (by omega)) ⟨vp_in_nI (by omega) (by omega), nm_r (fk_ucl (by omega)) (fl_br1 v (by omega) (fun z => by rw [hf] at z; exact absurd z (by decide)) (fun _ => nm_r (nI_1 v) (ih (v + 1) K' _ _ _ _ _ (by omega) (fc_SS_gone hL he ha (by omega) rfl hS ((hP v (by omega)).mpr hbn) hbw hi o1 o2 o3 o4))))⟩) (fun hno => absurd (fc_SS_open hL he ha (by omega) rfl hS hbn) hno)
        · have hg : bt (n0 (12 * a + e) &&& (wx (12 * a + e) ^^^ (-1))) v = false := by rw [bg, hbn, hbw]; rfl
          have hf : bt (wx (12 * a + e) &&& (n0 (12 * a + e) ^^^ (-1))) v = false := by rw [bf, hbw, hbn]; rfl
          refine fl_br1 v (by omega) (fun z => by rw [hg] at z; exact absurd z (by decide)) (fun _ => ?_)
          exact fl_br1 v (by omega) (fun z => by rw [hf] at z; exact absurd z (by decide)) (fun _ => nm_r (nI_1 v) (ih (v + 1) K' ke ka kv kc kw (by omega) (fc_SS_same he ha (by omega) rfl hS (by rw [hbn, hbw]))))
  have er : nI (12 * a + e) - nI (12 * a + e) / 12 * 12 = nI e := (pk_rem (d := 12) (by omega) (by omega) (by omega)).trans (congrArg nI (by omega))
  have ed : nI (12 * a + e) / 12 = nI a := (pk_div (d := 12) (by omega) (by omega) (by omega)).trans (congrArg nI (by omega))
  refine ⟨i72, i72, nm_r (e' := n0 (12 * a + e) &&& (wx (12 * a + e) ^^^ (-1))) ?_ ⟨i72, i72, nm_r (e' := wx (12 * a + e) &&& (n0 (12 * a + e) ^^^ (-1))) ?_ ⟨by decide, nm_r er ⟨by decide, nm_r ed ⟨_, key 20 0 K _ _ _ _ _ rfl hSS⟩⟩⟩⟩⟩
  · rw [nI_clamp (by omega), hn]
  · rw [nI_clamp (by omega), hn]
end
end
section
/-! commit -/
/-- the reference's versions with the first p sets of the new one -/
def fc_sets (L : Nat) (wy S : Nat → Int32) (p : Nat) : Nat → Int32 := fun q => if 72 * (L + 1) ≤ q ∧ q < 72 * (L + 1) + p then wy (q - 72 * (L + 1)) else S q
theorem fc_sets_0 (L : Nat) (wy S : Nat → Int32) : fc_sets L wy S 0 = S := by
  funext q
  unfold fc_sets
  rw [if_neg (by omega)]
theorem fc_sets_s (L : Nat) (wy S : Nat → Int32) (p : Nat) : upd (fc_sets L wy S p) (72 * (L + 1) + p) (wy p) = fc_sets L wy S (p + 1) := by
  funext q
  by_cases h : q = 72 * (L + 1) + p
  · subst h
    rw [pk_us]
    unfold fc_sets
    rw [if_pos (by omega), Nat.add_sub_cancel_left]
  · rw [pk_un h]
    unfold fc_sets
    by_cases h2 : 72 * (L + 1) ≤ q ∧ q < 72 * (L + 1) + p
    · rw [if_pos h2, if_pos (by omega)]
    · rw [if_neg h2, if_neg (by omega)]
theorem fc_sets_lo {L p q : Nat} {wy S : Nat → Int32} (h : q < 72 * (L + 1)) : fc_sets L wy S p q = S q := by unfold fc_sets; rw [if_neg (by omega)]
theorem fc_sets_hi {L p q : Nat} {wy S : Nat → Int32} (h : q < p) : fc_sets L wy S p (72 * (L + 1) + q) = wy q := by unfold fc_sets; rw [if_pos (by omega), Nat.add_sub_cancel_left]
def fc_w0 (L : Nat) (S w : Nat → Int32) : Nat → Int32 := fun p => if p < 72 then S (72 * L + p) else w p
section
variable {g_latest g_steps g_mode g_from g_to g_clauses g_masked : Int32} {b_attributeKinds b_sets b_work b_sorts b_entities b_attributes b_values b_others b_seen b_reach b_kinds b_along b_left b_right b_order b_number : Nat → Int32}
variable {L : Nat} {wy S : Nat → Int32}
theorem fc_97 {post : Int32 → SY → Prop} (hL : L ≤ 23) (h : post (nI (fl_sm (fun p => fl_pc (wy p ^^^ S (72 * L + p))) 72)) (nI (L + 1), 0, 0, 0, nI (L + 1), g_clauses, g_masked, b_attributeKinds, fc_sets L wy S 72, wy, b_sorts, b_entities, b_attributes, b_values, b_others, b_seen, b_reach, b_kinds, b_along, b_left, b_right, b_order, b_number)) :
    ∃ n, wY_commit_97 post (nI (L + 1)) g_steps g_mode g_from g_to g_clauses g_masked n 0 0 b_attributeKinds S wy b_sorts b_entities b_attributes b_values b_others b_seen b_reach b_kinds b_along b_left b_right b_order b_number := by
  have e1 : 72 * nI (L + 1) = nI (72 * (L + 1)) := pk_mul 72 (L + 1)
  have e2 : nI (72 * (L + 1)) - 72 = nI (72 * L) := (pk_sub (b := 72) (by omega)).trans (congrArg nI (by omega))
  have key : ∀ d p, p + d = 72 → wY_commit_97 post (nI (L + 1)) g_steps g_mode g_from g_to g_clauses g_masked (d + 1) (nI (fl_sm (fun p => fl_pc (wy p ^^^ S (72 * L + p))) p)) (nI p) b_attributeKinds (fc_sets L wy S p) wy b_sorts b_entities b_attributes b_values b_others b_seen b_reach b_kinds b_along b_left b_right b_order b_number := by
    intro d
    induction d with
    | zero =>
      intro p hp
      have e : p = 72 := by omega
      subst e
      exact br_t (nI_le (a := 72) (by omega) (by omega)) h
    | succ d ih =>
      intro p hp
      refine br_f (nI_ge (b := 72) (by omega) (by omega)) ?_
      rw [e1, e2, nI_add, nI_add, fk_cl (f := wy) (n := p) (by omega), fk_cl (f := fc_sets L wy S p) (n := 72 * L + p) (by omega), fk_ucl (f := fc_sets L wy S p) (n := 72 * (L + 1) + p) (by omega), fc_sets_s, fc_sets_lo (by omega)]
      exact ⟨vp_in_nI (by omega) (by omega), vp_in_nI (by omega) (by omega), nm_e (fl_onesY _ (nm_r (nI_add _ _) ⟨vp_in_nI (by omega) (by omega), vp_in_nI (by omega) (by omega), nm_e (nm_r (nI_1 p) (ih (p + 1) (by omega)))⟩))⟩
  have h0 := key 72 0 rfl
  rw [fc_sets_0] at h0
  exact ⟨_, h0⟩
theorem fc_13Y {post : Int32 → SY → Prop} (hL : L ≤ 23) (h : ∃ n, wY_commit_47 post n 0 (nI L) g_steps g_mode g_from g_to g_clauses g_masked b_attributeKinds b_sets (fc_w0 L b_sets b_work) b_sorts b_entities b_attributes b_values b_others b_seen b_reach b_kinds b_along b_left b_right b_order b_number) : ∃ n, wY_commit_13 post (nI L) g_steps g_mode g_from g_to g_clauses g_masked n 0 b_attributeKinds b_sets b_work b_sorts b_entities b_attributes b_values b_others b_seen b_reach b_kinds b_along b_left b_right b_order b_number := by
  have key : ∀ d p w', p + d = 72 → (∀ q, q < p → w' q = b_sets (72 * L + q)) → (∀ q, p ≤ q → w' q = b_work q) → wY_commit_13 post (nI L) g_steps g_mode g_from g_to g_clauses g_masked (d + 1) (nI p) b_attributeKinds b_sets w' b_sorts b_entities b_attributes b_values b_others b_seen b_reach b_kinds b_along b_left b_right b_order b_number := by
    intro d
    induction d with
    | zero =>
      intro p w' hp hq hq2
      have e : p = 72 := by omega
      subst e
      have ew : w' = fc_w0 L b_sets b_work := by
        funext q
        unfold fc_w0
        by_cases hz : q < 72
        · rw [if_pos hz]; exact hq q hz
        · rw [if_neg hz]; exact hq2 q (by omega)
      rw [ew]
      exact br_t (nI_le (a := 72) (by omega) (by omega)) h
    | succ d ih =>
      intro p w' hp hq hq2
      refine br_f (nI_ge (b := 72) (by omega) (by omega)) ?_
      rw [fv_i72, fk_cl (f := b_sets) (n := 72 * L + p) (by omega), fk_ucl (f := w') (n := p) (by omega)]
      refine ⟨vp_in_nI (by omega) (by omega), vp_in_nI (by omega) (by omega), nm_e (nm_r (nI_1 p) (ih (p + 1) _ (by omega) (fun q hqp => ?_) (fun q hqp => ?_)))⟩
      · by_cases hz : q = p
        · subst hz; rw [pk_us]
        · rw [pk_un hz]; exact hq q (by omega)
      · rw [pk_un (by omega)]; exact hq2 q (by omega)
  exact ⟨_, key 72 0 b_work rfl (fun q hq => absurd hq (by omega)) (fun q _ => rfl)⟩
end
section
variable {f_latest f_kept f_steps f_mode f_since f_until f_clauses f_levels f_asked f_level f_assigned f_bounded : Int32} {a_kinds a_keptEntity a_keptAttribute a_keptValue a_came a_went a_now a_work a_stepKind a_stepEntity a_stepAttribute a_stepValue a_stepOther a_row a_column a_reach a_clauseKind a_clauseAttribute a_left a_right a_order a_rest a_number a_bound : Nat → Int32}
variable {L K : Nat} {P0 : Nat → Nat → Nat → Nat → Prop} {wx n0 : Nat → Int32}
theorem fc_13X {post : Int32 → SX → Prop} (h : ∀ w', (∀ p, p < 72 → w' p = a_now p) → ∃ n, wX_commit_39 post n 0 f_latest f_kept f_steps f_mode f_since f_until f_clauses f_levels f_asked f_level f_assigned f_bounded a_kinds a_keptEntity a_keptAttribute a_keptValue a_came a_went a_now w' a_stepKind a_stepEntity a_stepAttribute a_stepValue a_stepOther a_row a_column a_reach a_clauseKind a_clauseAttribute a_left a_right a_order a_rest a_number a_bound) : ∃ n, wX_commit_13 post f_latest f_kept f_steps f_mode f_since f_until f_clauses f_levels f_asked f_level f_assigned f_bounded n 0 a_kinds a_keptEntity a_keptAttribute a_keptValue a_came a_went a_now a_work a_stepKind a_stepEntity a_stepAttribute a_stepValue a_stepOther a_row a_column a_reach a_clauseKind a_clauseAttribute a_left a_right a_order a_rest a_number a_bound := by
  have key : ∀ d p w', p + d = 72 → (∀ q, q < p → w' q = a_now q) → wX_commit_13 post f_latest f_kept f_steps f_mode f_since f_until f_clauses f_levels f_asked f_level f_assigned f_bounded (d + 1) (nI p) a_kinds a_keptEntity a_keptAttribute a_keptValue a_came a_went a_now w' a_stepKind a_stepEntity a_stepAttribute a_stepValue a_stepOther a_row a_column a_reach a_clauseKind a_clauseAttribute a_left a_right a_order a_rest a_number a_bound := by
    intro d
    induction d with
    | zero =>
      intro p w' hp hq
      have e : p = 72 := by omega
      subst e
      exact br_t (nI_le (a := 72) (by omega) (by omega)) (h w' hq)
    | succ d ih =>
      intro p w' hp hq
      refine br_f (nI_ge (b := 72) (by omega) (by omega)) ?_
      rw [fk_cl (f := a_now) (n := p) (by omega), fk_ucl (f := w') (n := p) (by omega)]
      refine ⟨vp_in_nI (by omega) (by omega), vp_in_nI (by omega) (by omega), nm_e (nm_r (nI_1 p) (ih (p + 1) _ (by omega) (fun q hqp => ?_)))⟩
      by_cases hz : q = p
      · subst hz; rw [pk_us]
      · rw [pk_un hz]; exact hq q (by omega)
  exact ⟨_, key 72 0 a_work rfl (fun q hq => absurd hq (by omega))⟩
theorem fc_98 {post : Int32 → SX → Prop} (hL : L ≤ 23) (hF : fc_fn wx n0 1440 ≤ 10) (w1 : ∀ p, p < 72 → fl_w 20 (wx p)) (w2 : ∀ p, p < 72 → fl_w 20 (n0 p)) (hn : ∀ p, p < 72 → a_now p = n0 p) (hP : ∀ e a v, e < 12 → a < 6 → v < 20 → (P0 L e a v ↔ bt (n0 (12 * a + e)) v = true))
    (hSS : fc_SS L 0 K P0 wx n0 a_keptEntity a_keptAttribute a_keptValue a_came a_went)
    (h : ∀ K' ke ka kv kc kw nw row col R, fc_SS L 1440 K' P0 wx n0 ke ka kv kc kw → (∀ p, p < 72 → nw p = wx p) → fv_RC row col (fv_Q K' 0 0 (L + 1) (fr_n ke) (fr_n ka) (fr_n kv) (fr_n kc) (fr_n kw)) → (∀ a x, a < 6 → x < 20 → R (20 * a + x) = fv_cl (fv_r0 row a) 12 x) →
      post (nI (fl_sm (fun p => fl_pc (n0 p &&& (wx p ^^^ (-1))) + fl_pc (wx p &&& (n0 p ^^^ (-1)))) 72)) (nI (L + 1), nI K', f_steps, 0, 0, nI (L + 1), f_clauses, f_levels, f_asked, f_level, f_assigned, f_bounded, a_kinds, ke, ka, kv, kc, kw, nw, wx, a_stepKind, a_stepEntity, a_stepAttribute, a_stepValue, a_stepOther, row, col, R, a_clauseKind, a_clauseAttribute, a_left, a_right, a_order, a_rest, a_number, a_bound)) :
    ∃ n, wX_commit_98 post n 0 0 (nI (L + 1)) (nI K) f_steps f_mode f_since f_until f_clauses f_levels f_asked f_level f_assigned f_bounded a_kinds a_keptEntity a_keptAttribute a_keptValue a_came a_went a_now wx a_stepKind a_stepEntity a_stepAttribute a_stepValue a_stepOther a_row a_column a_reach a_clauseKind a_clauseAttribute a_left a_right a_order a_rest a_number a_bound := by
  have key : ∀ d p K' ke ka kv kc kw nw, p + d = 72 → fc_SS L (20 * p) K' P0 wx n0 ke ka kv kc kw → (∀ q, q < 72 → nw q = if q < p then wx q else n0 q) →
      wX_commit_98 post (d + 1) (nI (fl_sm (fun p => fl_pc (n0 p &&& (wx p ^^^ (-1))) + fl_pc (wx p &&& (n0 p ^^^ (-1)))) p)) (nI p) (nI (L + 1)) (nI K') f_steps f_mode f_since f_until f_clauses f_levels f_asked f_level f_assigned f_bounded a_kinds ke ka kv kc kw nw wx a_stepKind a_stepEntity a_stepAttribute a_stepValue a_stepOther a_row a_column a_reach a_clauseKind a_clauseAttribute a_left a_right a_order a_rest a_number a_bound := by
    intro d
    induction d with
    | zero =>
      intro p K' ke ka kv kc kw nw hp hS hq
      have e : p = 72 := by omega
      subst e
      have hS' := hS
      obtain ⟨h1, ⟨n1, n2, n3, n4, n5⟩, s1, s2, s3, s4⟩ := hS'
      refine br_t (nI_le (a := 72) (by omega) (by omega)) (fv_lay (K := K') (md := 0) (sn := 0) (un := L + 1) (by show K' ≤ 240; have : (20 * 72 : Nat) = 1440 := rfl; rw [this] at h1; omega) (by omega) (by omega) (by omega) (ke := fr_n ke) (ka := fr_n ka) (kv := fr_n kv) (kc := fr_n kc) (kw := fr_n kw) (fun i hi => ?_) (fun row col R k1 k2 => ?_))
      · obtain ⟨r1, r2, r3, r4, r5, r6⟩ := s1 i hi
        exact ⟨⟨n1 i hi, n2 i hi, n3 i hi, n4 i hi, n5 i hi⟩, r1, r2, r3, by omega, by omega⟩
      · exact h K' ke ka kv kc kw nw row col R hS (fun q hq' => by rw [hq q hq', if_pos hq']) k1 k2
    | succ d ih =>
      intro p K' ke ka kv kc kw nw hp hS hq
      refine br_f (nI_ge (b := 72) (by omega) (by omega)) ?_
      obtain ⟨a, e, he, ha, rfl⟩ : ∃ a e, e < 12 ∧ a < 6 ∧ p = 12 * a + e := ⟨p / 12, p % 12, by omega, by omega, by omega⟩
      refine fc_settle hL he ha hF (w1 _ (by omega)) (w2 _ (by omega)) (by rw [hq _ (by omega), if_neg (by omega)]) (fun v hv => hP e a v he ha hv) hS (fun K'' ke' ka' kv' kc' kw' hS' => nm_r (nI_add _ _) (nm_r (nI_1 _) (ih (12 * a + e + 1) K'' ke' ka' kv' kc' kw' _ (by omega) hS' (fun q hq72 => ?_))))
      by_cases hz : q = 12 * a + e
      · subst hz; rw [pk_us, if_pos (by omega)]
      · rw [pk_un hz, hq q hq72]
        by_cases hlt : q < 12 * a + e
        · rw [if_pos hlt, if_pos (by omega)]
        · rw [if_neg hlt, if_neg (by omega)]
  exact ⟨_, key 72 0 K _ _ _ _ _ a_now rfl hSS (fun q hq => by rw [hn q hq, if_neg (by omega)])⟩
end
theorem i_vc_commit {k : Nat} {u : SX} {v : SY} (I : i_Rel k u v) (hk : k + 5 ≤ 2560) : wpX_commit (fun r u' => wpY_commit (fun r' v' => r' = r ∧ i_Rel (k + 5) u' v') v) u := by
  refine fr_el (P := fun u v => wpX_commit (fun r u' => wpY_commit (fun r' v' => r' = r ∧ i_Rel (k + 5) u' v') v) u) I ?_
  intro L K s md sn un C f_levels f_asked f_level f_assigned f_bounded g_masked a_kinds a_keptEntity a_keptAttribute a_keptValue a_came a_went a_now a_work a_stepKind a_stepEntity a_stepAttribute a_stepValue a_stepOther a_row a_column a_reach a_clauseKind a_clauseAttribute a_left a_right a_order a_rest a_number a_bound b_sets b_work b_attributes b_seen b_reach b_along b_order b_number h1 h2 h3 h4
  have h1' := h1
  obtain ⟨hL, hK, hN5, hSto, hw, hn⟩ := h1'
  by_cases hL24 : L < 24
  · refine br_t (nI_lt (b := 24) hL24 (by omega)) (fc_13X (fun wx0 hwx0 => ?_))
    have e0 : ∀ p, p < 72 → fc_w0 L b_sets b_work p = b_sets (72 * L + p) := fun p hp => by unfold fc_w0; rw [if_pos hp]
    have hWR0 : fc_WR wx0 (fc_w0 L b_sets b_work) := by
      refine ⟨fun e a he ha => ?_, fun p hp => by rw [e0 p hp]; exact hw _ (by omega)⟩
      rw [hwx0 _ (by omega), hn e a he ha, e0 _ (by omega), Nat.add_assoc]
    have hFR0 : fc_FR (fun p => b_sets (72 * L + p)) (fc_w0 L b_sets b_work) ≤ 0 := by
      have e1 : fc_FR (fun p => b_sets (72 * L + p)) (fc_w0 L b_sets b_work) = fl_sm (fun _ => 0) 72 := fl_sm_eq fun p hp => by
        have e2 : b_sets (72 * L + p) &&& (b_sets (72 * L + p) ^^^ (-1)) = 0 := b_ext fun i hi => by
          rw [b_and, fl_not _ hi, b_0]; cases bt (b_sets (72 * L + p)) i <;> rfl
        rw [e0 p hp, e2, fl_pc_0]
      rw [e1, fl_sm_const]; omega
    have hYgo : ∀ post : Int32 → SY → Prop, (∃ n, wY_commit_47 post n 0 (nI L) (nI s) (nI md) (nI sn) (nI un) (nI C) g_masked a_kinds b_sets (fc_w0 L b_sets b_work) a_stepKind a_stepEntity b_attributes a_stepValue a_stepOther b_seen b_reach a_clauseKind b_along a_left a_right b_order b_number) → wpY_commit post (nI L, nI s, nI md, nI sn, nI un, nI C, g_masked, a_kinds, b_sets, b_work, a_stepKind, a_stepEntity, b_attributes, a_stepValue, a_stepOther, b_seen, b_reach, a_clauseKind, b_along, a_left, a_right, b_order, b_number) := fun post h => br_f (fun z => absurd ((nI_eq (b := 24) (by omega) (by omega)).mp z) (by omega)) (fc_13Y (by omega) h)
    rcases fc_steps (n0 := fun p => b_sets (72 * L + p)) (L := L) h2 s 0 wx0 (fc_w0 L b_sets b_work) (by omega) hWR0 hFR0 (f_kept := nI K) (f_mode := nI md) (f_since := nI sn) (f_until := nI un) (f_clauses := nI C) (f_levels := f_levels) (f_asked := f_asked) (f_level := f_level) (f_assigned := f_assigned) (f_bounded := f_bounded) (a_kinds := a_kinds) (a_keptEntity := a_keptEntity) (a_keptAttribute := a_keptAttribute) (a_keptValue := a_keptValue) (a_came := a_came) (a_went := a_went) (a_now := a_now) (a_row := a_row) (a_column := a_column) (a_reach := a_reach) (a_clauseKind := a_clauseKind) (a_clauseAttribute := a_clauseAttribute) (a_left := a_left) (a_right := a_right) (a_order := a_order) (a_rest := a_rest) (a_number := a_number) (a_bound := a_bound) (g_mode := nI md) (g_from := nI sn) (g_to := nI un) (g_clauses := nI C) (g_masked := g_masked) (b_sets := b_sets) (b_seen := b_seen) (b_reach := b_reach) (b_kinds := a_clauseKind) (b_along := b_along) (b_left := a_left) (b_right := a_right) (b_order := b_order) (b_number := b_number) with ⟨r, wx', wy', hX, hY⟩ | ⟨wx, wy, hW, hF, hX, hY⟩
    · exact ⟨_, hX _ (hYgo _ ⟨_, hY _ ⟨rfl, fr_in h1 h2 h3 h4⟩⟩)⟩
    · refine ⟨_, hX _ ?_⟩
      have hs10 := h2.1
      have enow : ∀ p, p < 72 → a_now p = b_sets (72 * L + (6 * (p % 12) + p / 12)) := fun p hp => by
        have hh := hn (p % 12) (p / 12) (by omega) (by omega)
        rw [show 12 * (p / 12) + p % 12 = p by omega] at hh
        rw [hh, Nat.add_assoc]
      have etr : fc_fn wx a_now 1440 = fc_FR (fun p => b_sets (72 * L + p)) wy := by
        rw [fc_fn_all]
        unfold fc_FR
        refine fl_sm_tr fun e a he ha => ?_
        rw [hW.1 e a he ha, hn e a he ha, Nat.add_assoc]
      have hP0 : ∀ e a v, e < 12 → a < 6 → v < 20 → ((fun w e a v => bt (b_sets (72 * w + 6 * e + a)) v = true) L e a v ↔ bt (a_now (12 * a + e)) v = true) := fun e a v he ha hv => by
        dsimp only
        rw [hn e a he ha]
      have hSS0 : fc_SS L 0 K (fun w e a v => bt (b_sets (72 * w + 6 * e + a)) v = true) wx a_now a_keptEntity a_keptAttribute a_keptValue a_came a_went := by
        refine ⟨by omega, hN5, fc_up (by omega) hSto (fun w e a v hw' he ha hv => (fc_P_lo (P0 := fun w e a v => bt (b_sets (72 * w + 6 * e + a)) v = true) hw').symm) (fun e a v he ha hv => ?_)⟩
        rw [fc_P_n (by omega)]
        exact hP0 e a v he ha hv
      refine fc_98 (P0 := fun w e a v => bt (b_sets (72 * w + 6 * e + a)) v = true) (n0 := a_now) (by omega) (by omega) (fc_WR_x hW) (fun p hp => by rw [enow p hp]; exact hw _ (by omega)) (fun p _ => rfl) hP0 hSS0 (fun K' ke ka kv kc kw nw row col R' k1 k2 k3 k4 => ?_)
      refine hYgo _ ⟨_, hY _ (fc_97 (by omega) ?_)⟩
      have hV : fr_V (L + 1) K' ke ka kv kc kw nw (fc_sets L wy b_sets 72) := by
        obtain ⟨m1, m2, m3⟩ := k1
        refine ⟨by omega, by omega, m2, fc_congr m3 (fun w e a v hw' he ha hv => ?_), fun p hp => ?_, fun e a he ha => ?_⟩
        · rcases Nat.lt_or_ge L w with z | z
          · have e1 : w = L + 1 := by omega
            subst e1
            rw [fc_P_w (by omega), hW.1 e a he ha, Nat.add_assoc, fc_sets_hi (by omega)]
          · rw [fc_P_lo z, fc_sets_lo (by omega)]
        · rcases Nat.lt_or_ge p (72 * (L + 1)) with z | z
          · rw [fc_sets_lo z]; exact hw p z
          · obtain ⟨q, rfl⟩ := Nat.exists_eq_add_of_le z
            rw [fc_sets_hi (by omega)]
            exact hW.2 q (by omega)
        · rw [k2 _ (by omega), hW.1 e a he ha, Nat.add_assoc, fc_sets_hi (by omega)]
      refine ⟨congrArg nI ?_, fr_in (s := 0) (md := 0) (sn := 0) hV (fr_S_0 (s := 0)) (fv_mkW hV (by omega) (by omega) (by omega) k3 k4) h4⟩
      refine (fl_sm_tr fun e a he ha => ?_).symm
      rw [fc_pcx, hW.1 e a he ha, hn e a he ha, Nat.add_assoc]
  · refine br_f (nI_nlt (b := 24) (by omega) (by omega)) ?_
    exact br_t (show nI L = nI 24 from congrArg nI (by omega)) ⟨rfl, fr_in h1 h2 h3 h4⟩
end
section
/-! a search by levels, in plain numbers: assignments σ, variables in the order o, n of them, the first m asked for -/
def fq_pre (o σ : Nat → Nat) : Nat → Nat
  | 0 => 0
  | l + 1 => 20 * fq_pre o σ l + σ (o l)
/-- the answers that are left from lo on -/
def fq_R (o : Nat → Nat) (n m : Nat) (Q : (Nat → Nat) → Prop) (lo t : Nat) : Prop := ∃ σ : Nat → Nat, (∀ i, i < n → σ (o i) < 20) ∧ Q σ ∧ fq_pre o σ m = t ∧ lo ≤ fq_pre o σ n
/-- the candidates of a level: they depend on the levels ahead alone, and together they are what is asked -/
def fq_CH (o : Nat → Nat) (n : Nat) (Q : (Nat → Nat) → Prop) (CH : Nat → (Nat → Nat) → Nat → Prop) : Prop :=
  (∀ l σ σ' w, l < n → (∀ j, j < l → σ (o j) = σ' (o j)) → (CH l σ w ↔ CH l σ' w)) ∧
  (∀ σ, (∀ i, i < n → σ (o i) < 20) → (Q σ ↔ ∀ i, i < n → CH i σ (σ (o i))))
section
variable {o σ σ' : Nat → Nat} {n m : Nat} {Q : (Nat → Nat) → Prop} {CH : Nat → (Nat → Nat) → Nat → Prop}
theorem fq_pre_eq : ∀ {l : Nat}, (∀ i, i < l → σ (o i) = σ' (o i)) → fq_pre o σ l = fq_pre o σ' l
  | 0, _ => rfl
  | l + 1, h => by
    simp only [fq_pre]
    rw [fq_pre_eq (l := l) (fun i hi => h i (by omega)), h l (by omega)]
theorem fq_pre_lt : ∀ {l : Nat}, (∀ i, i < l → σ (o i) < 20) → fq_pre o σ l < 20 ^ l
  | 0, _ => by simp [fq_pre]
  | l + 1, h => by
    have h1 := fq_pre_lt (l := l) (fun i hi => h i (by omega))
    have h2 := h l (by omega)
    simp only [fq_pre, Nat.pow_succ]
    omega
theorem fq_pre_split {l : Nat} : ∀ {k : Nat}, (∀ i, i < l + k → σ (o i) < 20) → ∃ r, r < 20 ^ k ∧ fq_pre o σ (l + k) = 20 ^ k * fq_pre o σ l + r
  | 0, _ => ⟨0, by simp, by simp⟩
  | k + 1, h => by
    obtain ⟨r, h1, h2⟩ := fq_pre_split (l := l) (k := k) (fun i hi => h i (by omega))
    have h3 := h (l + k) (by omega)
    refine ⟨20 * r + σ (o (l + k)), ?_, ?_⟩
    · rw [Nat.pow_succ]; omega
    · show 20 * fq_pre o σ (l + k) + σ (o (l + k)) = _
      rw [h2, Nat.pow_succ, Nat.mul_add, Nat.mul_comm (20 ^ k) 20, Nat.mul_assoc, Nat.add_assoc]
theorem fq_pre_inj : ∀ {l : Nat}, (∀ i, i < l → σ (o i) < 20) → (∀ i, i < l → σ' (o i) < 20) → fq_pre o σ l = fq_pre o σ' l → ∀ i, i < l → σ (o i) = σ' (o i)
  | 0, _, _, _, i, hi => absurd hi (by omega)
  | l + 1, h1, h2, h, i, hi => by
    simp only [fq_pre] at h
    have a := h1 l (by omega)
    have b := h2 l (by omega)
    by_cases hz : i = l
    · subst hz; omega
    · exact fq_pre_inj (l := l) (fun i hi => h1 i (by omega)) (fun i hi => h2 i (by omega)) (by omega) i (by omega)
theorem fq_between {B X r y : Nat} (hr : r < B) (h1 : B * y ≤ B * X + r) (h2 : B * X + r < B * (y + 1)) : X = y := by
  rcases Nat.lt_trichotomy X y with z | z | z
  · exfalso
    have := Nat.mul_le_mul_left B (show X + 1 ≤ y from z)
    rw [Nat.mul_add, Nat.mul_one] at this
    omega
  · exact z
  · exfalso
    have := Nat.mul_le_mul_left B (show y + 1 ≤ X from z)
    omega
theorem fq_skip {l k j : Nat} (hCH : fq_CH o n Q CH) (hn : n = l + 1 + k) (hσ : ∀ i, i < l → σ (o i) < 20) (hj : j < 20) (hno : ¬ CH l σ j) : fq_R o n m Q (20 ^ k * (20 * fq_pre o σ l + j)) = fq_R o n m Q (20 ^ k * (20 * fq_pre o σ l + (j + 1))) := by
  funext t
  apply propext
  constructor
  · rintro ⟨τ, t1, t2, t3, t4⟩
    refine ⟨τ, t1, t2, t3, ?_⟩
    rcases Nat.lt_or_ge (fq_pre o τ n) (20 ^ k * (20 * fq_pre o σ l + (j + 1))) with z | z
    · exfalso
      obtain ⟨r, r1, r2⟩ := fq_pre_split (o := o) (σ := τ) (l := l + 1) (k := k) (fun i hi => t1 i (by omega))
      rw [← hn] at r2
      rw [r2] at z t4
      have hX := fq_between r1 t4 z
      simp only [fq_pre] at hX
      have hl := t1 l (by omega)
      have e1 : fq_pre o τ l = fq_pre o σ l := by omega
      have e2 : τ (o l) = j := by omega
      have ha := fq_pre_inj (fun i hi => t1 i (by omega)) hσ e1
      have hc := (hCH.2 τ t1).mp t2 l (by omega)
      rw [e2, hCH.1 l τ σ j (by omega) ha] at hc
      exact hno hc
    · exact z
  · rintro ⟨τ, t1, t2, t3, t4⟩
    refine ⟨τ, t1, t2, t3, Nat.le_trans (Nat.mul_le_mul_left _ (by omega)) t4⟩
theorem fq_skips {l k : Nat} (hCH : fq_CH o n Q CH) (hn : n = l + 1 + k) (hσ : ∀ i, i < l → σ (o i) < 20) : ∀ e j, j + e ≤ 20 → (∀ i, j ≤ i → i < j + e → ¬ CH l σ i) → fq_R o n m Q (20 ^ k * (20 * fq_pre o σ l + j)) = fq_R o n m Q (20 ^ k * (20 * fq_pre o σ l + (j + e)))
  | 0, _, _, _ => rfl
  | e + 1, j, hj, h => by
    rw [fq_skip hCH hn hσ (by omega) (h j (by omega) (by omega)), fq_skips hCH hn hσ e (j + 1) (by omega) (fun i h1 h2 => h i (by omega) (by omega)), show j + 1 + e = j + (e + 1) by omega]
theorem fq_end {lo : Nat} (h : 20 ^ n ≤ lo) : fq_R o n m Q lo = fun _ => False := by
  funext t
  apply propext
  constructor
  · rintro ⟨τ, t1, t2, t3, t4⟩
    have := fq_pre_lt t1
    omega
  · exact fun z => z.elim
theorem fq_found {k : Nat} (hn : n = m + k) (hσ : ∀ i, i < n → σ (o i) < 20) (hQ : Q σ) :
    fq_R o n m Q (fq_pre o σ n) (fq_pre o σ m) ∧ (∀ t, fq_R o n m Q (fq_pre o σ n) t → fq_pre o σ m ≤ t) ∧ ¬ fq_R o n m Q (20 ^ k * (fq_pre o σ m + 1)) (fq_pre o σ m) ∧
    (∀ t, t ≠ fq_pre o σ m → (fq_R o n m Q (fq_pre o σ n) t ↔ fq_R o n m Q (20 ^ k * (fq_pre o σ m + 1)) t)) := by
  obtain ⟨r, r1, r2⟩ := fq_pre_split (o := o) (σ := σ) (l := m) (k := k) (fun i hi => hσ i (by omega))
  rw [← hn] at r2
  have hsp : ∀ τ : Nat → Nat, (∀ i, i < n → τ (o i) < 20) → ∃ r, r < 20 ^ k ∧ fq_pre o τ n = 20 ^ k * fq_pre o τ m + r := fun τ hτ => by
    have := fq_pre_split (o := o) (σ := τ) (l := m) (k := k) (fun i hi => hτ i (by omega))
    rw [← hn] at this
    exact this
  have hge : ∀ t, fq_R o n m Q (fq_pre o σ n) t → fq_pre o σ m ≤ t := by
    rintro t ⟨τ, t1, t2, t3, t4⟩
    obtain ⟨s, s1, s2⟩ := hsp τ t1
    rcases Nat.lt_or_ge t (fq_pre o σ m) with z | z
    · exfalso
      have := Nat.mul_le_mul_left (20 ^ k) (show t + 1 ≤ fq_pre o σ m from z)
      rw [Nat.mul_add, Nat.mul_one, ← t3] at this
      omega
    · exact z
  refine ⟨⟨σ, hσ, hQ, rfl, Nat.le_refl _⟩, hge, ?_, fun t ht => ⟨fun hR => ?_, ?_⟩⟩
  · rintro ⟨τ, t1, t2, t3, t4⟩
    obtain ⟨s, s1, s2⟩ := hsp τ t1
    rw [Nat.mul_add, Nat.mul_one, ← t3] at t4
    omega
  · have hlt := hge t hR
    obtain ⟨τ, t1, t2, t3, t4⟩ := hR
    obtain ⟨s, s1, s2⟩ := hsp τ t1
    refine ⟨τ, t1, t2, t3, ?_⟩
    have := Nat.mul_le_mul_left (20 ^ k) (show fq_pre o σ m + 1 ≤ t by omega)
    rw [← t3] at this
    omega
  · rintro ⟨τ, t1, t2, t3, t4⟩
    refine ⟨τ, t1, t2, t3, ?_⟩
    rw [Nat.mul_add, Nat.mul_one] at t4
    omega
theorem fq_R_lt {lo t : Nat} (hm : m ≤ n) (h : fq_R o n m Q lo t) : t < 20 ^ m := by
  obtain ⟨τ, t1, t2, t3, t4⟩ := h
  rw [← t3]
  exact fq_pre_lt fun i hi => t1 i (by omega)
theorem fq_R_mono {lo lo' t : Nat} (hl : lo ≤ lo') (h : fq_R o n m Q lo' t) : fq_R o n m Q lo t := by
  obtain ⟨τ, t1, t2, t3, t4⟩ := h
  exact ⟨τ, t1, t2, t3, by omega⟩
end
/-- rounds so far, at level l with the number p of what is fixed, next candidate j (four levels) -/
def fq_ph (l p j : Nat) : Nat :=
  if l = 0 then 8842 * j else if l = 1 then 442 * (20 * p + j) + 2 * p + 1 else if l = 2 then 22 * (20 * p + j) + 2 * p + 2 * (p / 20) + 2 else (20 * p + j) + 2 * p + 2 * (p / 20) + 2 * (p / 400) + 3
theorem fq_ph_le {l p j : Nat} (hp : p < 20 ^ l) (hl : l < 4) (hj : j ≤ 20) : fq_ph l p j ≤ 176845 := by
  unfold fq_ph
  have : l = 0 ∨ l = 1 ∨ l = 2 ∨ l = 3 := by omega
  rcases this with rfl | rfl | rfl | rfl
  · simp; omega
  · simp at hp ⊢; omega
  · simp at hp ⊢; omega
  · simp at hp ⊢; omega
theorem fq_ph_down {l p j : Nat} (hl : l < 3) (hj : j < 20) (hp : l = 0 → p = 0) : fq_ph l p j < fq_ph (l + 1) (20 * p + j) 0 := by
  unfold fq_ph
  have : l = 0 ∨ l = 1 ∨ l = 2 := by omega
  rcases this with rfl | rfl | rfl
  · simp; have := hp rfl; omega
  · simp; omega
  · simp; omega
theorem fq_ph_up {l p w : Nat} (hl : l < 3) (hw : w < 20) (hp : l = 0 → p = 0) : fq_ph (l + 1) (20 * p + w) 20 < fq_ph l p (w + 1) := by
  unfold fq_ph
  have : l = 0 ∨ l = 1 ∨ l = 2 := by omega
  rcases this with rfl | rfl | rfl
  · simp; have := hp rfl; omega
  · simp; omega
  · simp; omega
theorem fq_ph_j {l p j j' : Nat} (h : j < j') : fq_ph l p j < fq_ph l p j' := by
  unfold fq_ph
  split
  · omega
  · split
    · omega
    · split <;> omega
/-- from a full answer back to level l -/
theorem fq_ph_back {p0 p1 p2 p3 w1 w2 w3 w4 : Nat} (e0 : p0 = 0) (e1 : p1 = 20 * p0 + w1) (e2 : p2 = 20 * p1 + w2) (e3 : p3 = 20 * p2 + w3) (h1 : w1 < 20) (h2 : w2 < 20) (h3 : w3 < 20) (h4 : w4 < 20) :
    fq_ph 3 p3 w4 < fq_ph 0 p0 (w1 + 1) ∧ fq_ph 3 p3 w4 < fq_ph 1 p1 (w2 + 1) ∧ fq_ph 3 p3 w4 < fq_ph 2 p2 (w3 + 1) ∧ fq_ph 3 p3 w4 < fq_ph 3 p3 (w4 + 1) := by
  unfold fq_ph
  simp
  refine ⟨?_, ?_, ?_⟩
  · omega
  · omega
  · omega
end
section
/-! clauses; the reference's paths and checks -/
def fq_h (row reach : Nat → Int32) (k a x y : Nat) : Bool :=
  if k = 0 then (decide (x < 12) && bt (row (12 * a + x)) y) else if k = 1 then !(decide (x < 12) && bt (row (12 * a + x)) y) else if k = 2 then decide (x < y) else if k = 3 then decide (x ≠ y) else bt (reach (20 * a + x)) y
def fq_tv (σ : Nat → Nat) (x : Nat) : Nat := if x < 20 then x else σ (x - 20)
theorem fq_tv_c {σ : Nat → Nat} {x : Nat} (h : x < 20) : fq_tv σ x = x := if_pos h
theorem fq_tv_v {σ : Nat → Nat} {x : Nat} (h : 20 ≤ x) : fq_tv σ x = σ (x - 20) := if_neg (by omega)
/-- the clauses, in plain numbers -/
def fq_K (C : Nat) (qk qa ql qr : Nat → Nat) (a_ck a_ca a_left a_right b_al : Nat → Int32) : Prop := C ≤ 6 ∧ ∀ c, c < C → (qk c ≤ 4 ∧ qa c < 6 ∧ ql c < 24 ∧ qr c < 24) ∧ a_ck c = nI (qk c) ∧ a_ca c = nI (qa c) ∧ a_left c = nI (ql c) ∧ a_right c = nI (qr c) ∧ (qk c ≠ 2 → qk c ≠ 3 → b_al c = nI (qa c))
theorem fq_K_of {C : Nat} {a_ck a_ca a_left a_right b_al : Nat → Int32} (h : fr_C C a_ck a_ca a_left a_right b_al) : fq_K C (fr_n a_ck) (fr_n a_ca) (fr_n a_left) (fr_n a_right) a_ck a_ca a_left a_right b_al := by
  refine ⟨h.1, fun c hc => ?_⟩
  obtain ⟨k, a, x, y, ⟨b1, b2, b3, b4⟩, e1, e2, e3, e4, e5⟩ := h.2 c hc
  have m1 := fm_n_eq (by omega) e1
  have m2 := fm_n_eq (by omega) e2
  have m3 := fm_n_eq (by omega) e3
  have m4 := fm_n_eq (by omega) e4
  rw [m1, m2, m3, m4]
  exact ⟨⟨b1, b2, b3, b4⟩, e1, e2, e3, e4, e5⟩
/-- all four variables, once each -/
def fq_perm (o : Nat → Nat) : Prop := (∀ i, i < 4 → o i < 4) ∧ (∀ i j, i < 4 → j < 4 → o i = o j → i = j) ∧ (∀ k, k < 4 → ∃ i, i < 4 ∧ o i = k)
/-- when a term is known: 0 at once, l + 1 at level l -/
def fq_kf (o : Nat → Nat) (x : Nat) : Nat := if x < 20 then 0 else if o 0 = x - 20 then 1 else if o 1 = x - 20 then 2 else if o 2 = x - 20 then 3 else 4
theorem fq_kf_c {o : Nat → Nat} {x : Nat} (h : x < 20) : fq_kf o x = 0 := by unfold fq_kf; rw [if_pos h]
theorem fq_kf_v {o : Nat → Nat} {x : Nat} (ho : fq_perm o) (h : 20 ≤ x) (h2 : x < 24) : ∃ l, l < 4 ∧ o l = x - 20 ∧ fq_kf o x = l + 1 := by
  unfold fq_kf
  rw [if_neg (by omega)]
  by_cases h0 : o 0 = x - 20
  · exact ⟨0, by omega, h0, by rw [if_pos h0]⟩
  rw [if_neg h0]
  by_cases h1 : o 1 = x - 20
  · exact ⟨1, by omega, h1, by rw [if_pos h1]⟩
  rw [if_neg h1]
  by_cases h3 : o 2 = x - 20
  · exact ⟨2, by omega, h3, by rw [if_pos h3]⟩
  rw [if_neg h3]
  obtain ⟨i, hi, e⟩ := ho.2.2 (x - 20) (by omega)
  have : i = 0 ∨ i = 1 ∨ i = 2 ∨ i = 3 := by omega
  rcases this with rfl | rfl | rfl | rfl
  · exact absurd e h0
  · exact absurd e h1
  · exact absurd e h3
  · exact ⟨3, by omega, e, rfl⟩
theorem fq_m1 (a b c : Int32) : a - b = c ↔ a = c + b := by
  constructor
  · intro h; grind
  · intro h; grind
theorem fq_kd (v : Nat) (hv : v < 100) : (nI v - 1).toInt = (v : Int) - 1 := pk_sub_toInt (b := 1) (by omega) (by omega)
section
variable {f_latest f_kept f_steps f_mode f_since f_until f_clauses f_levels f_asked f_level f_assigned f_bounded : Int32} {a_kinds a_keptEntity a_keptAttribute a_keptValue a_came a_went a_now a_work a_stepKind a_stepEntity a_stepAttribute a_stepValue a_stepOther a_row a_column a_reach a_clauseKind a_clauseAttribute a_left a_right a_order a_rest a_number a_bound : Nat → Int32}
variable {g_latest g_steps g_mode g_from g_to g_clauses g_masked : Int32} {b_attributeKinds b_sets b_work b_sorts b_entities b_attributes b_values b_others b_seen b_reach b_kinds b_along b_left b_right b_order b_number : Nat → Int32}
variable {C c : Nat} {qk qa ql qr o σ : Nat → Nat} {row reach : Nat → Int32}
theorem fq_standsY {post : Int32 → Prop} {x : Nat} (hx : x < 24) (hn : 20 ≤ x → b_number (x - 20) = nI (σ (x - 20))) (h : post (nI (fq_tv σ x))) : wpY_standsFor post (g_latest, g_steps, g_mode, g_from, g_to, g_clauses, g_masked, b_attributeKinds, b_sets, b_work, b_sorts, b_entities, b_attributes, b_values, b_others, b_seen, b_reach, b_kinds, b_along, b_left, b_right, b_order, b_number) (nI x) := by
  by_cases h20 : 20 ≤ x
  · refine br_t (nI_le (a := 20) h20 (by omega)) ?_
    have e : nI x - 20 = nI (x - 20) := pk_sub (b := 20) h20
    rw [e, fk_cl (f := b_number) (n := x - 20) (by omega), hn h20]
    rw [fq_tv_v h20] at h
    exact ⟨vp_in_nI (by omega) (by omega), h⟩
  · refine br_f (nI_ge (b := 20) (by omega) (by omega)) ?_
    rw [fq_tv_c (by omega)] at h
    exact h
theorem fq_isSeenY {post : Int32 → Prop} {x a y : Nat} (hx : x < 20) (ha : a < 6) (hy : y < 20) (hs : ∀ e a, e < 12 → a < 6 → b_seen (6 * e + a) = row (12 * a + e))
    (h1 : (decide (x < 12) && bt (row (12 * a + x)) y) = true → post 1) (h0 : (decide (x < 12) && bt (row (12 * a + x)) y) = false → post 0) : wpY_isSeen post (g_latest, g_steps, g_mode, g_from, g_to, g_clauses, g_masked, b_attributeKinds, b_sets, b_work, b_sorts, b_entities, b_attributes, b_values, b_others, b_seen, b_reach, b_kinds, b_along, b_left, b_right, b_order, b_number) (nI x) (nI a) (nI y) := by
  by_cases hx12 : x < 12
  · rw [decide_eq_true hx12, Bool.true_and] at h1 h0
    refine br_f (nI_nlt (a := 11) (by omega) (by omega)) ?_
    rw [fv_i6, fk_cl (f := b_seen) (n := 6 * x + a) (by omega), hs x a hx12 ha]
    exact ⟨vp_in_nI (by omega) (by omega), fv_inY _ (by omega) (fun hb => br_f fk_10 (h1 hb)) (fun hb => br_t rfl (h0 hb))⟩
  · rw [decide_eq_false hx12, Bool.false_and] at h0
    exact br_t (nI_lt (a := 11) (by omega) (by omega)) (h0 rfl)
theorem fq_holdsY {post : Int32 → Prop} (hK : fq_K C qk qa ql qr b_kinds a_clauseAttribute b_left b_right b_along) (hc : c < C) (hs : ∀ e a, e < 12 → a < 6 → b_seen (6 * e + a) = row (12 * a + e)) (hr : ∀ a x, a < 6 → x < 20 → b_reach (20 * a + x) = reach (20 * a + x))
    (n1 : 20 ≤ ql c → b_number (ql c - 20) = nI (σ (ql c - 20)) ∧ σ (ql c - 20) < 20) (n2 : 20 ≤ qr c → b_number (qr c - 20) = nI (σ (qr c - 20)) ∧ σ (qr c - 20) < 20)
    (h1 : fq_h row reach (qk c) (qa c) (fq_tv σ (ql c)) (fq_tv σ (qr c)) = true → post 1) (h0 : fq_h row reach (qk c) (qa c) (fq_tv σ (ql c)) (fq_tv σ (qr c)) = false → post 0) : wpY_holds post (g_latest, g_steps, g_mode, g_from, g_to, g_clauses, g_masked, b_attributeKinds, b_sets, b_work, b_sorts, b_entities, b_attributes, b_values, b_others, b_seen, b_reach, b_kinds, b_along, b_left, b_right, b_order, b_number) (nI c) := by
  obtain ⟨⟨b1, b2, b3, b4⟩, e1, e2, e3, e4, e5⟩ := hK.2 c hc
  have hC6 := hK.1
  have hin : vp_in (nI c) 6 := vp_in_nI (by omega) (by omega)
  have hx20 : fq_tv σ (ql c) < 20 := by
    by_cases z : ql c < 20
    · rw [fq_tv_c z]; exact z
    · rw [fq_tv_v (by omega)]; exact (n1 (by omega)).2
  have hy20 : fq_tv σ (qr c) < 20 := by
    by_cases z : qr c < 20
    · rw [fq_tv_c z]; exact z
    · rw [fq_tv_v (by omega)]; exact (n2 (by omega)).2
  unfold wpY_holds
  dsimp only
  rw [fk_cl (f := b_left) (n := c) (by omega), fk_cl (f := b_right) (n := c) (by omega), fk_cl (f := b_kinds) (n := c) (by omega), fk_cl (f := b_along) (n := c) (by omega), e1, e3, e4]
  refine ⟨hin, fq_standsY (σ := σ) b3 (fun z => (n1 z).1) ⟨hin, fq_standsY (σ := σ) b4 (fun z => (n2 z).1) ⟨hin, nm_e ?_⟩⟩⟩
  generalize fq_tv σ (ql c) = x at *
  generalize fq_tv σ (qr c) = y at *
  generalize qk c = k at *
  have hk5 : k = 0 ∨ k = 1 ∨ k = 2 ∨ k = 3 ∨ k = 4 := by omega
  unfold fq_h at h1 h0
  rcases hk5 with rfl | rfl | rfl | rfl | rfl
  · rw [if_pos rfl] at h1 h0
    rw [e5 (by decide) (by decide)]
    exact br_f (by decide) (br_f (by decide) (br_t rfl ⟨hin, fq_isSeenY hx20 b2 hy20 hs (fun hb => And.intro narrow_b1 (h1 hb)) (fun hb => And.intro narrow_b0 (h0 hb))⟩))
  · rw [if_neg (by decide), if_pos rfl] at h1 h0
    rw [e5 (by decide) (by decide)]
    exact br_f (by decide) (br_f (by decide) (br_f (by decide) (br_t rfl ⟨hin, fq_isSeenY hx20 b2 hy20 hs (fun hb => br_f fk_10 (h0 (by rw [hb]; rfl))) (fun hb => br_t rfl (h1 (by rw [hb]; rfl)))⟩)))
  · rw [if_neg (by decide), if_neg (by decide), if_pos rfl] at h1 h0
    exact br_f (by decide) (br_f (by decide) (br_f (by decide) (br_f (by decide) (br_t rfl (pk_le y x (fun z => h0 (decide_eq_false (by omega))) (fun z => h1 (decide_eq_true z)))))))
  · rw [if_neg (by decide), if_neg (by decide), if_neg (by decide), if_pos rfl] at h1 h0
    exact br_f (by decide) (br_f (by decide) (br_f (by decide) (br_f (by decide) (br_f (by decide) (br_t rfl (pk_eq x y (fun z => h0 (decide_eq_false (fun q => q z))) (fun z => h1 (decide_eq_true z))))))))
  · rw [if_neg (by decide), if_neg (by decide), if_neg (by decide), if_neg (by decide)] at h1 h0
    rw [e5 (by decide) (by decide), fv_i20, fk_cl (f := b_reach) (n := 20 * qa c + x) (by omega), hr _ _ b2 hx20]
    exact br_f (by decide) (br_t (by decide) ⟨hin, vp_in_nI (by omega) (by omega), fv_inY _ (by omega) (fun hb => And.intro narrow_b1 (h1 hb)) (fun hb => And.intro narrow_b0 (h0 hb))⟩)
theorem fq_knownY {post : Int32 → Prop} {x : Nat} (hx : x < 24) (ho : fq_perm o) (hor : ∀ i, i < 4 → b_order i = nI (o i)) (h : post (nI (fq_kf o x) - 1)) : wpY_knownAt post (g_latest, g_steps, g_mode, g_from, g_to, g_clauses, g_masked, b_attributeKinds, b_sets, b_work, b_sorts, b_entities, b_attributes, b_values, b_others, b_seen, b_reach, b_kinds, b_along, b_left, b_right, b_order, b_number) (nI x) := by
  have hmatch : ∀ l, l < 4 → (nI x - 20 = nI (o l) ↔ x = o l + 20) := fun l hl => by
    have := ho.1 l hl
    rw [fq_m1, show (20 : Int32) = nI 20 from rfl, nI_add, nI_eq (by omega) (by omega)]
  have key : ∀ d l r, l + d = 4 → r ≤ 4 → (r = 0 → ∀ j, j < l → x ≠ o j + 20) → (0 < r → r ≤ l ∧ x = o (r - 1) + 20) → wY_knownAt_4 post (nI x) g_latest g_steps g_mode g_from g_to g_clauses g_masked b_attributeKinds b_sets b_work b_sorts b_entities b_attributes b_values b_others b_seen b_reach b_kinds b_along b_left b_right b_order b_number (d + 1) (nI r - 1) (nI l) := by
    intro d
    induction d with
    | zero =>
      intro l r hl hr h0 h1
      have e4 : l = 4 := by omega
      subst e4
      have er : r = fq_kf o x := by
        by_cases h20 : x < 20
        · rw [fq_kf_c h20]
          rcases Nat.eq_zero_or_pos r with z | z
          · exact z
          · have := (h1 z).2; omega
        · obtain ⟨i, i1, i2, i3⟩ := fq_kf_v ho (by omega) hx
          rw [i3]
          rcases Nat.eq_zero_or_pos r with z | z
          · exact absurd (by omega) (h0 z i i1)
          · obtain ⟨q1, q2⟩ := h1 z
            have := ho.2.1 (r - 1) i (by omega) i1 (by omega)
            omega
      rw [er]
      exact br_t (nI_le (a := 4) (by omega) (by omega)) h
    | succ d ih =>
      intro l r hl hr h0 h1
      refine br_f (nI_ge (b := 4) (by omega) (by omega)) ⟨vp_in_nI (by omega) (by omega), ?_⟩
      rw [fk_cl (f := b_order) (n := l) (by omega), hor l (by omega), hmatch l (by omega)]
      refine br_c (fun hm => nm_r (nI_1 l) ?_) (fun hm => nm_r (nI_1 l) (ih (l + 1) r (by omega) hr (fun z j hj => ?_) (fun z => ?_)))
      · have hh := ih (l + 1) (l + 1) (by omega) (by omega) (fun z => absurd z (by omega)) (fun _ => ⟨by omega, by simpa using hm⟩)
        rw [nI_pred] at hh
        exact hh
      · by_cases hz : j = l
        · subst hz; exact hm
        · exact h0 z j (by omega)
      · obtain ⟨q1, q2⟩ := h1 z
        exact ⟨by omega, q2⟩
  exact ⟨_, key 4 0 0 rfl (by omega) (fun _ j hj => absurd hj (by omega)) (fun z => absurd z (by omega))⟩
theorem fq_goesY {post : Int32 → Prop} {l : Nat} (hl : l ≤ 4) (hK : fq_K C qk qa ql qr b_kinds a_clauseAttribute b_left b_right b_along) (hs : ∀ e a, e < 12 → a < 6 → b_seen (6 * e + a) = row (12 * a + e)) (hr : ∀ a x, a < 6 → x < 20 → b_reach (20 * a + x) = reach (20 * a + x)) (ho : fq_perm o) (hor : ∀ i, i < 4 → b_order i = nI (o i))
    (hn : ∀ i, i < l → i < 4 → b_number (o i) = nI (σ (o i)) ∧ σ (o i) < 20)
    (h1 : (∀ c, c < C → max (fq_kf o (ql c)) (fq_kf o (qr c)) = l → fq_h row reach (qk c) (qa c) (fq_tv σ (ql c)) (fq_tv σ (qr c)) = true) → post 1)
    (h0 : (¬ ∀ c, c < C → max (fq_kf o (ql c)) (fq_kf o (qr c)) = l → fq_h row reach (qk c) (qa c) (fq_tv σ (ql c)) (fq_tv σ (qr c)) = true) → post 0) : wpY_goesOn post (g_latest, g_steps, g_mode, g_from, g_to, nI C, g_masked, b_attributeKinds, b_sets, b_work, b_sorts, b_entities, b_attributes, b_values, b_others, b_seen, b_reach, b_kinds, b_along, b_left, b_right, b_order, b_number) (nI l - 1) := by
  have hC6 := hK.1
  have hkb : ∀ x, fq_kf o x ≤ 4 := fun x => by
    unfold fq_kf
    split
    · omega
    · split
      · omega
      · split
        · omega
        · split <;> omega
  have key : ∀ d c, c + d = C → (∀ c', c' < c → max (fq_kf o (ql c')) (fq_kf o (qr c')) = l → fq_h row reach (qk c') (qa c') (fq_tv σ (ql c')) (fq_tv σ (qr c')) = true) → wY_goesOn_2 post (nI l - 1) g_latest g_steps g_mode g_from g_to (nI C) g_masked b_attributeKinds b_sets b_work b_sorts b_entities b_attributes b_values b_others b_seen b_reach b_kinds b_along b_left b_right b_order b_number (d + 1) (nI c) := by
    intro d
    induction d with
    | zero =>
      intro c hc hh
      have e : c = C := by omega
      subst e
      exact br_t (nI_le (by omega) (by omega)) (h1 hh)
    | succ d ih =>
      intro c hc hh
      obtain ⟨⟨b1, b2, b3, b4⟩, e1, e2, e3, e4, e5⟩ := hK.2 c (by omega)
      have hin : vp_in (nI c) 6 := vp_in_nI (by omega) (by omega)
      have k1 := hkb (ql c)
      have k2 := hkb (qr c)
      have hnext : (max (fq_kf o (ql c)) (fq_kf o (qr c)) = l → fq_h row reach (qk c) (qa c) (fq_tv σ (ql c)) (fq_tv σ (qr c)) = true) → wY_goesOn_2 post (nI l - 1) g_latest g_steps g_mode g_from g_to (nI C) g_masked b_attributeKinds b_sets b_work b_sorts b_entities b_attributes b_values b_others b_seen b_reach b_kinds b_along b_left b_right b_order b_number (d + 1) (nI (c + 1)) := fun hq => ih (c + 1) (by omega) fun c' hc' => by
        by_cases hz : c' = c
        · subst hz; exact hq
        · exact hh c' (by omega)
      have htail : ∀ v, v ≤ 4 → v = max (fq_kf o (ql c)) (fq_kf o (qr c)) → wY_goesOn_45 post (wY_goesOn_2 post (nI l - 1) g_latest g_steps g_mode g_from g_to (nI C) g_masked b_attributeKinds b_sets b_work b_sorts b_entities b_attributes b_values b_others b_seen b_reach b_kinds b_along b_left b_right b_order b_number (d + 1)) (nI l - 1) (nI c) (nI v - 1) g_latest g_steps g_mode g_from g_to (nI C) g_masked b_attributeKinds b_sets b_work b_sorts b_entities b_attributes b_values b_others b_seen b_reach b_kinds b_along b_left b_right b_order b_number := by
        intro v hv4 hv
        have heq : (nI v - 1 = nI l - 1) ↔ v = l := by
          constructor
          · intro z
            have := congrArg Int32.toInt z
            rw [fq_kd v (by omega), fq_kd l (by omega)] at this
            omega
          · intro z; rw [z]
        unfold wY_goesOn_45
        rw [heq]
        refine br_c (fun hvl => ?_) (fun hvl => nm_r (nI_1 c) (hnext fun z => absurd (hv.trans z) hvl))
        have hnum : ∀ x, x < 24 → fq_kf o x ≤ l → 20 ≤ x → b_number (x - 20) = nI (σ (x - 20)) ∧ σ (x - 20) < 20 := fun x hx hkx h20 => by
          obtain ⟨i, i1, i2, i3⟩ := fq_kf_v ho h20 hx
          rw [← i2]
          exact hn i (by omega) i1
        refine fq_holdsY hK (by omega) hs hr (hnum _ b3 (by omega)) (hnum _ b4 (by omega)) (fun hb => br_f fk_10 (nm_r (nI_1 c) (hnext fun _ => hb))) (fun hb => br_t rfl (h0 fun hall => ?_))
        rw [hall c (by omega) (by omega)] at hb
        exact absurd hb (by decide)
      refine br_f (nI_ge (by omega) (by omega)) ⟨hin, ?_⟩
      rw [fk_cl (f := b_left) (n := c) (by omega), fk_cl (f := b_right) (n := c) (by omega), e3, e4]
      refine fq_knownY b3 ho hor ⟨hin, fq_knownY b4 ho hor ?_⟩
      have hle : (nI (fq_kf o (ql c)) - 1 ≤ nI (fq_kf o (qr c)) - 1) ↔ fq_kf o (ql c) ≤ fq_kf o (qr c) := by
        rw [Int32.le_iff_toInt_le, fq_kd _ (by omega), fq_kd _ (by omega)]
        omega
      rw [hle]
      exact br_c (fun z => htail _ k2 (by omega)) (fun z => htail _ k1 (by omega))
  exact ⟨_, key C 0 (by omega) (fun c' hc' => absurd hc' (by omega))⟩
end
end
section
/-! the reference's search -/
/-- the variables of a mask below k, rising -/
def fq_ml (M : Nat → Bool) (k : Nat) : List Nat := (List.range k).filter M
theorem fq_ml_s (M : Nat → Bool) (k : Nat) : fq_ml M (k + 1) = fq_ml M k ++ (if M k = true then [k] else []) := by
  unfold fq_ml
  rw [List.range_succ, List.filter_append]
  cases h : M k
  · simp [h]
  · simp [h]
theorem fq_ml_len (M : Nat → Bool) : ∀ k, (fq_ml M k).length = fm_cb M k
  | 0 => rfl
  | k + 1 => by
    rw [fq_ml_s, List.length_append, fq_ml_len M k, fm_cb_s]
    cases M k <;> simp
theorem fq_cb_not (M : Nat → Bool) : ∀ k, fm_cb M k + fm_cb (fun i => !M i) k = k
  | 0 => rfl
  | k + 1 => by
    have := fq_cb_not M k
    rw [fm_cb_s, fm_cb_s]
    cases M k <;> simp <;> omega
theorem fq_cb_k (M : Nat → Bool) (k : Nat) : fm_cb M k ≤ k := by have := fq_cb_not M k; omega
/-- an array that begins with the numbers of a list -/
def fq_O (arr : Nat → Int32) (l : List Nat) : Prop := ∀ i, i < l.length → arr i = nI (l.getD i 0)
theorem fq_O_push {arr : Nat → Int32} {l : List Nat} {k : Nat} (h : fq_O arr l) : fq_O (upd arr l.length (nI k)) (l ++ [k]) := by
  intro i hi
  rw [List.length_append] at hi
  by_cases hz : i = l.length
  · subst hz
    rw [pk_us]
    simp
  · have hi' : i < l.length := by simp at hi; omega
    rw [pk_un hz, h i hi']
    simp [List.getD_eq_getElem?_getD, List.getElem?_append_left hi']
section
variable {g_latest g_steps g_mode g_from g_to g_clauses g_masked : Int32} {b_attributeKinds b_sets b_work b_sorts b_entities b_attributes b_values b_others b_seen b_reach b_kinds b_along b_left b_right b_order b_number : Nat → Int32}
variable {C m : Nat} {o : Nat → Nat} {row : Nat → Int32}
theorem fq_71 {post : SY → Prop} {J : Int32 → (Nat → Int32) → (Nat → Int32) → (Nat → Int32) → (Nat → Int32) → (Nat → Int32) → (Nat → Int32) → (Nat → Int32) → (Nat → Int32) → (Nat → Int32) → (Nat → Int32) → (Nat → Int32) → (Nat → Int32) → (Nat → Int32) → (Nat → Int32) → (Nat → Int32) → (Nat → Int32) → Prop} {r : Nat → Int32} {a z : Nat} (ha : a < 6) (hz : z < 20) {q : Nat}
    (hJ : ∀ R', (∀ y, y < 20 → R' (20 * a + y) = fv_st r z y) → (∀ p, (∀ y, y < 20 → p ≠ 20 * a + y) → R' p = b_reach p) → J (nI (q + 1)) b_attributeKinds b_sets b_work b_sorts b_entities b_attributes b_values b_others b_seen R' b_kinds b_along b_left b_right b_order b_number)
    (hr : ∀ y, y < 20 → b_reach (20 * a + y) = r y) :
    ∃ n, wY_findReach_71 post J (nI q) (nI a) (nI z) g_latest g_steps g_mode g_from g_to g_clauses g_masked n 0 b_attributeKinds b_sets b_work b_sorts b_entities b_attributes b_values b_others b_seen b_reach b_kinds b_along b_left b_right b_order b_number := by
  have key : ∀ d x R, x + d = 20 → (∀ y, y < x → R (20 * a + y) = fv_st r z y) → (∀ p, (∀ y, y < x → p ≠ 20 * a + y) → R p = b_reach p) → wY_findReach_71 post J (nI q) (nI a) (nI z) g_latest g_steps g_mode g_from g_to g_clauses g_masked (d + 1) (nI x) b_attributeKinds b_sets b_work b_sorts b_entities b_attributes b_values b_others b_seen R b_kinds b_along b_left b_right b_order b_number := by
    intro d
    induction d with
    | zero =>
      intro x R hx h1 h2
      have e : x = 20 := by omega
      subst e
      exact br_t (nI_le (a := 20) (by omega) (by omega)) (nm_r (nI_1 q) (hJ R h1 h2))
    | succ d ih =>
      intro x R hx h1 h2
      have ex : R (20 * a + x) = r x := by
        rw [h2 _ (fun y hy => by omega), hr x (by omega)]
      have ez : R (20 * a + z) = r z := by
        by_cases hzx : z < x
        · rw [h1 z hzx, fv_st_zz]
        · rw [h2 _ (fun y hy => by omega), hr z hz]
      have hin : vp_in (nI (20 * a + x)) 120 := vp_in_nI (by omega) (by omega)
      have hkeep : ∀ v, v = fv_st r z x → wY_findReach_71 post J (nI q) (nI a) (nI z) g_latest g_steps g_mode g_from g_to g_clauses g_masked (d + 1) (nI (x + 1)) b_attributeKinds b_sets b_work b_sorts b_entities b_attributes b_values b_others b_seen (upd R (20 * a + x) v) b_kinds b_along b_left b_right b_order b_number := by
        intro v hv
        refine ih (x + 1) _ (by omega) (fun y hy => ?_) (fun p hp => ?_)
        · by_cases hyx : y = x
          · subst hyx; rw [pk_us, hv]
          · rw [pk_un (by omega)]; exact h1 y (by omega)
        · rw [pk_un (hp x (by omega))]
          exact h2 p (fun y hy => hp y (by omega))
      refine br_f (nI_ge (b := 20) (by omega) (by omega)) ?_
      rw [fv_i20, fv_i20, fk_cl (f := R) (n := 20 * a + x) (by omega), fk_cl (f := R) (n := 20 * a + z) (by omega), ex, ez]
      refine ⟨hin, fv_inY _ (by omega) (fun hb => br_f fk_10 ⟨hin, vp_in_nI (by omega) (by omega), hin, nm_r (fk_ucl (by omega)) (nm_r (nI_1 x) (hkeep _ ?_))⟩) (fun hb => br_t rfl ⟨hin, hin, nm_r (fk_ucl (by omega)) (nm_r (nI_1 x) (hkeep _ ?_))⟩)⟩
      · unfold fv_st; rw [if_pos hb]
      · unfold fv_st; rw [hb, if_neg (by decide)]
  exact ⟨_, key 20 0 b_reach rfl (fun y hy => absurd hy (by omega)) (fun p _ => rfl)⟩
theorem fq_frY {post : SY → Prop} (hs : ∀ e a, e < 12 → a < 6 → b_seen (6 * e + a) = row (12 * a + e))
    (h : ∀ R', (∀ a x, a < 6 → x < 20 → R' (20 * a + x) = fv_cl (fv_r0 row a) 12 x) → post (g_latest, g_steps, g_mode, g_from, g_to, g_clauses, g_masked, b_attributeKinds, b_sets, b_work, b_sorts, b_entities, b_attributes, b_values, b_others, b_seen, R', b_kinds, b_along, b_left, b_right, b_order, b_number)) : wpY_findReach post (g_latest, g_steps, g_mode, g_from, g_to, g_clauses, g_masked, b_attributeKinds, b_sets, b_work, b_sorts, b_entities, b_attributes, b_values, b_others, b_seen, b_reach, b_kinds, b_along, b_left, b_right, b_order, b_number) := by
  have hdiv : ∀ c, c < 120 → nI c / 20 = nI (c / 20) := fun c hc => pk_div (d := 20) (by omega) (by omega) (by omega)
  have hrem : ∀ c, c < 120 → nI c - nI (c / 20) * 20 = nI (c % 20) := fun c hc => by
    rw [← hdiv c hc]; exact pk_rem (d := 20) (by omega) (by omega) (by omega)
  have key52 : ∀ d c R, c + d = 120 → (∀ a x, a < 6 → x < 20 → R (20 * a + x) = fv_cl (fv_r0 row a) (if a < c / 20 then 20 else if a = c / 20 then c % 20 else 0) x) → wY_findReach_52 post g_latest g_steps g_mode g_from g_to g_clauses g_masked (d + 1) (nI c) b_attributeKinds b_sets b_work b_sorts b_entities b_attributes b_values b_others b_seen R b_kinds b_along b_left b_right b_order b_number := by
    intro d
    induction d with
    | zero =>
      intro c R hc h1
      have e : c = 120 := by omega
      subst e
      refine br_t (nI_le (a := 120) (by omega) (by omega)) (h R (fun a x ha hx => ?_))
      rw [h1 a x ha hx, if_pos (by omega)]
      exact fv_cl_20 (r := fv_r0 row a) (fun y hy _ => by unfold fv_r0; rw [if_neg (by omega)]) 8 (by omega) x
    | succ d ih =>
      intro c R hc h1
      refine br_f (nI_ge (b := 120) (by omega) (by omega)) ?_
      rw [hdiv c (by omega), hrem c (by omega)]
      refine ⟨by decide, nm_e ⟨by decide, nm_e (fq_71 (r := fv_cl (fv_r0 row (c / 20)) (c % 20)) (by omega) (by omega) (fun R' k1 k2 => ih (c + 1) R' (by omega) (fun a x ha hx => ?_)) (fun y hy => ?_))⟩⟩
      · by_cases hz : a = c / 20
        · subst hz
          rw [k1 x hx]
          show fv_cl (fv_r0 row (c / 20)) (c % 20 + 1) x = _
          congr 1
          by_cases h19 : c % 20 = 19
          · rw [if_pos (by omega)]; omega
          · rw [if_neg (by omega), if_pos (by omega)]; omega
        · rw [k2 _ (fun y hy => by omega), h1 a x ha hx]
          congr 1
          by_cases h19 : c % 20 = 19
          · by_cases hlt : a < c / 20
            · rw [if_pos hlt, if_pos (by omega)]
            · rw [if_neg hlt, if_neg hz, if_neg (by omega)]
              by_cases hn : a = (c + 1) / 20
              · rw [if_pos hn]; omega
              · rw [if_neg hn]
          · have e1 : (c + 1) / 20 = c / 20 := by omega
            rw [e1, if_neg hz, if_neg hz]
      · rw [h1 _ y (by omega) hy, if_neg (by omega), if_pos rfl]
  have key2 : ∀ d c R, c + d = 120 → (∀ c', c' < c → R c' = fv_r0 row (c' / 20) (c' % 20)) → wY_findReach_2 post g_latest g_steps g_mode g_from g_to g_clauses g_masked (d + 1) (nI c) b_attributeKinds b_sets b_work b_sorts b_entities b_attributes b_values b_others b_seen R b_kinds b_along b_left b_right b_order b_number := by
    intro d
    induction d with
    | zero =>
      intro c R hc h1
      have e : c = 120 := by omega
      subst e
      refine br_t (nI_le (a := 120) (by omega) (by omega)) ⟨_, key52 120 0 R rfl (fun a x ha hx => ?_)⟩
      rw [h1 _ (by omega), show (20 * a + x) / 20 = a by omega, show (20 * a + x) % 20 = x by omega]
      by_cases h0 : a = 0
      · subst h0; rfl
      · rw [if_neg (by omega), if_neg (by omega)]; rfl
    | succ d ih =>
      intro c R hc h1
      have hkeep : ∀ v, v = fv_r0 row (c / 20) (c % 20) → wY_findReach_2 post g_latest g_steps g_mode g_from g_to g_clauses g_masked (d + 1) (nI (c + 1)) b_attributeKinds b_sets b_work b_sorts b_entities b_attributes b_values b_others b_seen (upd R c v) b_kinds b_along b_left b_right b_order b_number := by
        intro v hv
        refine ih (c + 1) _ (by omega) (fun c' hc' => ?_)
        by_cases hz : c' = c
        · subst hz; rw [pk_us, hv]
        · rw [pk_un hz]; exact h1 c' (by omega)
      refine br_f (nI_ge (b := 120) (by omega) (by omega)) ?_
      rw [hdiv c (by omega), hrem c (by omega)]
      refine ⟨by decide, pk_lt 11 (c % 20) (fun hz => ⟨vp_in_nI (by omega) (by omega), nm_r (fk_ucl (by omega)) (nm_r (nI_1 c) (hkeep _ ?_))⟩) (fun hz => ?_)⟩
      · unfold fv_r0; rw [if_neg (by omega)]
      · rw [fv_i6, fk_cl (f := b_seen) (n := 6 * (c % 20) + c / 20) (by omega)]
        refine ⟨by decide, by decide, vp_in_nI (by omega) (by omega), vp_in_nI (by omega) (by omega), nm_r (fk_ucl (by omega)) (nm_r (nI_1 c) (hkeep _ ?_))⟩
        unfold fv_r0; rw [if_pos (by omega)]
        exact hs _ _ (by omega) (by omega)
  exact ⟨_, key2 120 0 b_reach rfl (fun c' hc' => absurd hc' (by omega))⟩
theorem fq_arrY {post : SY → Prop} {mk : Int32} (h : ∀ or, fq_O or (fq_ml (bt mk) 4 ++ fq_ml (fun k => !bt mk k) 4) → post (g_latest, g_steps, g_mode, g_from, g_to, g_clauses, nI (fm_cb (bt mk) 4), b_attributeKinds, b_sets, b_work, b_sorts, b_entities, b_attributes, b_values, b_others, b_seen, b_reach, b_kinds, b_along, b_left, b_right, or, b_number)) : wpY_arrange post (g_latest, g_steps, g_mode, g_from, g_to, g_clauses, g_masked, b_attributeKinds, b_sets, b_work, b_sorts, b_entities, b_attributes, b_values, b_others, b_seen, b_reach, b_kinds, b_along, b_left, b_right, b_order, b_number) mk := by
  have key54 : ∀ d k or, k + d = 4 → fq_O or (fq_ml (bt mk) 4 ++ fq_ml (fun k => !bt mk k) k) → wY_arrange_54 post mk g_latest g_steps g_mode g_from g_to g_clauses (nI (fm_cb (bt mk) 4)) (d + 1) (nI (fm_cb (bt mk) 4 + fm_cb (fun k => !bt mk k) k)) (nI k) b_attributeKinds b_sets b_work b_sorts b_entities b_attributes b_values b_others b_seen b_reach b_kinds b_along b_left b_right or b_number := by
    intro d
    induction d with
    | zero =>
      intro k or hk hO
      have e : k = 4 := by omega
      subst e
      exact br_t (nI_le (a := 4) (by omega) (by omega)) (h or hO)
    | succ d ih =>
      intro k or hk hO
      have hlen : (fq_ml (bt mk) 4 ++ fq_ml (fun k => !bt mk k) k).length = fm_cb (bt mk) 4 + fm_cb (fun k => !bt mk k) k := by rw [List.length_append, fq_ml_len, fq_ml_len]
      refine br_f (nI_ge (b := 4) (by omega) (by omega)) (fv_inY _ (by omega) (fun hb => br_f fk_10 (nm_r (nI_1 k) ?_)) (fun hb => br_t rfl ?_))
      · have hh := ih (k + 1) or (by omega) (by rw [fq_ml_s (fun k => !bt mk k) k, hb]; simpa using hO)
        rw [fm_cb_s (fun k => !bt mk k) k, hb] at hh
        exact hh
      · have h4 := fq_cb_not (bt mk) 4
        have hm := fm_cb_le (β := fun k => !bt mk k) (a := k + 1) (b := 4) (by omega)
        rw [fm_cb_s, hb] at hm
        have hm' : fm_cb (fun k => !bt mk k) k + 1 ≤ fm_cb (fun k => !bt mk k) 4 := hm
        have hh := ih (k + 1) (upd or (fm_cb (bt mk) 4 + fm_cb (fun k => !bt mk k) k) (nI k)) (by omega) (by
          have := fq_O_push (k := k) hO
          rw [hlen] at this
          rw [fq_ml_s (fun k => !bt mk k) k, hb]
          simpa using this)
        rw [fm_cb_s (fun k => !bt mk k) k, hb] at hh
        exact ⟨vp_in_nI (by omega) (by omega), nm_r (fk_ucl (by omega)) (nm_r (nI_1 _) (nm_r (nI_1 k) hh))⟩
  have key7 : ∀ d k or, k + d = 4 → fq_O or (fq_ml (bt mk) k) → wY_arrange_7 post mk g_latest g_steps g_mode g_from g_to g_clauses (d + 1) (nI k) (nI (fm_cb (bt mk) k)) b_attributeKinds b_sets b_work b_sorts b_entities b_attributes b_values b_others b_seen b_reach b_kinds b_along b_left b_right or b_number := by
    intro d
    induction d with
    | zero =>
      intro k or hk hO
      have e : k = 4 := by omega
      subst e
      have hh := key54 4 0 or rfl (by simpa [fq_ml] using hO)
      exact br_t (nI_le (a := 4) (by omega) (by omega)) ⟨_, hh⟩
    | succ d ih =>
      intro k or hk hO
      refine br_f (nI_ge (b := 4) (by omega) (by omega)) (fv_inY _ (by omega) (fun hb => br_f fk_10 ?_) (fun hb => br_t rfl (nm_r (nI_1 k) ?_)))
      · have hb4 := fq_cb_k (bt mk) k
        have hh := ih (k + 1) (upd or (fm_cb (bt mk) k) (nI k)) (by omega) (by
          have := fq_O_push (k := k) hO
          rw [fq_ml_len] at this
          rw [fq_ml_s, hb]
          simpa using this)
        rw [fm_cb_s, hb] at hh
        exact ⟨vp_in_nI (by omega) (by omega), nm_r (fk_ucl (by omega)) (nm_r (nI_1 _) (nm_r (nI_1 k) hh))⟩
      · have hh := ih (k + 1) or (by omega) (by rw [fq_ml_s, hb]; simpa using hO)
        rw [fm_cb_s, hb] at hh
        exact hh
  exact ⟨_, key7 4 0 b_order rfl (fun i hi => absurd hi (by simp [fq_ml]))⟩
theorem fq_tupY {post : Int32 → Prop} {σ : Nat → Nat} (hm : m ≤ 4) (ho : ∀ i, i < m → o i < 4) (hor : ∀ i, i < m → b_order i = nI (o i)) (hn : ∀ i, i < m → b_number (o i) = nI (σ (o i))) (h : post (nI (fq_pre o σ m))) : wpY_tuple post (g_latest, g_steps, g_mode, g_from, g_to, g_clauses, nI m, b_attributeKinds, b_sets, b_work, b_sorts, b_entities, b_attributes, b_values, b_others, b_seen, b_reach, b_kinds, b_along, b_left, b_right, b_order, b_number) := by
  have key : ∀ d l, l + d = m → wY_tuple_4 post g_latest g_steps g_mode g_from g_to g_clauses (nI m) b_attributeKinds b_sets b_work b_sorts b_entities b_attributes b_values b_others b_seen b_reach b_kinds b_along b_left b_right b_order b_number (d + 1) (nI (fq_pre o σ l)) (nI l) := by
    intro d
    induction d with
    | zero =>
      intro l hl
      have e : l = m := by omega
      subst e
      exact br_t (nI_le (by omega) (by omega)) h
    | succ d ih =>
      intro l hl
      have := ho l (by omega)
      refine br_f (nI_ge (by omega) (by omega)) ⟨vp_in_nI (by omega) (by omega), ?_⟩
      rw [fk_cl (f := b_order) (n := l) (by omega), hor l (by omega), fk_cl (f := b_number) (n := o l) (by omega), hn l (by omega), fv_i20]
      exact ⟨vp_in_nI (by omega) (by omega), nm_e (nm_r (nI_1 l) (ih (l + 1) (by omega)))⟩
  exact ⟨_, key m 0 (by omega)⟩
end
end
section
/-! the reference's search: the loop -/
def fq_full (C : Nat) (qk qa ql qr : Nat → Nat) (row reach : Nat → Int32) (σ : Nat → Nat) : Prop := ∀ c, c < C → fq_h row reach (qk c) (qa c) (fq_tv σ (ql c)) (fq_tv σ (qr c)) = true
def fq_CY (C : Nat) (qk qa ql qr : Nat → Nat) (row reach : Nat → Int32) (o : Nat → Nat) (l : Nat) (σ : Nat → Nat) (w : Nat) : Prop := ∀ c, c < C → max (fq_kf o (ql c)) (fq_kf o (qr c)) = l + 1 → fq_h row reach (qk c) (qa c) (fq_tv (fc_un σ (o l) w) (ql c)) (fq_tv (fc_un σ (o l) w) (qr c)) = true
theorem fq_un_self (σ : Nat → Nat) (k : Nat) : fc_un σ k (σ k) = σ := by
  funext j
  by_cases h : j = k
  · subst h; rw [fc_us]
  · rw [fc_uo h]
theorem fq_CY_CH {C : Nat} {qk qa ql qr : Nat → Nat} {row reach : Nat → Int32} {o : Nat → Nat} (hq : ∀ c, c < C → ql c < 24 ∧ qr c < 24) (ho : fq_perm o) (hp : ∀ c, c < C → max (fq_kf o (ql c)) (fq_kf o (qr c)) = 0 → fq_h row reach (qk c) (qa c) (ql c) (qr c) = true) : fq_CH o 4 (fq_full C qk qa ql qr row reach) (fq_CY C qk qa ql qr row reach o) := by
  have h0 : ∀ x, x < 24 → fq_kf o x = 0 → x < 20 := fun x hx hk => by
    rcases Nat.lt_or_ge x 20 with z | z
    · exact z
    · obtain ⟨i, _, _, i3⟩ := fq_kf_v ho z hx
      omega
  refine ⟨fun l σ σ' w hl ha => ?_, fun σ hσ => ⟨fun hf i hi c hc hl => ?_, fun hf c hc => ?_⟩⟩
  · have htv : ∀ x, x < 24 → fq_kf o x ≤ l + 1 → fq_tv (fc_un σ (o l) w) x = fq_tv (fc_un σ' (o l) w) x := fun x hx hk => by
      rcases Nat.lt_or_ge x 20 with z | z
      · rw [fq_tv_c z, fq_tv_c z]
      · rw [fq_tv_v z, fq_tv_v z]
        obtain ⟨i, i1, i2, i3⟩ := fq_kf_v ho z hx
        rw [← i2]
        by_cases hz : i = l
        · subst hz; rw [fc_us, fc_us]
        · have hne : o i ≠ o l := fun e => hz (ho.2.1 i l i1 hl e)
          rw [fc_uo hne, fc_uo hne]
          exact ha i (by omega)
    constructor
    · intro h c hc hl
      rw [← htv _ (hq c hc).1 (by omega), ← htv _ (hq c hc).2 (by omega)]
      exact h c hc hl
    · intro h c hc hl
      rw [htv _ (hq c hc).1 (by omega), htv _ (hq c hc).2 (by omega)]
      exact h c hc hl
  · rw [fq_un_self]; exact hf c hc
  · obtain ⟨q1, q2⟩ := hq c hc
    have hb : ∀ x, x < 24 → fq_kf o x ≤ 4 := fun x hx => by
      rcases Nat.lt_or_ge x 20 with z | z
      · rw [fq_kf_c z]; omega
      · obtain ⟨i, i1, i2, i3⟩ := fq_kf_v ho z hx
        omega
    have b1 := hb _ q1
    have b2 := hb _ q2
    rcases Nat.eq_zero_or_pos (max (fq_kf o (ql c)) (fq_kf o (qr c))) with z | z
    · rw [fq_tv_c (h0 _ q1 (by omega)), fq_tv_c (h0 _ q2 (by omega))]
      exact hp c hc z
    · have h := hf (max (fq_kf o (ql c)) (fq_kf o (qr c)) - 1) (by omega) c hc (by omega)
      rw [fq_un_self] at h
      exact h
theorem fq_lo_up {k p w : Nat} : 20 ^ k * (20 * (20 * p + w) + 20) = 20 ^ (k + 1) * (20 * p + (w + 1)) := by
  rw [Nat.pow_succ, Nat.mul_assoc]
  congr 1
theorem fq_lo_down {k p w : Nat} : 20 ^ k * (20 * (20 * p + w) + 0) = 20 ^ (k + 1) * (20 * p + w) := by
  rw [Nat.pow_succ, Nat.mul_assoc, Nat.add_zero]
section
variable {g_latest g_steps g_mode g_from g_to g_clauses g_masked : Int32} {b_attributeKinds b_sets b_work b_sorts b_entities b_attributes b_values b_others b_seen b_reach b_kinds b_along b_left b_right b_order b_number : Nat → Int32}
variable {C m : Nat} {qk qa ql qr o : Nat → Nat} {row reach a_clauseAttribute : Nat → Int32} {x2 x3 : Int32}
theorem fq_goesY2 {post : Int32 → Prop} {l : Nat} {σ : Nat → Nat} {x : Int32} (hx : x = nI l - 1) (hl : l ≤ 4) (hK : fq_K C qk qa ql qr b_kinds a_clauseAttribute b_left b_right b_along) (hs : ∀ e a, e < 12 → a < 6 → b_seen (6 * e + a) = row (12 * a + e)) (hr : ∀ a x, a < 6 → x < 20 → b_reach (20 * a + x) = reach (20 * a + x)) (ho : fq_perm o) (hor : ∀ i, i < 4 → b_order i = nI (o i))
    (hn : ∀ i, i < l → i < 4 → b_number (o i) = nI (σ (o i)) ∧ σ (o i) < 20)
    (h1 : (∀ c, c < C → max (fq_kf o (ql c)) (fq_kf o (qr c)) = l → fq_h row reach (qk c) (qa c) (fq_tv σ (ql c)) (fq_tv σ (qr c)) = true) → post 1)
    (h0 : (¬ ∀ c, c < C → max (fq_kf o (ql c)) (fq_kf o (qr c)) = l → fq_h row reach (qk c) (qa c) (fq_tv σ (ql c)) (fq_tv σ (qr c)) = true) → post 0) : wpY_goesOn post (g_latest, g_steps, g_mode, g_from, g_to, nI C, g_masked, b_attributeKinds, b_sets, b_work, b_sorts, b_entities, b_attributes, b_values, b_others, b_seen, b_reach, b_kinds, b_along, b_left, b_right, b_order, b_number) x := by
  rw [hx]
  exact fq_goesY hl hK hs hr ho hor hn h1 h0
theorem fq_loopY {post : Int32 → SY → Prop} {Q : (Nat → Nat) → Prop} (G : Nat → (Nat → Prop) → Prop) (hm1 : 1 ≤ m) (hm4 : m ≤ 4)
    (hK : fq_K C qk qa ql qr b_kinds a_clauseAttribute b_left b_right b_along) (hs : ∀ e a, e < 12 → a < 6 → b_seen (6 * e + a) = row (12 * a + e)) (hr : ∀ a x, a < 6 → x < 20 → b_reach (20 * a + x) = reach (20 * a + x)) (ho : fq_perm o) (hor : ∀ i, i < 4 → b_order i = nI (o i))
    (hCH : fq_CH o 4 Q (fq_CY C qk qa ql qr row reach o))
    (hend : ∀ c num, G c (fun _ => False) → wY_search_171 post x2 (nI c) g_latest g_steps g_mode g_from g_to (nI C) (nI m) b_attributeKinds b_sets b_work b_sorts b_entities b_attributes b_values b_others b_seen b_reach b_kinds b_along b_left b_right b_order num)
    (hfnd : ∀ c S S' t num, G c S → t < 20 ^ m → S t → (∀ t', S t' → t ≤ t') → ¬ S' t → (∀ t', t' ≠ t → (S t' ↔ S' t')) → (x2 = 0 ∧ ¬ nI t ≤ x3 ∧ post (nI t) (g_latest, g_steps, g_mode, g_from, g_to, nI C, nI m, b_attributeKinds, b_sets, b_work, b_sorts, b_entities, b_attributes, b_values, b_others, b_seen, b_reach, b_kinds, b_along, b_left, b_right, b_order, num)) ∨ ((x2 = 0 → nI t ≤ x3) ∧ G (c + 1) S')) :
    ∀ f l σ j c t num, l < 4 → j ≤ 20 → (∀ i, i < l → num (o i) = nI (σ (o i)) ∧ σ (o i) < 20) → num (o l) = nI j - 1 → (∀ i, i < l → fq_CY C qk qa ql qr row reach o i σ (σ (o i))) → t ≤ fq_ph l (fq_pre o σ l) j → 200000 < f + fq_ph l (fq_pre o σ l) j → G c (fq_R o 4 m Q (20 ^ (3 - l) * (20 * fq_pre o σ l + j))) →
      wY_search_50 post x2 x3 g_latest g_steps g_mode g_from g_to (nI C) (nI m) f (nI c) (nI l) (nI t) b_attributeKinds b_sets b_work b_sorts b_entities b_attributes b_values b_others b_seen b_reach b_kinds b_along b_left b_right b_order num := by
  intro f
  induction f with
  | zero =>
    intro l σ j c t num hl hj hn hnl hch ht hf hG
    have := fq_ph_le (fq_pre_lt (o := o) (σ := σ) (l := l) (fun i hi => (hn i hi).2)) hl hj
    omega
  | succ f ih =>
    intro l σ j c t num hl hj hn hnl hch ht hf hG
    have hpl := fq_pre_lt (o := o) (σ := σ) (l := l) (fun i hi => (hn i hi).2)
    have hphb := fq_ph_le hpl hl hj
    have hol := ho.1 l hl
    have hne : ∀ i, i < l → o i ≠ o l := fun i hi e => by
      have := ho.2.1 i l (by omega) hl e
      omega
    have hin : vp_in (nI l) 4 := vp_in_nI hl (by omega)
    have hino : vp_in (nI (o l)) 4 := vp_in_nI hol (by omega)
    have hj1 : nI j - 1 + 1 = nI j := by grind
    refine br_f (nI_ge (b := 400000) (by omega) (by omega)) (br_f (nI_pos (by omega)) ?_)
    rw [fk_cl (f := b_order) (n := l) (by omega), hor l hl, fk_cl (f := num) (n := o l) (by omega), hnl, hj1, nI_clamp (n := o l) (by omega)]
    refine ⟨hin, hino, hino, nm_e ⟨hin, hino, ?_⟩⟩
    rw [pk_us]
    refine pk_eq j 20 (fun h20 => ?_) (fun h20 => ?_)
    · subst h20
      rcases Nat.eq_zero_or_pos l with z | z
      · subst z
        obtain ⟨f', rfl⟩ : ∃ f', f = f' + 1 := ⟨f - 1, by omega⟩
        rw [fq_end (n := 4) (by simp [fq_pre])] at hG
        have hE := hend c (upd num (o 0) (nI 20)) hG
        exact nm_r (e' := -1) (by decide) (nm_e (br_c (fun _ => hE) (fun _ => br_t (by decide) hE)))
      · obtain ⟨l', rfl⟩ : ∃ l', l = l' + 1 := ⟨l - 1, by omega⟩
        have hw := (hn l' (by omega)).2
        have hp0 : l' = 0 → fq_pre o σ l' = 0 := fun z => by rw [z]; rfl
        have hup := fq_ph_up (l := l') (p := fq_pre o σ l') (w := σ (o l')) (by omega) hw hp0
        have ht' : t ≤ fq_ph (l' + 1) (20 * fq_pre o σ l' + σ (o l')) 20 := ht
        have hf' : 200000 < f + 1 + fq_ph (l' + 1) (20 * fq_pre o σ l' + σ (o l')) 20 := hf
        refine nm_r (pk_m1 l') (nm_r (nI_1 t) (ih l' σ (σ (o l') + 1) c (t + 1) _ (by omega) (by omega) (fun i hi => ?_) ?_ (fun i hi => hch i (by omega)) (by omega) (by omega) ?_))
        · rw [pk_un (hne i (by omega))]; exact hn i (by omega)
        · rw [pk_un (hne l' (by omega)), (hn l' (by omega)).1, nI_pred]
        · have e : 3 - l' = (3 - (l' + 1)) + 1 := by omega
          rw [e, ← fq_lo_up]
          exact hG
    · have hj20 : j < 20 := by omega
      have hnum : ∀ i, i < l + 1 → i < 4 → upd num (o l) (nI j) (o i) = nI (fc_un σ (o l) j (o i)) ∧ fc_un σ (o l) j (o i) < 20 := fun i hi hi4 => by
        by_cases hz : i = l
        · subst hz; rw [pk_us, fc_us]; exact ⟨rfl, hj20⟩
        · rw [pk_un (hne i (by omega)), fc_uo (hne i (by omega))]; exact hn i (by omega)
      have hagree : ∀ i, i < l → σ (o i) = fc_un σ (o l) j (o i) := fun i hi => (fc_uo (hne i hi)).symm
      have hpre : fq_pre o (fc_un σ (o l) j) l = fq_pre o σ l := (fq_pre_eq hagree).symm
      refine fq_goesY2 (l := l + 1) (nI_pred l).symm (by omega) hK hs hr ho hor (σ := fc_un σ (o l) j) hnum (fun hyes => br_f fk_10 (nm_r (nI_1 l) ?_)) (fun hno => br_t rfl (nm_r (nI_1 t) ?_))
      · have hyes' : fq_CY C qk qa ql qr row reach o l σ j := hyes
        have hch' : ∀ i, i < l + 1 → fq_CY C qk qa ql qr row reach o i (fc_un σ (o l) j) (fc_un σ (o l) j (o i)) := fun i hi => by
          by_cases hz : i = l
          · subst hz
            rw [fc_us, ← hCH.1 i σ _ j hl hagree]
            exact hyes'
          · rw [fc_uo (hne i (by omega)), ← hCH.1 i σ _ _ (by omega) (fun k hk => hagree k (by omega))]
            exact hch i (by omega)
        refine pk_le 4 (l + 1) (fun h4 => ?_) (fun h4 => ?_)
        · have hl3 : l = 3 := by omega
          subst hl3
          have hb4 : ∀ i, i < 4 → fc_un σ (o 3) j (o i) < 20 := fun i hi => (hnum i hi hi).2
          have hQ : Q (fc_un σ (o 3) j) := (hCH.2 _ hb4).mpr (fun i hi => hch' i hi)
          obtain ⟨g1, g2, g3, g4⟩ := fq_found (o := o) (n := 4) (m := m) (k := 4 - m) (Q := Q) (by omega) hb4 hQ
          have elo : fq_pre o (fc_un σ (o 3) j) 4 = 20 ^ (3 - 3) * (20 * fq_pre o σ 3 + j) := by
            show 20 * fq_pre o (fc_un σ (o 3) j) 3 + fc_un σ (o 3) j (o 3) = _
            rw [hpre, fc_us]; simp
          rw [← elo] at hG
          obtain ⟨m', rfl⟩ : ∃ m', m = m' + 1 := ⟨m - 1, by omega⟩
          have hcont : ∀ c', G c' (fq_R o 4 (m' + 1) Q (20 ^ (4 - (m' + 1)) * (fq_pre o (fc_un σ (o 3) j) (m' + 1) + 1))) → wY_search_50 post x2 x3 g_latest g_steps g_mode g_from g_to (nI C) (nI (m' + 1)) f (nI c') (nI m') (nI (t + 1)) b_attributeKinds b_sets b_work b_sorts b_entities b_attributes b_values b_others b_seen b_reach b_kinds b_along b_left b_right b_order (upd num (o 3) (nI j)) := by
            intro c' hG'
            have hwm := hb4 m' (by omega)
            have hphlt : fq_ph 3 (fq_pre o σ 3) j < fq_ph m' (fq_pre o (fc_un σ (o 3) j) m') (fc_un σ (o 3) j (o m') + 1) := by
              have hw0 := hb4 0 (by omega)
              have hw1 := hb4 1 (by omega)
              have hw2 := hb4 2 (by omega)
              obtain ⟨p1, p2, p3, p4⟩ := fq_ph_back (p0 := fq_pre o (fc_un σ (o 3) j) 0) (p1 := fq_pre o (fc_un σ (o 3) j) 1) (p2 := fq_pre o (fc_un σ (o 3) j) 2) (p3 := fq_pre o (fc_un σ (o 3) j) 3) (w4 := j) rfl rfl rfl rfl hw0 hw1 hw2 hj20
              have hm'4 : m' = 0 ∨ m' = 1 ∨ m' = 2 ∨ m' = 3 := by omega
              rw [← hpre]
              rcases hm'4 with rfl | rfl | rfl | rfl
              · exact p1
              · exact p2
              · exact p3
              · rw [fc_us]; exact p4
            refine ih m' (fc_un σ (o 3) j) (fc_un σ (o 3) j (o m') + 1) c' (t + 1) _ (by omega) (by omega) (fun i hi => hnum i (by omega) (by omega)) ?_ (fun i hi => hch' i (by omega)) (by omega) (by omega) ?_
            · rw [(hnum m' (by omega) (by omega)).1, nI_pred]
            · rw [show 3 - m' = 4 - (m' + 1) by omega]
              exact hG'
          refine nm_r (nI_1 c) (fq_tupY (o := o) (σ := fc_un σ (o 3) j) hm4 (fun i hi => ho.1 i (by omega)) (fun i hi => hor i (by omega)) (fun i hi => (hnum i (by omega) (by omega)).1) ?_)
          rcases hfnd c _ (fq_R o 4 (m' + 1) Q (20 ^ (4 - (m' + 1)) * (fq_pre o (fc_un σ (o 3) j) (m' + 1) + 1))) _ (upd num (o 3) (nI j)) hG (fq_R_lt (n := 4) (by omega) g1) g1 g2 g3 g4 with ⟨z1, z2, z3⟩ | ⟨z1, z2⟩
          · exact br_t z1 (br_f z2 z3)
          · exact br_c (fun x0 => br_t (z1 x0) (nm_r (nI_pred m') (nm_r (nI_1 t) (hcont _ z2)))) (fun x0 => nm_r (nI_pred m') (nm_r (nI_1 t) (hcont _ z2)))
        · have hol1 := ho.1 (l + 1) (by omega)
          have hne1 : ∀ i, i < l + 1 → o i ≠ o (l + 1) := fun i hi e => by
            have := ho.2.1 i (l + 1) (by omega) (by omega) e
            omega
          have epre : fq_pre o (fc_un σ (o l) j) (l + 1) = 20 * fq_pre o σ l + j := by
            show 20 * fq_pre o (fc_un σ (o l) j) l + fc_un σ (o l) j (o l) = _
            rw [hpre, fc_us]
          have hp0 : l = 0 → fq_pre o σ l = 0 := fun z => by rw [z]; rfl
          have hdn := fq_ph_down (l := l) (p := fq_pre o σ l) (j := j) (by omega) hj20 hp0
          rw [fk_cl (f := b_order) (n := l + 1) (by omega), hor (l + 1) (by omega), nI_clamp (n := o (l + 1)) (by omega)]
          refine ⟨vp_in_nI (by omega) (by omega), vp_in_nI hol1 (by omega), nm_e (nm_r (nI_1 t) (ih (l + 1) (fc_un σ (o l) j) 0 c (t + 1) _ (by omega) (by omega) (fun i hi => ?_) ?_ hch' ?_ ?_ ?_))⟩
          · rw [pk_un (hne1 i hi)]; exact hnum i hi (by omega)
          · rw [pk_us]; decide
          · rw [epre]; omega
          · rw [epre]; omega
          · rw [epre, fq_lo_down, show 3 - (l + 1) + 1 = 3 - l by omega]
            exact hG
      · have hno' : ¬ fq_CY C qk qa ql qr row reach o l σ j := hno
        have hpj := fq_ph_j (l := l) (p := fq_pre o σ l) (j := j) (j' := j + 1) (by omega)
        refine ih l σ (j + 1) c (t + 1) _ hl (by omega) (fun i hi => ?_) ?_ hch (by omega) (by omega) ?_
        · rw [pk_un (hne i hi)]; exact hn i hi
        · rw [pk_us, nI_pred]
        · rw [← fq_skip hCH (by omega) (fun i hi => (hn i hi).2) hj20 hno']
          exact hG
end
end
section
/-! what a variable may be by one clause -/
def fq_V (row col reach : Nat → Int32) : Prop := (∀ p, p < 72 → fl_w 20 (row p)) ∧ (∀ a v e, a < 6 → v < 20 → bt (col (20 * a + v)) e = (decide (e < 12) && bt (row (12 * a + e)) v)) ∧ (∀ a x, a < 6 → x < 20 → fl_w 20 (reach (20 * a + x))) ∧ (∀ a x, a < 6 → 12 ≤ x → x < 20 → reach (20 * a + x) = 0)
theorem fv_cl_w {r : Nat → Int32} (h : ∀ x, x < 20 → fl_w 20 (r x)) : ∀ z, z ≤ 20 → ∀ x, x < 20 → fl_w 20 (fv_cl r z x)
  | 0, _, x, hx => h x hx
  | z + 1, hz, x, hx => by
    have h1 := fv_cl_w h z (by omega) x hx
    have h2 := fv_cl_w h z (by omega) z (by omega)
    simp only [fv_cl, fv_st]
    split
    · exact fl_w_or h1 h2
    · exact h1
theorem fq_V_of {L K md sn un : Nat} {a_ke a_ka a_kv a_came a_went a_now b_sets a_row a_col a_reach : Nat → Int32} (h : fr_V L K a_ke a_ka a_kv a_came a_went a_now b_sets) (h3 : fr_W L md sn un b_sets a_row a_col a_reach) : fq_V a_row a_col a_reach := by
  have hw := fr_W_w h h3
  refine ⟨hw, h3.2.2.1, fun a x ha hx => ?_, fun a x ha h12 hx => ?_⟩
  · rw [h3.2.2.2 a x ha hx]
    refine fv_cl_w (fun x hx => ?_) 12 (by omega) x hx
    unfold fv_r0
    split
    · exact hw _ (by omega)
    · exact fl_w0 20
  · rw [h3.2.2.2 a x ha hx]
    exact fv_cl_0 (fun y hy _ => by unfold fv_r0; rw [if_neg (by omega)]) 12 x h12 hx
theorem fq_shb (b : Bool) {x : Nat} (hx : x < 32) (i : Nat) : bt ((nI b.toNat) <<< (nI x &&& 31)) i = (b && decide (i = x)) := by
  cases b
  · show bt ((0 : Int32) <<< (nI x &&& 31)) i = false
    rcases Nat.lt_or_ge i 32 with hi | hi
    · rw [b_shl x hx 0 hi, b_0, Bool.and_false]
    · exact b_big hi
  · exact fl_one hx i
section
variable {f_latest f_kept f_steps f_mode f_since f_until f_clauses f_levels f_asked f_level f_assigned f_bounded : Int32} {a_kinds a_keptEntity a_keptAttribute a_keptValue a_came a_went a_now a_work a_stepKind a_stepEntity a_stepAttribute a_stepValue a_stepOther a_row a_column a_reach a_clauseKind a_clauseAttribute a_left a_right a_order a_rest a_number a_bound : Nat → Int32}
variable {C c : Nat} {qk qa ql qr : Nat → Nat} {b_along : Nat → Int32}
theorem fq_below {post : Int32 → Prop} {y : Nat} (h : post (((1 : Int32) <<< (nI y &&& 31)) - 1)) : wpX_below post (nI y) := h
theorem fq_valuesX {post : Int32 → Prop} {a x : Nat} (ha : a < 6) (hx : x < 20) (h : post (if x < 12 then a_row (12 * a + x) else 0)) : wpX_values post (f_latest, f_kept, f_steps, f_mode, f_since, f_until, f_clauses, f_levels, f_asked, f_level, f_assigned, f_bounded, a_kinds, a_keptEntity, a_keptAttribute, a_keptValue, a_came, a_went, a_now, a_work, a_stepKind, a_stepEntity, a_stepAttribute, a_stepValue, a_stepOther, a_row, a_column, a_reach, a_clauseKind, a_clauseAttribute, a_left, a_right, a_order, a_rest, a_number, a_bound) (nI a) (nI x) := by
  by_cases h12 : x < 12
  · rw [if_pos h12] at h
    refine br_f (nI_ge (b := 12) h12 (by omega)) ?_
    rw [fv_i12, fk_cl (f := a_row) (n := 12 * a + x) (by omega)]
    exact ⟨vp_in_nI (by omega) (by omega), h⟩
  · rw [if_neg h12] at h
    exact br_t (nI_le (a := 12) (by omega) (by omega)) h
theorem fq_reachX {a y : Nat} (hV : fq_V a_row a_column a_reach) (ha : a < 6) (hy : y < 20) : ∃ s : Int32, fl_w 20 s ∧ (∀ x, x < 20 → bt s x = bt (a_reach (20 * a + x)) y) ∧ ∀ post : Int32 → Prop, post s → wpX_reaching post (f_latest, f_kept, f_steps, f_mode, f_since, f_until, f_clauses, f_levels, f_asked, f_level, f_assigned, f_bounded, a_kinds, a_keptEntity, a_keptAttribute, a_keptValue, a_came, a_went, a_now, a_work, a_stepKind, a_stepEntity, a_stepAttribute, a_stepValue, a_stepOther, a_row, a_column, a_reach, a_clauseKind, a_clauseAttribute, a_left, a_right, a_order, a_rest, a_number, a_bound) (nI a) (nI y) := by
  have key : ∀ d x s, x + d = 12 → (∀ i, bt s i = (decide (i < x) && bt (a_reach (20 * a + i)) y)) → ∃ s', (∀ i, bt s' i = (decide (i < 12) && bt (a_reach (20 * a + i)) y)) ∧ ∀ post : Int32 → Prop, post s' → wX_reaching_5 post (nI a) (nI y) f_latest f_kept f_steps f_mode f_since f_until f_clauses f_levels f_asked f_level f_assigned f_bounded a_kinds a_keptEntity a_keptAttribute a_keptValue a_came a_went a_now a_work a_stepKind a_stepEntity a_stepAttribute a_stepValue a_stepOther a_row a_column a_reach a_clauseKind a_clauseAttribute a_left a_right a_order a_rest a_number a_bound (d + 1) s (nI x) := by
    intro d
    induction d with
    | zero =>
      intro x s hx hs
      have e : x = 12 := by omega
      subst e
      exact ⟨s, hs, fun post h => br_t (nI_le (a := 12) (by omega) (by omega)) h⟩
    | succ d ih =>
      intro x s hx hs
      obtain ⟨s', h1, h2⟩ := ih (x + 1) (s ||| ((((a_reach (20 * a + x)) >>> (nI y &&& 31)) &&& 1) <<< (nI x &&& 31))) (by omega) (fun i => by
        rw [b_or, hs i, fl_bit _ (by omega), fq_shb _ (by omega)]
        by_cases hz : i = x
        · subst hz
          rw [decide_eq_false (by omega), decide_eq_true rfl, decide_eq_true (by omega)]
          simp
        · rw [decide_eq_false hz, Bool.and_false, Bool.or_false]
          congr 1
          by_cases hlt : i < x
          · rw [decide_eq_true hlt, decide_eq_true (by omega)]
          · rw [decide_eq_false hlt, decide_eq_false (by omega)])
      refine ⟨s', h1, fun post h => br_f (nI_ge (b := 12) (by omega) (by omega)) ?_⟩
      rw [fv_i20, fk_cl (f := a_reach) (n := 20 * a + x) (by omega)]
      exact ⟨vp_in_nI (by omega) (by omega), nm_e (nm_r (nI_1 x) (h2 post h))⟩
  obtain ⟨s, h1, h2⟩ := key 12 0 0 rfl (fun i => by rw [b_0, decide_eq_false (by omega)]; rfl)
  refine ⟨s, fun i hi => by rw [h1 i, decide_eq_false (by omega)]; rfl, fun x hx => ?_, fun post h => ⟨_, h2 post h⟩⟩
  rw [h1 x]
  by_cases h12 : x < 12
  · rw [decide_eq_true h12, Bool.true_and]
  · rw [hV.2.2.2 a x ha (by omega) hx, b_0, Bool.and_false]
theorem fq_rightX {x : Nat} (hV : fq_V a_row a_column a_reach) (hK : fq_K C qk qa ql qr a_clauseKind a_clauseAttribute a_left a_right b_along) (hc : c < C) (hx : x < 20) : ∃ s : Int32, fl_w 20 s ∧ (∀ y, y < 20 → bt s y = fq_h a_row a_reach (qk c) (qa c) x y) ∧ ∀ post : Int32 → Prop, post s → wpX_rightChoices post (f_latest, f_kept, f_steps, f_mode, f_since, f_until, f_clauses, f_levels, f_asked, f_level, f_assigned, f_bounded, a_kinds, a_keptEntity, a_keptAttribute, a_keptValue, a_came, a_went, a_now, a_work, a_stepKind, a_stepEntity, a_stepAttribute, a_stepValue, a_stepOther, a_row, a_column, a_reach, a_clauseKind, a_clauseAttribute, a_left, a_right, a_order, a_rest, a_number, a_bound) (nI c) (nI x) := by
  obtain ⟨⟨b1, b2, b3, b4⟩, e1, e2, e3, e4, e5⟩ := hK.2 c hc
  have hC6 := hK.1
  have hin : vp_in (nI c) 6 := vp_in_nI (by omega) (by omega)
  have E1 : a_clauseKind (nI c).toNatClampNeg = nI (qk c) := by rw [nI_clamp (by omega), e1]
  have E2 : a_clauseAttribute (nI c).toNatClampNeg = nI (qa c) := by rw [nI_clamp (by omega), e2]
  generalize qa c = a at *
  generalize qk c = k at *
  have hk5 : k = 0 ∨ k = 1 ∨ k = 2 ∨ k = 3 ∨ k = 4 := by omega
  have hvw : fl_w 20 (if x < 12 then a_row (12 * a + x) else 0) := by
    split
    · exact hV.1 _ (by omega)
    · exact fl_w0 20
  have hvb : ∀ y, bt (if x < 12 then a_row (12 * a + x) else 0) y = (decide (x < 12) && bt (a_row (12 * a + x)) y) := fun y => by
    by_cases h12 : x < 12
    · rw [if_pos h12, decide_eq_true h12, Bool.true_and]
    · rw [if_neg h12, decide_eq_false h12, b_0, Bool.false_and]
  rcases hk5 with rfl | rfl | rfl | rfl | rfl
  · exact ⟨_, hvw, fun y hy => hvb y, fun post h => ⟨hin, nm_r E2 ⟨hin, nm_r E1 (br_f (by decide) (br_f (by decide) (br_t rfl (fq_valuesX b2 hx h))))⟩⟩⟩
  · refine ⟨_, fl_w_and fl_w_all, fun y hy => ?_, fun post h => ⟨hin, nm_r E2 ⟨hin, nm_r E1 (br_f (by decide) (br_f (by decide) (br_f (by decide) (br_t rfl (fq_valuesX b2 hx h)))))⟩⟩⟩
    rw [b_and, fl_all, decide_eq_true hy, Bool.true_and, fl_not _ (by omega), hvb y]; rfl
  · refine ⟨1048575 &&& ((((1 : Int32) <<< (nI (x + 1) &&& 31)) - 1) ^^^ (-1)), fl_w_and fl_w_all, fun y hy => ?_, fun post h => ⟨hin, nm_r E2 ⟨hin, nm_r E1 (br_f (by decide) (br_f (by decide) (br_f (by decide) (br_f (by decide) (br_t rfl ?_)))))⟩⟩⟩
    · rw [b_and, fl_all, decide_eq_true hy, Bool.true_and, fl_not _ (by omega), fl_below (by omega)]
      show (!decide (y < x + 1)) = decide (x < y)
      rw [Bool.eq_iff_iff]; simp; omega
    · rw [nI_1]; exact h
  · refine ⟨_, fl_w_and fl_w_all, fun y hy => ?_, fun post h => ⟨hin, nm_r E2 ⟨hin, nm_r E1 (br_f (by decide) (br_f (by decide) (br_f (by decide) (br_f (by decide) (br_f (by decide) (br_t rfl h))))))⟩⟩⟩
    rw [b_and, fl_all, decide_eq_true hy, Bool.true_and, fl_not _ (by omega), fl_one (by omega)]
    show (!decide (y = x)) = decide (x ≠ y)
    rw [Bool.eq_iff_iff]; simp; omega
  · refine ⟨a_reach (20 * a + x), hV.2.2.1 a x b2 hx, fun y hy => rfl, fun post h => ⟨hin, nm_r E2 ⟨hin, nm_r E1 (br_f (by decide) (br_t (by decide) ?_))⟩⟩⟩
    rw [fv_i20, fk_cl (f := a_reach) (n := 20 * a + x) (by omega)]
    exact ⟨vp_in_nI (by omega) (by omega), h⟩
theorem fq_leftX {y : Nat} (hV : fq_V a_row a_column a_reach) (hK : fq_K C qk qa ql qr a_clauseKind a_clauseAttribute a_left a_right b_along) (hc : c < C) (hy : y < 20) : ∃ s : Int32, fl_w 20 s ∧ (∀ x, x < 20 → bt s x = fq_h a_row a_reach (qk c) (qa c) x y) ∧ ∀ post : Int32 → Prop, post s → wpX_leftChoices post (f_latest, f_kept, f_steps, f_mode, f_since, f_until, f_clauses, f_levels, f_asked, f_level, f_assigned, f_bounded, a_kinds, a_keptEntity, a_keptAttribute, a_keptValue, a_came, a_went, a_now, a_work, a_stepKind, a_stepEntity, a_stepAttribute, a_stepValue, a_stepOther, a_row, a_column, a_reach, a_clauseKind, a_clauseAttribute, a_left, a_right, a_order, a_rest, a_number, a_bound) (nI c) (nI y) := by
  obtain ⟨⟨b1, b2, b3, b4⟩, e1, e2, e3, e4, e5⟩ := hK.2 c hc
  have hC6 := hK.1
  have hin : vp_in (nI c) 6 := vp_in_nI (by omega) (by omega)
  have E1 : a_clauseKind (nI c).toNatClampNeg = nI (qk c) := by rw [nI_clamp (by omega), e1]
  have E2 : a_clauseAttribute (nI c).toNatClampNeg = nI (qa c) := by rw [nI_clamp (by omega), e2]
  generalize qa c = a at *
  generalize qk c = k at *
  have hk5 : k = 0 ∨ k = 1 ∨ k = 2 ∨ k = 3 ∨ k = 4 := by omega
  have hcw : fl_w 20 (a_column (20 * a + y)) := fun e he => by rw [hV.2.1 a y e b2 hy, decide_eq_false (by omega)]; rfl
  rcases hk5 with rfl | rfl | rfl | rfl | rfl
  · refine ⟨a_column (20 * a + y), hcw, fun x hx => hV.2.1 a y x b2 hy, fun post h => ⟨hin, nm_r E2 ⟨hin, nm_r E1 (br_f (by decide) (br_f (by decide) (br_t rfl ?_)))⟩⟩⟩
    rw [fv_i20, fk_cl (f := a_column) (n := 20 * a + y) (by omega)]
    exact ⟨vp_in_nI (by omega) (by omega), h⟩
  · refine ⟨1048575 &&& (a_column (20 * a + y) ^^^ (-1)), fl_w_and fl_w_all, fun x hx => ?_, fun post h => ⟨hin, nm_r E2 ⟨hin, nm_r E1 (br_f (by decide) (br_f (by decide) (br_f (by decide) (br_t rfl ?_))))⟩⟩⟩
    · rw [b_and, fl_all, decide_eq_true hx, Bool.true_and, fl_not _ (by omega), hV.2.1 a y x b2 hy]; rfl
    · rw [fv_i20, fk_cl (f := a_column) (n := 20 * a + y) (by omega)]
      exact ⟨vp_in_nI (by omega) (by omega), h⟩
  · refine ⟨((1 : Int32) <<< (nI y &&& 31)) - 1, fun i hi => by rw [fl_below (by omega), decide_eq_false (by omega)], fun x hx => ?_, fun post h => ⟨hin, nm_r E2 ⟨hin, nm_r E1 (br_f (by decide) (br_f (by decide) (br_f (by decide) (br_f (by decide) (br_t rfl h)))))⟩⟩⟩
    rw [fl_below (by omega)]; rfl
  · refine ⟨_, fl_w_and fl_w_all, fun x hx => ?_, fun post h => ⟨hin, nm_r E2 ⟨hin, nm_r E1 (br_f (by decide) (br_f (by decide) (br_f (by decide) (br_f (by decide) (br_f (by decide) (br_t rfl h))))))⟩⟩⟩
    rw [b_and, fl_all, decide_eq_true hx, Bool.true_and, fl_not _ (by omega), fl_one (by omega)]
    show (!decide (x = y)) = decide (x ≠ y)
    rw [Bool.eq_iff_iff]; simp
  · obtain ⟨s, s1, s2, s3⟩ := fq_reachX (a := a) (y := y) hV b2 hy (f_latest := f_latest) (f_kept := f_kept) (f_steps := f_steps) (f_mode := f_mode) (f_since := f_since) (f_until := f_until) (f_clauses := f_clauses) (f_levels := f_levels) (f_asked := f_asked) (f_level := f_level) (f_assigned := f_assigned) (f_bounded := f_bounded) (a_kinds := a_kinds) (a_keptEntity := a_keptEntity) (a_keptAttribute := a_keptAttribute) (a_keptValue := a_keptValue) (a_came := a_came) (a_went := a_went) (a_now := a_now) (a_work := a_work) (a_stepKind := a_stepKind) (a_stepEntity := a_stepEntity) (a_stepAttribute := a_stepAttribute) (a_stepValue := a_stepValue) (a_stepOther := a_stepOther) (a_clauseKind := a_clauseKind) (a_clauseAttribute := a_clauseAttribute) (a_left := a_left) (a_right := a_right) (a_order := a_order) (a_rest := a_rest) (a_number := a_number) (a_bound := a_bound)
    exact ⟨s, s1, fun x hx => s2 x hx, fun post h => ⟨hin, nm_r E2 ⟨hin, nm_r E1 (br_f (by decide) (br_t (by decide) (s3 _ h)))⟩⟩⟩
end
end
section
/-! what a variable may be by all clauses -/
def fq_cbP (Kn : Nat → Prop) (σ : Nat → Nat) (h : Nat → Nat → Bool) (x y v w : Nat) : Prop :=
  (x = 20 + v → y = 20 + v → h w w = true) ∧
  (x = 20 + v → y ≠ 20 + v → (y < 20 → h w y = true) ∧ (20 ≤ y → Kn (y - 20) → h w (σ (y - 20)) = true) ∧ (20 ≤ y → ¬ Kn (y - 20) → ∃ z, z < 20 ∧ h w z = true)) ∧
  (x ≠ 20 + v → y = 20 + v → (x < 20 → h x w = true) ∧ (20 ≤ x → Kn (x - 20) → h (σ (x - 20)) w = true) ∧ (20 ≤ x → ¬ Kn (x - 20) → ∃ z, z < 20 ∧ h z w = true))
section
variable {f_latest f_kept f_steps f_mode f_since f_until f_clauses f_levels f_asked f_level f_assigned f_bounded : Int32} {a_kinds a_keptEntity a_keptAttribute a_keptValue a_came a_went a_now a_work a_stepKind a_stepEntity a_stepAttribute a_stepValue a_stepOther a_row a_column a_reach a_clauseKind a_clauseAttribute a_left a_right a_order a_rest a_number a_bound : Nat → Int32}
variable {C c m : Nat} {qk qa ql qr o β : Nat → Nat} {b_along : Nat → Int32} {Kn : Nat → Prop} {σ : Nat → Nat}
theorem fq_sameX (hV : fq_V a_row a_column a_reach) (hK : fq_K C qk qa ql qr a_clauseKind a_clauseAttribute a_left a_right b_along) (hc : c < C) : ∃ s : Int32, fl_w 20 s ∧ (∀ w, w < 20 → bt s w = fq_h a_row a_reach (qk c) (qa c) w w) ∧ ∀ post : Int32 → Prop, post s → wpX_sameChoices post (f_latest, f_kept, f_steps, f_mode, f_since, f_until, f_clauses, f_levels, f_asked, f_level, f_assigned, f_bounded, a_kinds, a_keptEntity, a_keptAttribute, a_keptValue, a_came, a_went, a_now, a_work, a_stepKind, a_stepEntity, a_stepAttribute, a_stepValue, a_stepOther, a_row, a_column, a_reach, a_clauseKind, a_clauseAttribute, a_left, a_right, a_order, a_rest, a_number, a_bound) (nI c) := by
  have key : ∀ d x s, x + d = 20 → (∀ i, bt s i = (decide (i < x) && fq_h a_row a_reach (qk c) (qa c) i i)) → ∃ s', (∀ i, bt s' i = (decide (i < 20) && fq_h a_row a_reach (qk c) (qa c) i i)) ∧ ∀ post : Int32 → Prop, post s' → wX_sameChoices_4 post (nI c) f_latest f_kept f_steps f_mode f_since f_until f_clauses f_levels f_asked f_level f_assigned f_bounded a_kinds a_keptEntity a_keptAttribute a_keptValue a_came a_went a_now a_work a_stepKind a_stepEntity a_stepAttribute a_stepValue a_stepOther a_row a_column a_reach a_clauseKind a_clauseAttribute a_left a_right a_order a_rest a_number a_bound (d + 1) s (nI x) := by
    intro d
    induction d with
    | zero =>
      intro x s hx hs
      have e : x = 20 := by omega
      subst e
      exact ⟨s, hs, fun post h => br_t (nI_le (a := 20) (by omega) (by omega)) h⟩
    | succ d ih =>
      intro x s hx hs
      obtain ⟨t, t1, t2, t3⟩ := fq_rightX (x := x) hV hK hc (by omega) (f_latest := f_latest) (f_kept := f_kept) (f_steps := f_steps) (f_mode := f_mode) (f_since := f_since) (f_until := f_until) (f_clauses := f_clauses) (f_levels := f_levels) (f_asked := f_asked) (f_level := f_level) (f_assigned := f_assigned) (f_bounded := f_bounded) (a_kinds := a_kinds) (a_keptEntity := a_keptEntity) (a_keptAttribute := a_keptAttribute) (a_keptValue := a_keptValue) (a_came := a_came) (a_went := a_went) (a_now := a_now) (a_work := a_work) (a_stepKind := a_stepKind) (a_stepEntity := a_stepEntity) (a_stepAttribute := a_stepAttribute) (a_stepValue := a_stepValue) (a_stepOther := a_stepOther) (a_order := a_order) (a_rest := a_rest) (a_number := a_number) (a_bound := a_bound)
      obtain ⟨s', h1, h2⟩ := ih (x + 1) (s ||| (t &&& ((1 : Int32) <<< (nI x &&& 31)))) (by omega) (fun i => by
        rw [b_or, hs i, b_and, fl_one (by omega)]
        by_cases hz : i = x
        · subst hz
          rw [t2 i (by omega), decide_eq_false (by omega), decide_eq_true rfl, decide_eq_true (by omega)]
          simp
        · rw [decide_eq_false hz, Bool.and_false, Bool.or_false]
          congr 1
          by_cases hlt : i < x
          · rw [decide_eq_true hlt, decide_eq_true (by omega)]
          · rw [decide_eq_false hlt, decide_eq_false (by omega)])
      exact ⟨s', h1, fun post h => br_f (nI_ge (b := 20) (by omega) (by omega)) (t3 _ (nm_e (nm_r (nI_1 x) (h2 post h))))⟩
  obtain ⟨s, h1, h2⟩ := key 20 0 0 rfl (fun i => by rw [b_0, decide_eq_false (by omega)]; rfl)
  refine ⟨s, fun i hi => by rw [h1 i, decide_eq_false (by omega)]; rfl, fun w hw => by rw [h1 w, decide_eq_true hw, Bool.true_and], fun post h => ⟨_, h2 post h⟩⟩
theorem fq_unL (hV : fq_V a_row a_column a_reach) (hK : fq_K C qk qa ql qr a_clauseKind a_clauseAttribute a_left a_right b_along) (hc : c < C) {h : Nat → Nat → Bool} (hh : h = fq_h a_row a_reach (qk c) (qa c)) : ∃ s : Int32, fl_w 20 s ∧ (∀ w, w < 20 → (bt s w = true ↔ ∃ z, z < 20 ∧ h w z = true)) ∧ ∀ post : Int32 → Prop, post s → ∃ n, wX_choicesBy_126 post (nI c) 1 f_latest f_kept f_steps f_mode f_since f_until f_clauses f_levels f_asked f_level f_assigned f_bounded a_kinds a_keptEntity a_keptAttribute a_keptValue a_came a_went a_now a_work a_stepKind a_stepEntity a_stepAttribute a_stepValue a_stepOther a_row a_column a_reach a_clauseKind a_clauseAttribute a_left a_right a_order a_rest a_number a_bound n 0 0 := by
  have key : ∀ d x s, x + d = 20 → fl_w 20 s → (∀ w, w < 20 → (bt s w = true ↔ ∃ z, z < x ∧ h w z = true)) → ∃ s', fl_w 20 s' ∧ (∀ w, w < 20 → (bt s' w = true ↔ ∃ z, z < 20 ∧ h w z = true)) ∧ ∀ post : Int32 → Prop, post s' → wX_choicesBy_126 post (nI c) 1 f_latest f_kept f_steps f_mode f_since f_until f_clauses f_levels f_asked f_level f_assigned f_bounded a_kinds a_keptEntity a_keptAttribute a_keptValue a_came a_went a_now a_work a_stepKind a_stepEntity a_stepAttribute a_stepValue a_stepOther a_row a_column a_reach a_clauseKind a_clauseAttribute a_left a_right a_order a_rest a_number a_bound (d + 1) s (nI x) := by
    intro d
    induction d with
    | zero =>
      intro x s hx hw hs
      have e : x = 20 := by omega
      subst e
      exact ⟨s, hw, hs, fun post h => br_t (nI_le (a := 20) (by omega) (by omega)) h⟩
    | succ d ih =>
      intro x s hx hw hs
      obtain ⟨t, t1, t2, t3⟩ := fq_leftX (C := C) (c := c) hV hK hc (show x < 20 by omega) (f_latest := f_latest) (f_kept := f_kept) (f_steps := f_steps) (f_mode := f_mode) (f_since := f_since) (f_until := f_until) (f_clauses := f_clauses) (f_levels := f_levels) (f_asked := f_asked) (f_level := f_level) (f_assigned := f_assigned) (f_bounded := f_bounded) (a_kinds := a_kinds) (a_keptEntity := a_keptEntity) (a_keptAttribute := a_keptAttribute) (a_keptValue := a_keptValue) (a_came := a_came) (a_went := a_went) (a_now := a_now) (a_work := a_work) (a_stepKind := a_stepKind) (a_stepEntity := a_stepEntity) (a_stepAttribute := a_stepAttribute) (a_stepValue := a_stepValue) (a_stepOther := a_stepOther) (a_order := a_order) (a_rest := a_rest) (a_number := a_number) (a_bound := a_bound)
      obtain ⟨s', h0, h1, h2⟩ := ih (x + 1) (s ||| t) (by omega) (fl_w_or hw t1) (fun w hw20 => by
        rw [b_or, Bool.or_eq_true, hs w hw20, t2 w hw20, ← hh]
        constructor
        · rintro (⟨z, z1, z2⟩ | z2)
          · exact ⟨z, by omega, z2⟩
          · exact ⟨x, by omega, z2⟩
        · rintro ⟨z, z1, z2⟩
          by_cases hz : z = x
          · subst hz; exact Or.inr z2
          · exact Or.inl ⟨z, by omega, z2⟩)
      exact ⟨s', h0, h1, fun post h => br_f (nI_ge (b := 20) (by omega) (by omega)) (br_f fk_10 (t3 _ (nm_e (nm_r (nI_1 x) (h2 post h)))))⟩
  obtain ⟨s, h0, h1, h2⟩ := key 20 0 0 rfl (fl_w0 20) (fun w _ => by
    rw [b_0]
    exact ⟨fun z => absurd z (by decide), fun ⟨z, z1, _⟩ => absurd z1 (by omega)⟩)
  exact ⟨s, h0, h1, fun post h => ⟨_, h2 post h⟩⟩
theorem fq_unR (hV : fq_V a_row a_column a_reach) (hK : fq_K C qk qa ql qr a_clauseKind a_clauseAttribute a_left a_right b_along) (hc : c < C) {h : Nat → Nat → Bool} (hh : h = fq_h a_row a_reach (qk c) (qa c)) : ∃ s : Int32, fl_w 20 s ∧ (∀ w, w < 20 → (bt s w = true ↔ ∃ z, z < 20 ∧ h z w = true)) ∧ ∀ post : Int32 → Prop, post s → ∃ n, wX_choicesBy_126 post (nI c) 0 f_latest f_kept f_steps f_mode f_since f_until f_clauses f_levels f_asked f_level f_assigned f_bounded a_kinds a_keptEntity a_keptAttribute a_keptValue a_came a_went a_now a_work a_stepKind a_stepEntity a_stepAttribute a_stepValue a_stepOther a_row a_column a_reach a_clauseKind a_clauseAttribute a_left a_right a_order a_rest a_number a_bound n 0 0 := by
  have key : ∀ d x s, x + d = 20 → fl_w 20 s → (∀ w, w < 20 → (bt s w = true ↔ ∃ z, z < x ∧ h z w = true)) → ∃ s', fl_w 20 s' ∧ (∀ w, w < 20 → (bt s' w = true ↔ ∃ z, z < 20 ∧ h z w = true)) ∧ ∀ post : Int32 → Prop, post s' → wX_choicesBy_126 post (nI c) 0 f_latest f_kept f_steps f_mode f_since f_until f_clauses f_levels f_asked f_level f_assigned f_bounded a_kinds a_keptEntity a_keptAttribute a_keptValue a_came a_went a_now a_work a_stepKind a_stepEntity a_stepAttribute a_stepValue a_stepOther a_row a_column a_reach a_clauseKind a_clauseAttribute a_left a_right a_order a_rest a_number a_bound (d + 1) s (nI x) := by
    intro d
    induction d with
    | zero =>
      intro x s hx hw hs
      have e : x = 20 := by omega
      subst e
      exact ⟨s, hw, hs, fun post h => br_t (nI_le (a := 20) (by omega) (by omega)) h⟩
    | succ d ih =>
      intro x s hx hw hs
      obtain ⟨t, t1, t2, t3⟩ := fq_rightX (C := C) (c := c) hV hK hc (show x < 20 by omega) (f_latest := f_latest) (f_kept := f_kept) (f_steps := f_steps) (f_mode := f_mode) (f_since := f_since) (f_until := f_until) (f_clauses := f_clauses) (f_levels := f_levels) (f_asked := f_asked) (f_level := f_level) (f_assigned := f_assigned) (f_bounded := f_bounded) (a_kinds := a_kinds) (a_keptEntity := a_keptEntity) (a_keptAttribute := a_keptAttribute) (a_keptValue := a_keptValue) (a_came := a_came) (a_went := a_went) (a_now := a_now) (a_work := a_work) (a_stepKind := a_stepKind) (a_stepEntity := a_stepEntity) (a_stepAttribute := a_stepAttribute) (a_stepValue := a_stepValue) (a_stepOther := a_stepOther) (a_order := a_order) (a_rest := a_rest) (a_number := a_number) (a_bound := a_bound)
      obtain ⟨s', h0, h1, h2⟩ := ih (x + 1) (s ||| t) (by omega) (fl_w_or hw t1) (fun w hw20 => by
        rw [b_or, Bool.or_eq_true, hs w hw20, t2 w hw20, ← hh]
        constructor
        · rintro (⟨z, z1, z2⟩ | z2)
          · exact ⟨z, by omega, z2⟩
          · exact ⟨x, by omega, z2⟩
        · rintro ⟨z, z1, z2⟩
          by_cases hz : z = x
          · subst hz; exact Or.inr z2
          · exact Or.inl ⟨z, by omega, z2⟩)
      exact ⟨s', h0, h1, fun post h => br_f (nI_ge (b := 20) (by omega) (by omega)) (br_t rfl (t3 _ (nm_e (nm_r (nI_1 x) (h2 post h)))))⟩
  obtain ⟨s, h0, h1, h2⟩ := key 20 0 0 rfl (fl_w0 20) (fun w _ => by
    rw [b_0]
    exact ⟨fun z => absurd z (by decide), fun ⟨z, z1, _⟩ => absurd z1 (by omega)⟩)
  exact ⟨s, h0, h1, fun post h => ⟨_, h2 post h⟩⟩
theorem fq_valX {post : Int32 → Prop} {x : Nat} (hx : x < 24) (hA : ∀ k, k < 4 → (bt f_assigned k = true ↔ Kn k)) (hN : ∀ k, k < 4 → Kn k → a_number k = nI (σ k))
    (h1 : x < 20 → post (nI x)) (h2 : 20 ≤ x → Kn (x - 20) → post (nI (σ (x - 20)))) (h3 : 20 ≤ x → ¬ Kn (x - 20) → post (-1)) : wpX_valueOf post (f_latest, f_kept, f_steps, f_mode, f_since, f_until, f_clauses, f_levels, f_asked, f_level, f_assigned, f_bounded, a_kinds, a_keptEntity, a_keptAttribute, a_keptValue, a_came, a_went, a_now, a_work, a_stepKind, a_stepEntity, a_stepAttribute, a_stepValue, a_stepOther, a_row, a_column, a_reach, a_clauseKind, a_clauseAttribute, a_left, a_right, a_order, a_rest, a_number, a_bound) (nI x) := by
  by_cases h20 : 20 ≤ x
  · have e : nI x - 20 = nI (x - 20) := pk_sub (b := 20) h20
    refine br_t (nI_le (a := 20) h20 (by omega)) ?_
    rw [e, fk_cl (f := a_number) (n := x - 20) (by omega)]
    refine fl_br1 (x - 20) (by omega) (fun hb => ⟨vp_in_nI (by omega) (by omega), ?_⟩) (fun hb => h3 h20 (fun hk => ?_))
    · have hk := (hA _ (by omega)).mp hb
      rw [hN _ (by omega) hk]
      exact h2 h20 hk
    · rw [← hA _ (by omega), hb] at hk
      exact absurd hk (by decide)
  · exact br_f (nI_ge (b := 20) (by omega) (by omega)) (h1 (by omega))
theorem fq_byX {v : Nat} (hv : v < 4) (hV : fq_V a_row a_column a_reach) (hK : fq_K C qk qa ql qr a_clauseKind a_clauseAttribute a_left a_right b_along) (hc : c < C) (hA : ∀ k, k < 4 → (bt f_assigned k = true ↔ Kn k)) (hN : ∀ k, k < 4 → Kn k → a_number k = nI (σ k) ∧ σ k < 20) :
    ∃ s : Int32, fl_w 20 s ∧ (∀ w, w < 20 → (bt s w = true ↔ fq_cbP Kn σ (fq_h a_row a_reach (qk c) (qa c)) (ql c) (qr c) v w)) ∧ ∀ post : Int32 → Prop, post s → wpX_choicesBy post (f_latest, f_kept, f_steps, f_mode, f_since, f_until, f_clauses, f_levels, f_asked, f_level, f_assigned, f_bounded, a_kinds, a_keptEntity, a_keptAttribute, a_keptValue, a_came, a_went, a_now, a_work, a_stepKind, a_stepEntity, a_stepAttribute, a_stepValue, a_stepOther, a_row, a_column, a_reach, a_clauseKind, a_clauseAttribute, a_left, a_right, a_order, a_rest, a_number, a_bound) (nI c) (nI v) := by
  obtain ⟨⟨b1, b2, b3, b4⟩, e1, e2, e3, e4, e5⟩ := hK.2 c hc
  have hC6 := hK.1
  have hin : vp_in (nI c) 6 := vp_in_nI (by omega) (by omega)
  have E3 : a_left (nI c).toNatClampNeg = nI (ql c) := by rw [nI_clamp (by omega), e3]
  have E4 : a_right (nI c).toNatClampNeg = nI (qr c) := by rw [nI_clamp (by omega), e4]
  have ev : (20 : Int32) + nI v = nI (20 + v) := nI_add 20 v
  have q1 : ∀ {A B : Prop}, ql c = 20 + v → A → (((nI (ql c) = nI (20 + v)) → A) ∧ (¬ nI (ql c) = nI (20 + v) → B)) := fun z a => br_t (congrArg nI z) a
  have q2 : ∀ {A B : Prop}, ql c ≠ 20 + v → B → (((nI (ql c) = nI (20 + v)) → A) ∧ (¬ nI (ql c) = nI (20 + v) → B)) := fun z b => br_f (fun z' => z ((nI_eq (by omega) (by omega)).mp z')) b
  have q3 : ∀ {A B : Prop}, qr c = 20 + v → A → (((nI (qr c) = nI (20 + v)) → A) ∧ (¬ nI (qr c) = nI (20 + v) → B)) := fun z a => br_t (congrArg nI z) a
  have q4 : ∀ {A B : Prop}, qr c ≠ 20 + v → B → (((nI (qr c) = nI (20 + v)) → A) ∧ (¬ nI (qr c) = nI (20 + v) → B)) := fun z b => br_f (fun z' => z ((nI_eq (by omega) (by omega)).mp z')) b
  have hne : ql c ≠ qr c → ¬ nI (ql c) = nI (qr c) := fun z z' => z ((nI_eq (by omega) (by omega)).mp z')
  generalize hh : fq_h a_row a_reach (qk c) (qa c) = h
  by_cases hx : ql c = 20 + v
  · by_cases hy : qr c = 20 + v
    · obtain ⟨s, s1, s2, s3⟩ := fq_sameX hV hK hc (f_latest := f_latest) (f_kept := f_kept) (f_steps := f_steps) (f_mode := f_mode) (f_since := f_since) (f_until := f_until) (f_clauses := f_clauses) (f_levels := f_levels) (f_asked := f_asked) (f_level := f_level) (f_assigned := f_assigned) (f_bounded := f_bounded) (a_kinds := a_kinds) (a_keptEntity := a_keptEntity) (a_keptAttribute := a_keptAttribute) (a_keptValue := a_keptValue) (a_came := a_came) (a_went := a_went) (a_now := a_now) (a_work := a_work) (a_stepKind := a_stepKind) (a_stepEntity := a_stepEntity) (a_stepAttribute := a_stepAttribute) (a_stepValue := a_stepValue) (a_stepOther := a_stepOther) (a_order := a_order) (a_rest := a_rest) (a_number := a_number) (a_bound := a_bound)
      refine ⟨s, s1, fun w hw => ?_, fun post hp => nm_r ev ⟨hin, ?_⟩⟩
      · rw [s2 w hw, hh]
        exact ⟨fun z => ⟨fun _ _ => z, fun _ z2 => absurd hy z2, fun z2 => absurd hx z2⟩, fun z => z.1 hx hy⟩
      · rw [E3, E4]
        refine q1 hx ?_
        unfold wX_choicesBy_28
        rw [E3, E4]
        exact ⟨hin, hin, br_t (congrArg nI (hx.trans hy.symm)) (s3 _ hp)⟩
    · have hlr : ¬ nI (ql c) = nI (qr c) := hne (by omega)
      have hwalk : ∀ post : Int32 → Prop, wX_choicesBy_87 post (nI c) 1 (nI (qr c)) f_latest f_kept f_steps f_mode f_since f_until f_clauses f_levels f_asked f_level f_assigned f_bounded a_kinds a_keptEntity a_keptAttribute a_keptValue a_came a_went a_now a_work a_stepKind a_stepEntity a_stepAttribute a_stepValue a_stepOther a_row a_column a_reach a_clauseKind a_clauseAttribute a_left a_right a_order a_rest a_number a_bound → wpX_choicesBy post (f_latest, f_kept, f_steps, f_mode, f_since, f_until, f_clauses, f_levels, f_asked, f_level, f_assigned, f_bounded, a_kinds, a_keptEntity, a_keptAttribute, a_keptValue, a_came, a_went, a_now, a_work, a_stepKind, a_stepEntity, a_stepAttribute, a_stepValue, a_stepOther, a_row, a_column, a_reach, a_clauseKind, a_clauseAttribute, a_left, a_right, a_order, a_rest, a_number, a_bound) (nI c) (nI v) := fun post hp => by
        refine nm_r ev ⟨hin, ?_⟩
        rw [E3, E4]
        refine q1 hx ?_
        unfold wX_choicesBy_28
        rw [E3, E4]
        refine ⟨hin, hin, br_f hlr ⟨hin, q1 hx (br_f fk_10 ⟨hin, ?_⟩)⟩⟩
        rw [E4]
        exact hp
      have hcb : ∀ w, fq_cbP Kn σ h (ql c) (qr c) v w ↔ ((qr c < 20 → h w (qr c) = true) ∧ (20 ≤ qr c → Kn (qr c - 20) → h w (σ (qr c - 20)) = true) ∧ (20 ≤ qr c → ¬ Kn (qr c - 20) → ∃ z, z < 20 ∧ h w z = true)) := fun w =>
        ⟨fun z => z.2.1 hx hy, fun z => ⟨fun _ z2 => absurd z2 hy, fun _ _ => z, fun z2 => absurd hx z2⟩⟩
      by_cases hy20 : qr c < 20
      · obtain ⟨s, s1, s2, s3⟩ := fq_leftX (C := C) (c := c) hV hK hc hy20 (f_latest := f_latest) (f_kept := f_kept) (f_steps := f_steps) (f_mode := f_mode) (f_since := f_since) (f_until := f_until) (f_clauses := f_clauses) (f_levels := f_levels) (f_asked := f_asked) (f_level := f_level) (f_assigned := f_assigned) (f_bounded := f_bounded) (a_kinds := a_kinds) (a_keptEntity := a_keptEntity) (a_keptAttribute := a_keptAttribute) (a_keptValue := a_keptValue) (a_came := a_came) (a_went := a_went) (a_now := a_now) (a_work := a_work) (a_stepKind := a_stepKind) (a_stepEntity := a_stepEntity) (a_stepAttribute := a_stepAttribute) (a_stepValue := a_stepValue) (a_stepOther := a_stepOther) (a_order := a_order) (a_rest := a_rest) (a_number := a_number) (a_bound := a_bound)
        refine ⟨s, s1, fun w hw => ?_, fun post hp => hwalk post (fq_valX (Kn := Kn) (σ := σ) b4 hA (fun k hk hkn => (hN k hk hkn).1) (fun _ => br_f (nI_pos (by omega)) (br_f fk_10 (s3 _ hp))) (fun z => absurd z (by omega)) (fun z => absurd z (by omega)))⟩
        rw [s2 w hw, hh, hcb]
        exact ⟨fun z => ⟨fun _ => z, fun z2 => absurd z2 (by omega), fun z2 => absurd z2 (by omega)⟩, fun z => z.1 hy20⟩
      · by_cases hkn : Kn (qr c - 20)
        · have hσ := (hN _ (by omega) hkn).2
          obtain ⟨s, s1, s2, s3⟩ := fq_leftX (C := C) (c := c) hV hK hc hσ (f_latest := f_latest) (f_kept := f_kept) (f_steps := f_steps) (f_mode := f_mode) (f_since := f_since) (f_until := f_until) (f_clauses := f_clauses) (f_levels := f_levels) (f_asked := f_asked) (f_level := f_level) (f_assigned := f_assigned) (f_bounded := f_bounded) (a_kinds := a_kinds) (a_keptEntity := a_keptEntity) (a_keptAttribute := a_keptAttribute) (a_keptValue := a_keptValue) (a_came := a_came) (a_went := a_went) (a_now := a_now) (a_work := a_work) (a_stepKind := a_stepKind) (a_stepEntity := a_stepEntity) (a_stepAttribute := a_stepAttribute) (a_stepValue := a_stepValue) (a_stepOther := a_stepOther) (a_order := a_order) (a_rest := a_rest) (a_number := a_number) (a_bound := a_bound)
          refine ⟨s, s1, fun w hw => ?_, fun post hp => hwalk post (fq_valX (Kn := Kn) (σ := σ) b4 hA (fun k hk hkn => (hN k hk hkn).1) (fun z => absurd z hy20) (fun _ _ => br_f (nI_pos (by omega)) (br_f fk_10 (s3 _ hp))) (fun _ z => absurd hkn z))⟩
          rw [s2 w hw, hh, hcb]
          exact ⟨fun z => ⟨fun z2 => absurd z2 hy20, fun _ _ => z, fun _ z2 => absurd hkn z2⟩, fun z => z.2.1 (by omega) hkn⟩
        · obtain ⟨s, s1, s2, s3⟩ := fq_unL (h := h) hV hK hc hh.symm (f_latest := f_latest) (f_kept := f_kept) (f_steps := f_steps) (f_mode := f_mode) (f_since := f_since) (f_until := f_until) (f_clauses := f_clauses) (f_levels := f_levels) (f_asked := f_asked) (f_level := f_level) (f_assigned := f_assigned) (f_bounded := f_bounded) (a_kinds := a_kinds) (a_keptEntity := a_keptEntity) (a_keptAttribute := a_keptAttribute) (a_keptValue := a_keptValue) (a_came := a_came) (a_went := a_went) (a_now := a_now) (a_work := a_work) (a_stepKind := a_stepKind) (a_stepEntity := a_stepEntity) (a_stepAttribute := a_stepAttribute) (a_stepValue := a_stepValue) (a_stepOther := a_stepOther) (a_order := a_order) (a_rest := a_rest) (a_number := a_number) (a_bound := a_bound)
          refine ⟨s, s1, fun w hw => ?_, fun post hp => hwalk post (fq_valX (Kn := Kn) (σ := σ) b4 hA (fun k hk hkn => (hN k hk hkn).1) (fun z => absurd z hy20) (fun _ z => absurd z hkn) (fun _ _ => br_t (by decide) (s3 _ hp)))⟩
          rw [s2 w hw, hcb]
          exact ⟨fun z => ⟨fun z2 => absurd z2 hy20, fun _ z2 => absurd z2 hkn, fun _ _ => z⟩, fun z => z.2.2 (by omega) hkn⟩
  · by_cases hy : qr c = 20 + v
    · have hlr : ¬ nI (ql c) = nI (qr c) := hne (by omega)
      have hwalk : ∀ post : Int32 → Prop, wX_choicesBy_87 post (nI c) 0 (nI (ql c)) f_latest f_kept f_steps f_mode f_since f_until f_clauses f_levels f_asked f_level f_assigned f_bounded a_kinds a_keptEntity a_keptAttribute a_keptValue a_came a_went a_now a_work a_stepKind a_stepEntity a_stepAttribute a_stepValue a_stepOther a_row a_column a_reach a_clauseKind a_clauseAttribute a_left a_right a_order a_rest a_number a_bound → wpX_choicesBy post (f_latest, f_kept, f_steps, f_mode, f_since, f_until, f_clauses, f_levels, f_asked, f_level, f_assigned, f_bounded, a_kinds, a_keptEntity, a_keptAttribute, a_keptValue, a_came, a_went, a_now, a_work, a_stepKind, a_stepEntity, a_stepAttribute, a_stepValue, a_stepOther, a_row, a_column, a_reach, a_clauseKind, a_clauseAttribute, a_left, a_right, a_order, a_rest, a_number, a_bound) (nI c) (nI v) := fun post hp => by
        refine nm_r ev ⟨hin, ?_⟩
        rw [E3, E4]
        refine q2 hx ⟨hin, q3 hy ?_⟩
        unfold wX_choicesBy_28
        rw [E3, E4]
        refine ⟨hin, hin, br_f hlr ⟨hin, q2 hx (br_t rfl ⟨hin, ?_⟩)⟩⟩
        rw [E3]
        exact hp
      have hcb : ∀ w, fq_cbP Kn σ h (ql c) (qr c) v w ↔ ((ql c < 20 → h (ql c) w = true) ∧ (20 ≤ ql c → Kn (ql c - 20) → h (σ (ql c - 20)) w = true) ∧ (20 ≤ ql c → ¬ Kn (ql c - 20) → ∃ z, z < 20 ∧ h z w = true)) := fun w =>
        ⟨fun z => z.2.2 hx hy, fun z => ⟨fun z2 => absurd z2 hx, fun z2 => absurd z2 hx, fun _ _ => z⟩⟩
      by_cases hx20 : ql c < 20
      · obtain ⟨s, s1, s2, s3⟩ := fq_rightX (C := C) (c := c) hV hK hc hx20 (f_latest := f_latest) (f_kept := f_kept) (f_steps := f_steps) (f_mode := f_mode) (f_since := f_since) (f_until := f_until) (f_clauses := f_clauses) (f_levels := f_levels) (f_asked := f_asked) (f_level := f_level) (f_assigned := f_assigned) (f_bounded := f_bounded) (a_kinds := a_kinds) (a_keptEntity := a_keptEntity) (a_keptAttribute := a_keptAttribute) (a_keptValue := a_keptValue) (a_came := a_came) (a_went := a_went) (a_now := a_now) (a_work := a_work) (a_stepKind := a_stepKind) (a_stepEntity := a_stepEntity) (a_stepAttribute := a_stepAttribute) (a_stepValue := a_stepValue) (a_stepOther := a_stepOther) (a_order := a_order) (a_rest := a_rest) (a_number := a_number) (a_bound := a_bound)
        refine ⟨s, s1, fun w hw => ?_, fun post hp => hwalk post (fq_valX (Kn := Kn) (σ := σ) b3 hA (fun k hk hkn => (hN k hk hkn).1) (fun _ => br_f (nI_pos (by omega)) (br_t rfl (s3 _ hp))) (fun z => absurd z (by omega)) (fun z => absurd z (by omega)))⟩
        rw [s2 w hw, hh, hcb]
        exact ⟨fun z => ⟨fun _ => z, fun z2 => absurd z2 (by omega), fun z2 => absurd z2 (by omega)⟩, fun z => z.1 hx20⟩
      · by_cases hkn : Kn (ql c - 20)
        · have hσ := (hN _ (by omega) hkn).2
          obtain ⟨s, s1, s2, s3⟩ := fq_rightX (C := C) (c := c) hV hK hc hσ (f_latest := f_latest) (f_kept := f_kept) (f_steps := f_steps) (f_mode := f_mode) (f_since := f_since) (f_until := f_until) (f_clauses := f_clauses) (f_levels := f_levels) (f_asked := f_asked) (f_level := f_level) (f_assigned := f_assigned) (f_bounded := f_bounded) (a_kinds := a_kinds) (a_keptEntity := a_keptEntity) (a_keptAttribute := a_keptAttribute) (a_keptValue := a_keptValue) (a_came := a_came) (a_went := a_went) (a_now := a_now) (a_work := a_work) (a_stepKind := a_stepKind) (a_stepEntity := a_stepEntity) (a_stepAttribute := a_stepAttribute) (a_stepValue := a_stepValue) (a_stepOther := a_stepOther) (a_order := a_order) (a_rest := a_rest) (a_number := a_number) (a_bound := a_bound)
          refine ⟨s, s1, fun w hw => ?_, fun post hp => hwalk post (fq_valX (Kn := Kn) (σ := σ) b3 hA (fun k hk hkn => (hN k hk hkn).1) (fun z => absurd z hx20) (fun _ _ => br_f (nI_pos (by omega)) (br_t rfl (s3 _ hp))) (fun _ z => absurd hkn z))⟩
          rw [s2 w hw, hh, hcb]
          exact ⟨fun z => ⟨fun z2 => absurd z2 hx20, fun _ _ => z, fun _ z2 => absurd hkn z2⟩, fun z => z.2.1 (by omega) hkn⟩
        · obtain ⟨s, s1, s2, s3⟩ := fq_unR (h := h) hV hK hc hh.symm (f_latest := f_latest) (f_kept := f_kept) (f_steps := f_steps) (f_mode := f_mode) (f_since := f_since) (f_until := f_until) (f_clauses := f_clauses) (f_levels := f_levels) (f_asked := f_asked) (f_level := f_level) (f_assigned := f_assigned) (f_bounded := f_bounded) (a_kinds := a_kinds) (a_keptEntity := a_keptEntity) (a_keptAttribute := a_keptAttribute) (a_keptValue := a_keptValue) (a_came := a_came) (a_went := a_went) (a_now := a_now) (a_work := a_work) (a_stepKind := a_stepKind) (a_stepEntity := a_stepEntity) (a_stepAttribute := a_stepAttribute) (a_stepValue := a_stepValue) (a_stepOther := a_stepOther) (a_order := a_order) (a_rest := a_rest) (a_number := a_number) (a_bound := a_bound)
          refine ⟨s, s1, fun w hw => ?_, fun post hp => hwalk post (fq_valX (Kn := Kn) (σ := σ) b3 hA (fun k hk hkn => (hN k hk hkn).1) (fun z => absurd z hx20) (fun _ z => absurd z hkn) (fun _ _ => br_t (by decide) (s3 _ hp)))⟩
          rw [s2 w hw, hcb]
          exact ⟨fun z => ⟨fun z2 => absurd z2 hx20, fun _ z2 => absurd z2 hkn, fun _ _ => z⟩, fun z => z.2.2 (by omega) hkn⟩
    · refine ⟨1048575, fl_w_all, fun w hw => ?_, fun post hp => nm_r ev ⟨hin, ?_⟩⟩
      · rw [fl_all, decide_eq_true hw]
        exact ⟨fun _ => ⟨fun z => absurd z hx, fun z => absurd z hx, fun _ z => absurd z hy⟩, fun _ => rfl⟩
      · rw [E3, E4]
        exact q2 hx ⟨hin, q4 hy hp⟩
end
end
section
/-! what is left for a level -/
def fq_tg (bd m : Nat) (o β : Nat → Nat) (l : Nat) (σ : Nat → Nat) (w : Nat) : Prop := bd = 1 → l < m → (∀ i, i < l → σ (o i) = β i) → (if l + 1 = m then β l + 1 else β l) ≤ w
def fq_CX (C : Nat) (qk qa ql qr : Nat → Nat) (row reach : Nat → Int32) (o : Nat → Nat) (bd m : Nat) (β : Nat → Nat) (l : Nat) (σ : Nat → Nat) (w : Nat) : Prop :=
  w < 20 ∧ (∀ c, c < C → fq_cbP (fun k => ∃ i, i < l ∧ o i = k) σ (fq_h row reach (qk c) (qa c)) (ql c) (qr c) (o l) w) ∧ fq_tg bd m o β l σ w
section
variable {f_latest f_kept f_steps f_mode f_since f_until f_clauses f_levels f_asked f_level f_assigned f_bounded : Int32} {a_kinds a_keptEntity a_keptAttribute a_keptValue a_came a_went a_now a_work a_stepKind a_stepEntity a_stepAttribute a_stepValue a_stepOther a_row a_column a_reach a_clauseKind a_clauseAttribute a_left a_right a_order a_rest a_number a_bound : Nat → Int32}
variable {C c m bd l : Nat} {qk qa ql qr o β : Nat → Nat} {b_along : Nat → Int32} {σ : Nat → Nat}
theorem fq_67 {s0 : Int32} (hl : l < 4) (hm : m ≤ 4) (hbd : bd ≤ 1) (hw0 : fl_w 20 s0) (hor : ∀ i, i ≤ l → a_order i = nI (o i) ∧ o i < 4) (hN : ∀ i, i < l → a_number (o i) = nI (σ (o i)) ∧ σ (o i) < 20) (hβ : bd = 1 → ∀ i, i < m → a_bound i = nI (β i) ∧ β i < 20) :
    ∃ s : Int32, fl_w 20 s ∧ (∀ w, w < 20 → (bt s w = true ↔ (bt s0 w = true ∧ fq_tg bd m o β l σ w))) ∧ ∀ post : Int32 → Prop, post s → wX_choices_42 post (nI l) s0 f_latest f_kept f_steps f_mode f_since f_until (nI C) f_levels (nI m) f_level f_assigned (nI bd) a_kinds a_keptEntity a_keptAttribute a_keptValue a_came a_went a_now a_work a_stepKind a_stepEntity a_stepAttribute a_stepValue a_stepOther a_row a_column a_reach a_clauseKind a_clauseAttribute a_left a_right a_order a_rest a_number a_bound := by
  have zero : ∀ post : Int32 → Prop, post s0 → ∀ d i, i + d = l → wX_choices_67 post (nI l) s0 f_latest f_kept f_steps f_mode f_since f_until (nI C) f_levels (nI m) f_level f_assigned (nI bd) a_kinds a_keptEntity a_keptAttribute a_keptValue a_came a_went a_now a_work a_stepKind a_stepEntity a_stepAttribute a_stepValue a_stepOther a_row a_column a_reach a_clauseKind a_clauseAttribute a_left a_right a_order a_rest a_number a_bound (d + 1) 0 (nI i) := by
    intro post hp d
    induction d with
    | zero =>
      intro i hi
      exact br_t (nI_le (by omega) (by omega)) (br_t rfl hp)
    | succ d ih =>
      intro i hi
      exact br_f (nI_ge (by omega) (by omega)) (br_t rfl (nm_r (nI_1 i) (ih (i + 1) (by omega))))
  by_cases hb1 : bd = 1
  · subst hb1
    by_cases hlm : l < m
    · have start : ∀ post : Int32 → Prop, (∃ n, wX_choices_67 post (nI l) s0 f_latest f_kept f_steps f_mode f_since f_until (nI C) f_levels (nI m) f_level f_assigned (nI 1) a_kinds a_keptEntity a_keptAttribute a_keptValue a_came a_went a_now a_work a_stepKind a_stepEntity a_stepAttribute a_stepValue a_stepOther a_row a_column a_reach a_clauseKind a_clauseAttribute a_left a_right a_order a_rest a_number a_bound n 1 0) → wX_choices_42 post (nI l) s0 f_latest f_kept f_steps f_mode f_since f_until (nI C) f_levels (nI m) f_level f_assigned (nI 1) a_kinds a_keptEntity a_keptAttribute a_keptValue a_came a_went a_now a_work a_stepKind a_stepEntity a_stepAttribute a_stepValue a_stepOther a_row a_column a_reach a_clauseKind a_clauseAttribute a_left a_right a_order a_rest a_number a_bound := fun post h => br_f fk_10 (br_f (nI_ge hlm (by omega)) h)
      have one : ∀ d i post, i + d = l → (∀ j, j < i → σ (o j) = β j) → ((¬ ∀ j, j < l → σ (o j) = β j) → post s0) → ((∀ j, j < l → σ (o j) = β j) → post (s0 &&& ((((1 : Int32) <<< (nI (if l + 1 = m then β l + 1 else β l) &&& 31)) - 1) ^^^ (-1)))) → wX_choices_67 post (nI l) s0 f_latest f_kept f_steps f_mode f_since f_until (nI C) f_levels (nI m) f_level f_assigned (nI 1) a_kinds a_keptEntity a_keptAttribute a_keptValue a_came a_went a_now a_work a_stepKind a_stepEntity a_stepAttribute a_stepValue a_stepOther a_row a_column a_reach a_clauseKind a_clauseAttribute a_left a_right a_order a_rest a_number a_bound (d + 1) 1 (nI i) := by
        intro d
        induction d with
        | zero =>
          intro i post hi hj h0 h1
          have e : i = l := by omega
          subst e
          have h1' := h1 hj
          have eb := (hβ rfl i hlm).1
          refine br_t (nI_le (by omega) (by omega)) (br_f fk_10 ?_)
          have hin : vp_in (nI i) 4 := vp_in_nI (by omega) (by omega)
          have em : nI m - 1 = nI (m - 1) := pk_sub (b := 1) (by omega)
          rw [em, fk_cl (f := a_bound) (n := i) (by omega), eb]
          refine pk_eq i (m - 1) (fun z => ⟨hin, ?_⟩) (fun z => ⟨hin, ?_⟩)
          · rw [if_pos (show i + 1 = m by omega)] at h1'
            rw [nI_1]
            exact nm_e h1'
          · rw [if_neg (show ¬ i + 1 = m by omega)] at h1'
            exact nm_e h1'
        | succ d ih =>
          intro i post hi hj h0 h1
          obtain ⟨o1, o2⟩ := hor i (by omega)
          obtain ⟨n1, n2⟩ := hN i (by omega)
          obtain ⟨c1, c2⟩ := hβ rfl i (by omega)
          have hin : vp_in (nI i) 4 := vp_in_nI (by omega) (by omega)
          refine br_f (nI_ge (by omega) (by omega)) (br_f fk_10 ⟨hin, ?_⟩)
          rw [fk_cl (f := a_order) (n := i) (by omega), o1, fk_cl (f := a_number) (n := o i) (by omega), n1, fk_cl (f := a_bound) (n := i) (by omega), c1]
          refine ⟨vp_in_nI o2 (by omega), hin, pk_eq (σ (o i)) (β i) (fun z => nm_r (nI_1 i) (ih (i + 1) post (by omega) (fun j hj' => ?_) h0 h1)) (fun z => nm_r (nI_1 i) (zero post (h0 (fun hall => z (hall i (by omega)))) d (i + 1) (by omega)))⟩
          by_cases hz : j = i
          · subst hz; exact z
          · exact hj j (by omega)
      by_cases hall : ∀ j, j < l → σ (o j) = β j
      · have hβl := (hβ rfl l hlm).2
        have hlt : (if l + 1 = m then β l + 1 else β l) < 32 := by split <;> omega
        refine ⟨s0 &&& ((((1 : Int32) <<< (nI (if l + 1 = m then β l + 1 else β l) &&& 31)) - 1) ^^^ (-1)), fl_w_and hw0, fun w hw => ?_, fun post hp => start post ⟨_, one l 0 post (by omega) (fun j hj => absurd hj (by omega)) (fun z => absurd hall z) (fun _ => hp)⟩⟩
        rw [b_and, Bool.and_eq_true, fl_not _ (by omega), fl_below hlt]
        constructor
        · rintro ⟨z1, z2⟩
          refine ⟨z1, fun _ _ _ => ?_⟩
          simpa using z2
        · rintro ⟨z1, z2⟩
          refine ⟨z1, ?_⟩
          have := z2 rfl hlm hall
          simpa using this
      · refine ⟨s0, hw0, fun w hw => ⟨fun z => ⟨z, fun _ _ z2 => absurd z2 hall⟩, fun z => z.1⟩, fun post hp => start post ⟨_, one l 0 post (by omega) (fun j hj => absurd hj (by omega)) (fun _ => hp) (fun z => absurd z hall)⟩⟩
    · exact ⟨s0, hw0, fun w hw => ⟨fun z => ⟨z, fun _ z2 => absurd z2 hlm⟩, fun z => z.1⟩, fun post hp => br_f fk_10 (br_t (nI_le (by omega) (by omega)) ⟨_, zero post hp l 0 (by omega)⟩)⟩
  · have hb0 : bd = 0 := by omega
    subst hb0
    exact ⟨s0, hw0, fun w hw => ⟨fun z => ⟨z, fun z2 => absurd z2 (by decide)⟩, fun z => z.1⟩, fun post hp => br_t rfl ⟨_, zero post hp l 0 (by omega)⟩⟩
theorem fq_choX (hl : l < 4) (hm : m ≤ 4) (hbd : bd ≤ 1) (hV : fq_V a_row a_column a_reach) (hK : fq_K C qk qa ql qr a_clauseKind a_clauseAttribute a_left a_right b_along) (hor : ∀ i, i ≤ l → a_order i = nI (o i) ∧ o i < 4) (hA : ∀ k, k < 4 → (bt f_assigned k = true ↔ ∃ i, i < l ∧ o i = k)) (hN : ∀ i, i < l → a_number (o i) = nI (σ (o i)) ∧ σ (o i) < 20) (hβ : bd = 1 → ∀ i, i < m → a_bound i = nI (β i) ∧ β i < 20) :
    ∃ s : Int32, fl_w 20 s ∧ (∀ w, w < 20 → (bt s w = true ↔ fq_CX C qk qa ql qr a_row a_reach o bd m β l σ w)) ∧ ∀ post : Int32 → Prop, post s → wpX_choices post (f_latest, f_kept, f_steps, f_mode, f_since, f_until, nI C, f_levels, nI m, f_level, f_assigned, nI bd, a_kinds, a_keptEntity, a_keptAttribute, a_keptValue, a_came, a_went, a_now, a_work, a_stepKind, a_stepEntity, a_stepAttribute, a_stepValue, a_stepOther, a_row, a_column, a_reach, a_clauseKind, a_clauseAttribute, a_left, a_right, a_order, a_rest, a_number, a_bound) (nI l) := by
  have hC6 := hK.1
  obtain ⟨o1, o2⟩ := hor l (Nat.le_refl _)
  have key : ∀ d c s, c + d = C → fl_w 20 s → (∀ w, w < 20 → (bt s w = true ↔ ∀ c', c' < c → fq_cbP (fun k => ∃ i, i < l ∧ o i = k) σ (fq_h a_row a_reach (qk c') (qa c')) (ql c') (qr c') (o l) w)) →
      ∃ s' : Int32, fl_w 20 s' ∧ (∀ w, w < 20 → (bt s' w = true ↔ fq_CX C qk qa ql qr a_row a_reach o bd m β l σ w)) ∧ ∀ post : Int32 → Prop, post s' → wX_choices_13 post (nI l) (nI (o l)) f_latest f_kept f_steps f_mode f_since f_until (nI C) f_levels (nI m) f_level f_assigned (nI bd) a_kinds a_keptEntity a_keptAttribute a_keptValue a_came a_went a_now a_work a_stepKind a_stepEntity a_stepAttribute a_stepValue a_stepOther a_row a_column a_reach a_clauseKind a_clauseAttribute a_left a_right a_order a_rest a_number a_bound (d + 1) s (nI c) := by
    intro d
    induction d with
    | zero =>
      intro c s hc hw hs
      have e : c = C := by omega
      subst e
      obtain ⟨s', t1, t2, t3⟩ := fq_67 (l := l) (m := m) (bd := bd) (C := c) (o := o) (σ := σ) (β := β) (s0 := s) hl hm hbd hw hor hN hβ (f_latest := f_latest) (f_kept := f_kept) (f_steps := f_steps) (f_mode := f_mode) (f_since := f_since) (f_until := f_until) (f_levels := f_levels) (f_level := f_level) (f_assigned := f_assigned) (a_kinds := a_kinds) (a_keptEntity := a_keptEntity) (a_keptAttribute := a_keptAttribute) (a_keptValue := a_keptValue) (a_came := a_came) (a_went := a_went) (a_now := a_now) (a_work := a_work) (a_stepKind := a_stepKind) (a_stepEntity := a_stepEntity) (a_stepAttribute := a_stepAttribute) (a_stepValue := a_stepValue) (a_stepOther := a_stepOther) (a_row := a_row) (a_column := a_column) (a_reach := a_reach) (a_clauseKind := a_clauseKind) (a_clauseAttribute := a_clauseAttribute) (a_left := a_left) (a_right := a_right) (a_rest := a_rest)
      refine ⟨s', t1, fun w hw20 => ?_, fun post hp => br_t (nI_le (by omega) (by omega)) (t3 post hp)⟩
      rw [t2 w hw20, hs w hw20]
      exact ⟨fun z => ⟨hw20, z.1, z.2⟩, fun z => ⟨z.2.1, z.2.2⟩⟩
    | succ d ih =>
      intro c s hc hw hs
      by_cases h0 : s = 0
      · obtain ⟨s', t1, t2, t3⟩ := fq_67 (l := l) (m := m) (bd := bd) (C := C) (o := o) (σ := σ) (β := β) (s0 := s) hl hm hbd hw hor hN hβ (f_latest := f_latest) (f_kept := f_kept) (f_steps := f_steps) (f_mode := f_mode) (f_since := f_since) (f_until := f_until) (f_levels := f_levels) (f_level := f_level) (f_assigned := f_assigned) (a_kinds := a_kinds) (a_keptEntity := a_keptEntity) (a_keptAttribute := a_keptAttribute) (a_keptValue := a_keptValue) (a_came := a_came) (a_went := a_went) (a_now := a_now) (a_work := a_work) (a_stepKind := a_stepKind) (a_stepEntity := a_stepEntity) (a_stepAttribute := a_stepAttribute) (a_stepValue := a_stepValue) (a_stepOther := a_stepOther) (a_row := a_row) (a_column := a_column) (a_reach := a_reach) (a_clauseKind := a_clauseKind) (a_clauseAttribute := a_clauseAttribute) (a_left := a_left) (a_right := a_right) (a_rest := a_rest)
        refine ⟨s', t1, fun w hw20 => ?_, fun post hp => br_f (nI_ge (by omega) (by omega)) (br_t h0 (t3 post hp))⟩
        rw [t2 w hw20]
        constructor
        · rintro ⟨z, _⟩
          rw [h0, b_0] at z
          exact absurd z (by decide)
        · rintro ⟨_, z, _⟩
          have := (hs w hw20).mpr (fun c' hc' => z c' (by omega))
          rw [h0, b_0] at this
          exact absurd this (by decide)
      · obtain ⟨t, t1, t2, t3⟩ := fq_byX (Kn := fun k => ∃ i, i < l ∧ o i = k) (σ := σ) (v := o l) o2 hV hK (show c < C by omega) hA (fun k hk ⟨i, i1, i2⟩ => by subst i2; exact hN i i1) (f_latest := f_latest) (f_kept := f_kept) (f_steps := f_steps) (f_mode := f_mode) (f_since := f_since) (f_until := f_until) (f_clauses := nI C) (f_levels := f_levels) (f_asked := nI m) (f_level := f_level) (f_assigned := f_assigned) (f_bounded := nI bd) (a_kinds := a_kinds) (a_keptEntity := a_keptEntity) (a_keptAttribute := a_keptAttribute) (a_keptValue := a_keptValue) (a_came := a_came) (a_went := a_went) (a_now := a_now) (a_work := a_work) (a_stepKind := a_stepKind) (a_stepEntity := a_stepEntity) (a_stepAttribute := a_stepAttribute) (a_stepValue := a_stepValue) (a_stepOther := a_stepOther) (a_order := a_order) (a_rest := a_rest) (a_number := a_number) (a_bound := a_bound)
        obtain ⟨s', u1, u2, u3⟩ := ih (c + 1) (s &&& t) (by omega) (fl_w_and hw) (fun w hw20 => by
          rw [b_and, Bool.and_eq_true, hs w hw20, t2 w hw20]
          constructor
          · rintro ⟨z1, z2⟩ c' hc'
            by_cases hz : c' = c
            · subst hz; exact z2
            · exact z1 c' (by omega)
          · intro z
            exact ⟨fun c' hc' => z c' (by omega), z c (by omega)⟩)
        exact ⟨s', u1, u2, fun post hp => br_f (nI_ge (by omega) (by omega)) (br_f h0 (t3 _ (nm_e (nm_r (nI_1 c) (u3 post hp)))))⟩
  obtain ⟨s, u1, u2, u3⟩ := key C 0 1048575 (by omega) fl_w_all (fun w hw => by
    rw [fl_all, decide_eq_true hw]
    exact ⟨fun _ c' hc' => absurd hc' (by omega), fun _ => rfl⟩)
  refine ⟨s, u1, u2, fun post hp => ⟨vp_in_nI hl (by omega), nm_r (e' := nI (o l)) ?_ ⟨_, u3 post hp⟩⟩⟩
  rw [nI_clamp (by omega), o1]
theorem fq_plainX {post : Int32 → Prop} (hV : fq_V a_row a_column a_reach) (hK : fq_K C qk qa ql qr a_clauseKind a_clauseAttribute a_left a_right b_along)
    (h1 : (∀ c, c < C → ql c < 20 → qr c < 20 → fq_h a_row a_reach (qk c) (qa c) (ql c) (qr c) = true) → post 1) (h0 : (¬ ∀ c, c < C → ql c < 20 → qr c < 20 → fq_h a_row a_reach (qk c) (qa c) (ql c) (qr c) = true) → post 0) : wpX_plainClausesHold post (f_latest, f_kept, f_steps, f_mode, f_since, f_until, nI C, f_levels, f_asked, f_level, f_assigned, f_bounded, a_kinds, a_keptEntity, a_keptAttribute, a_keptValue, a_came, a_went, a_now, a_work, a_stepKind, a_stepEntity, a_stepAttribute, a_stepValue, a_stepOther, a_row, a_column, a_reach, a_clauseKind, a_clauseAttribute, a_left, a_right, a_order, a_rest, a_number, a_bound) := by
  have hC6 := hK.1
  have key : ∀ d c, c + d = C → (∀ c', c' < c → ql c' < 20 → qr c' < 20 → fq_h a_row a_reach (qk c') (qa c') (ql c') (qr c') = true) → wX_plainClausesHold_2 post f_latest f_kept f_steps f_mode f_since f_until (nI C) f_levels f_asked f_level f_assigned f_bounded a_kinds a_keptEntity a_keptAttribute a_keptValue a_came a_went a_now a_work a_stepKind a_stepEntity a_stepAttribute a_stepValue a_stepOther a_row a_column a_reach a_clauseKind a_clauseAttribute a_left a_right a_order a_rest a_number a_bound (d + 1) (nI c) := by
    intro d
    induction d with
    | zero =>
      intro c hc hh
      have e : c = C := by omega
      subst e
      exact br_t (nI_le (by omega) (by omega)) (h1 hh)
    | succ d ih =>
      intro c hc hh
      obtain ⟨⟨b1, b2, b3, b4⟩, e1, e2, e3, e4, e5⟩ := hK.2 c (by omega)
      have hin : vp_in (nI c) 6 := vp_in_nI (by omega) (by omega)
      have hnext : (ql c < 20 → qr c < 20 → fq_h a_row a_reach (qk c) (qa c) (ql c) (qr c) = true) → wX_plainClausesHold_2 post f_latest f_kept f_steps f_mode f_since f_until (nI C) f_levels f_asked f_level f_assigned f_bounded a_kinds a_keptEntity a_keptAttribute a_keptValue a_came a_went a_now a_work a_stepKind a_stepEntity a_stepAttribute a_stepValue a_stepOther a_row a_column a_reach a_clauseKind a_clauseAttribute a_left a_right a_order a_rest a_number a_bound (d + 1) (nI (c + 1)) := fun hq => ih (c + 1) (by omega) fun c' hc' => by
        by_cases hz : c' = c
        · subst hz; exact hq
        · exact hh c' (by omega)
      refine br_f (nI_ge (by omega) (by omega)) ⟨hin, ?_⟩
      rw [fk_cl (f := a_left) (n := c) (by omega), fk_cl (f := a_right) (n := c) (by omega), e3, e4]
      refine pk_le 20 (ql c) (fun z => nm_r (nI_1 c) (hnext fun z2 => absurd z2 (by omega))) (fun z => ⟨hin, pk_le 20 (qr c) (fun z2 => nm_r (nI_1 c) (hnext fun _ z3 => absurd z3 (by omega))) (fun z2 => ⟨hin, ?_⟩)⟩)
      obtain ⟨s, s1, s2, s3⟩ := fq_rightX (C := C) (c := c) hV hK (by omega) z (f_latest := f_latest) (f_kept := f_kept) (f_steps := f_steps) (f_mode := f_mode) (f_since := f_since) (f_until := f_until) (f_clauses := nI C) (f_levels := f_levels) (f_asked := f_asked) (f_level := f_level) (f_assigned := f_assigned) (f_bounded := f_bounded) (a_kinds := a_kinds) (a_keptEntity := a_keptEntity) (a_keptAttribute := a_keptAttribute) (a_keptValue := a_keptValue) (a_came := a_came) (a_went := a_went) (a_now := a_now) (a_work := a_work) (a_stepKind := a_stepKind) (a_stepEntity := a_stepEntity) (a_stepAttribute := a_stepAttribute) (a_stepValue := a_stepValue) (a_stepOther := a_stepOther) (a_order := a_order) (a_rest := a_rest) (a_number := a_number) (a_bound := a_bound)
      refine s3 _ ⟨hin, fl_br0 (qr c) (by omega) (fun hb => h0 (fun hall => ?_)) (fun hb => nm_r (nI_1 c) (hnext fun _ _ => by rw [← s2 _ z2]; exact hb))⟩
      rw [s2 _ z2, hall c (by omega) z z2] at hb
      exact absurd hb (by decide)
  exact ⟨_, key C 0 (by omega) (fun c' hc' => absurd hc' (by omega))⟩
theorem fq_mentX (hK : fq_K C qk qa ql qr a_clauseKind a_clauseAttribute a_left a_right b_along) : ∃ s : Int32, fl_w 4 s ∧ (∀ k, k < 4 → (bt s k = true ↔ ∃ c, c < C ∧ (ql c = 20 + k ∨ qr c = 20 + k))) ∧ ∀ post : Int32 → Prop, post s → wpX_mentioned post (f_latest, f_kept, f_steps, f_mode, f_since, f_until, nI C, f_levels, f_asked, f_level, f_assigned, f_bounded, a_kinds, a_keptEntity, a_keptAttribute, a_keptValue, a_came, a_went, a_now, a_work, a_stepKind, a_stepEntity, a_stepAttribute, a_stepValue, a_stepOther, a_row, a_column, a_reach, a_clauseKind, a_clauseAttribute, a_left, a_right, a_order, a_rest, a_number, a_bound) := by
  have hC6 := hK.1
  have bit : ∀ x, 20 ≤ x → x < 24 → nI x - 20 = nI (x - 20) := fun x h1 h2 => pk_sub (b := 20) h1
  have key : ∀ d c s, c + d = C → fl_w 4 s → (∀ k, k < 4 → (bt s k = true ↔ ∃ c', c' < c ∧ (ql c' = 20 + k ∨ qr c' = 20 + k))) → ∃ s' : Int32, fl_w 4 s' ∧ (∀ k, k < 4 → (bt s' k = true ↔ ∃ c', c' < C ∧ (ql c' = 20 + k ∨ qr c' = 20 + k))) ∧ ∀ post : Int32 → Prop, post s' → wX_mentioned_4 post f_latest f_kept f_steps f_mode f_since f_until (nI C) f_levels f_asked f_level f_assigned f_bounded a_kinds a_keptEntity a_keptAttribute a_keptValue a_came a_went a_now a_work a_stepKind a_stepEntity a_stepAttribute a_stepValue a_stepOther a_row a_column a_reach a_clauseKind a_clauseAttribute a_left a_right a_order a_rest a_number a_bound (d + 1) s (nI c) := by
    intro d
    induction d with
    | zero =>
      intro c s hc hw hs
      have e : c = C := by omega
      subst e
      exact ⟨s, hw, hs, fun post hp => br_t (nI_le (by omega) (by omega)) hp⟩
    | succ d ih =>
      intro c s hc hw hs
      obtain ⟨⟨b1, b2, b3, b4⟩, e1, e2, e3, e4, e5⟩ := hK.2 c (by omega)
      have hin : vp_in (nI c) 6 := vp_in_nI (by omega) (by omega)
      have E3 : a_left (nI c).toNatClampNeg = nI (ql c) := by rw [nI_clamp (by omega), e3]
      have E4 : a_right (nI c).toNatClampNeg = nI (qr c) := by rw [nI_clamp (by omega), e4]
      obtain ⟨z0, w0, hz0, hX⟩ : ∃ z0 : Int32, fl_w 4 z0 ∧ (∀ k, k < 4 → (bt z0 k = true ↔ ql c = 20 + k)) ∧ ∀ post : Int32 → Prop, wX_mentioned_39 post (wX_mentioned_4 post f_latest f_kept f_steps f_mode f_since f_until (nI C) f_levels f_asked f_level f_assigned f_bounded a_kinds a_keptEntity a_keptAttribute a_keptValue a_came a_went a_now a_work a_stepKind a_stepEntity a_stepAttribute a_stepValue a_stepOther a_row a_column a_reach a_clauseKind a_clauseAttribute a_left a_right a_order a_rest a_number a_bound (d + 1)) (nI c) z0 s f_latest f_kept f_steps f_mode f_since f_until (nI C) f_levels f_asked f_level f_assigned f_bounded a_kinds a_keptEntity a_keptAttribute a_keptValue a_came a_went a_now a_work a_stepKind a_stepEntity a_stepAttribute a_stepValue a_stepOther a_row a_column a_reach a_clauseKind a_clauseAttribute a_left a_right a_order a_rest a_number a_bound → wX_mentioned_4 post f_latest f_kept f_steps f_mode f_since f_until (nI C) f_levels f_asked f_level f_assigned f_bounded a_kinds a_keptEntity a_keptAttribute a_keptValue a_came a_went a_now a_work a_stepKind a_stepEntity a_stepAttribute a_stepValue a_stepOther a_row a_column a_reach a_clauseKind a_clauseAttribute a_left a_right a_order a_rest a_number a_bound (d + 1 + 1) s (nI c) := by
        by_cases h20 : ql c < 20
        · refine ⟨0, fl_w0 4, fun k hk => ?_, fun post hp => br_f (nI_ge (by omega) (by omega)) ⟨hin, ?_⟩⟩
          · rw [b_0]; exact ⟨fun z => absurd z (by decide), fun z => absurd z (by omega)⟩
          · rw [E3]
            exact br_t (nI_lt (b := 20) h20 (by omega)) hp
        · refine ⟨(1 : Int32) <<< (nI (ql c - 20) &&& 31), fl_w_one (by omega) (by omega), fun k hk => ?_, fun post hp => br_f (nI_ge (by omega) (by omega)) ⟨hin, ?_⟩⟩
          · rw [fl_one (by omega), decide_eq_true_iff]; omega
          · rw [E3, bit _ (by omega) b3]
            exact br_f (nI_nlt (b := 20) (by omega) (by omega)) ⟨hin, hp⟩
      obtain ⟨z1, w1, hz1, hX1⟩ : ∃ z1 : Int32, fl_w 4 z1 ∧ (∀ k, k < 4 → (bt z1 k = true ↔ qr c = 20 + k)) ∧ ∀ post : Int32 → Prop, wX_mentioned_4 post f_latest f_kept f_steps f_mode f_since f_until (nI C) f_levels f_asked f_level f_assigned f_bounded a_kinds a_keptEntity a_keptAttribute a_keptValue a_came a_went a_now a_work a_stepKind a_stepEntity a_stepAttribute a_stepValue a_stepOther a_row a_column a_reach a_clauseKind a_clauseAttribute a_left a_right a_order a_rest a_number a_bound (d + 1) (s ||| z0 ||| z1) (nI (c + 1)) → wX_mentioned_39 post (wX_mentioned_4 post f_latest f_kept f_steps f_mode f_since f_until (nI C) f_levels f_asked f_level f_assigned f_bounded a_kinds a_keptEntity a_keptAttribute a_keptValue a_came a_went a_now a_work a_stepKind a_stepEntity a_stepAttribute a_stepValue a_stepOther a_row a_column a_reach a_clauseKind a_clauseAttribute a_left a_right a_order a_rest a_number a_bound (d + 1)) (nI c) z0 s f_latest f_kept f_steps f_mode f_since f_until (nI C) f_levels f_asked f_level f_assigned f_bounded a_kinds a_keptEntity a_keptAttribute a_keptValue a_came a_went a_now a_work a_stepKind a_stepEntity a_stepAttribute a_stepValue a_stepOther a_row a_column a_reach a_clauseKind a_clauseAttribute a_left a_right a_order a_rest a_number a_bound := by
        by_cases h20 : qr c < 20
        · refine ⟨0, fl_w0 4, fun k hk => ?_, fun post hp => nm_e ⟨hin, ?_⟩⟩
          · rw [b_0]; exact ⟨fun z => absurd z (by decide), fun z => absurd z (by omega)⟩
          · rw [E4]
            exact br_t (nI_lt (b := 20) h20 (by omega)) (nm_e (nm_r (nI_1 c) hp))
        · refine ⟨(1 : Int32) <<< (nI (qr c - 20) &&& 31), fl_w_one (by omega) (by omega), fun k hk => ?_, fun post hp => nm_e ⟨hin, ?_⟩⟩
          · rw [fl_one (by omega), decide_eq_true_iff]; omega
          · rw [E4, bit _ (by omega) b4]
            exact br_f (nI_nlt (b := 20) (by omega) (by omega)) ⟨hin, nm_e (nm_r (nI_1 c) hp)⟩
      obtain ⟨s', u1, u2, u3⟩ := ih (c + 1) (s ||| z0 ||| z1) (by omega) (fl_w_or (fl_w_or hw w0) w1) (fun k hk => by
        rw [b_or, b_or, Bool.or_eq_true, Bool.or_eq_true, hs k hk, hz0 k hk, hz1 k hk]
        constructor
        · rintro ((⟨c', q1, q2⟩ | q) | q)
          · exact ⟨c', by omega, q2⟩
          · exact ⟨c, by omega, Or.inl q⟩
          · exact ⟨c, by omega, Or.inr q⟩
        · rintro ⟨c', q1, q2⟩
          by_cases hz : c' = c
          · subst hz
            rcases q2 with q | q
            · exact Or.inl (Or.inr q)
            · exact Or.inr q
          · exact Or.inl (Or.inl ⟨c', by omega, q2⟩))
      exact ⟨s', u1, u2, fun post hp => hX post (hX1 post (u3 post hp))⟩
  obtain ⟨s, u1, u2, u3⟩ := key C 0 0 (by omega) (fl_w0 4) (fun k hk => by
    rw [b_0]
    exact ⟨fun z => absurd z (by decide), fun ⟨c', q, _⟩ => absurd q (by omega)⟩)
  exact ⟨s, u1, u2, fun post hp => ⟨_, u3 post hp⟩⟩
end
end
section
/-! the component's candidates are what is asked; orders; counts -/
section
variable {C n m bd : Nat} {qk qa ql qr o β : Nat → Nat} {row reach : Nat → Int32}
theorem fq_cbP_mono {Kn : Nat → Prop} {σ σ' : Nat → Nat} {h : Nat → Nat → Bool} {x y v w : Nat} (ha : ∀ k, Kn k → σ k = σ' k) (hc : fq_cbP Kn σ h x y v w) : fq_cbP Kn σ' h x y v w := by
  refine ⟨hc.1, fun h1 h2 => ?_, fun h1 h2 => ?_⟩
  · obtain ⟨c1, c2, c3⟩ := hc.2.1 h1 h2
    exact ⟨c1, fun z1 z2 => by rw [← ha _ z2]; exact c2 z1 z2, c3⟩
  · obtain ⟨c1, c2, c3⟩ := hc.2.2 h1 h2
    exact ⟨c1, fun z1 z2 => by rw [← ha _ z2]; exact c2 z1 z2, c3⟩
theorem fq_CX_mono {l w : Nat} {σ σ' : Nat → Nat} (ha : ∀ j, j < l → σ (o j) = σ' (o j)) (h : fq_CX C qk qa ql qr row reach o bd m β l σ w) : fq_CX C qk qa ql qr row reach o bd m β l σ' w := by
  obtain ⟨h1, h2, h3⟩ := h
  refine ⟨h1, fun c hc => fq_cbP_mono (fun k hk => ?_) (h2 c hc), fun z1 z2 z3 => h3 z1 z2 (fun i hi => by rw [ha i hi]; exact z3 i hi)⟩
  obtain ⟨i, i1, i2⟩ := hk
  rw [← i2]; exact ha i i1
def fq_QX (C : Nat) (qk qa ql qr : Nat → Nat) (row reach : Nat → Int32) (o : Nat → Nat) (bd m : Nat) (β : Nat → Nat) (σ : Nat → Nat) : Prop := fq_full C qk qa ql qr row reach σ ∧ (bd = 1 → fq_pre (fun i => i) β m < fq_pre o σ m)
theorem fq_CX_CH (hm : m ≤ n) (hinj : ∀ i j, i < n → j < n → o i = o j → i = j) (hp : ∀ c, c < C → ql c < 20 → qr c < 20 → fq_h row reach (qk c) (qa c) (ql c) (qr c) = true) (hl : ∀ c, c < C → 20 ≤ ql c → ∃ i, i < n ∧ o i = ql c - 20) (hr : ∀ c, c < C → 20 ≤ qr c → ∃ i, i < n ∧ o i = qr c - 20) (hm1 : bd = 1 → 1 ≤ m) (hβ : bd = 1 → ∀ i, i < m → β i < 20) :
    fq_CH o n (fq_QX C qk qa ql qr row reach o bd m β) (fq_CX C qk qa ql qr row reach o bd m β) := by
  refine ⟨fun l σ σ' w _ ha => ⟨fq_CX_mono ha, fq_CX_mono fun j hj => (ha j hj).symm⟩, fun σ hσ => ⟨?_, ?_⟩⟩
  · rintro ⟨hf, hb⟩ i hi
    refine ⟨hσ i hi, fun c hc => ⟨fun h1 h2 => ?_, fun h1 h2 => ⟨fun z => ?_, fun z1 z2 => ?_, fun z1 z2 => ?_⟩, fun h1 h2 => ⟨fun z => ?_, fun z1 z2 => ?_, fun z1 z2 => ?_⟩⟩, fun b1 him hag => ?_⟩
    · have h := hf c hc
      rw [fq_tv_v (by omega), fq_tv_v (by omega), h1, h2, Nat.add_sub_cancel_left] at h
      exact h
    · have h := hf c hc
      rw [fq_tv_v (x := ql c) (by omega), fq_tv_c z, h1, Nat.add_sub_cancel_left] at h
      exact h
    · have h := hf c hc
      rw [fq_tv_v (x := ql c) (by omega), fq_tv_v z1, h1, Nat.add_sub_cancel_left] at h
      exact h
    · have h := hf c hc
      rw [fq_tv_v (x := ql c) (by omega), fq_tv_v z1, h1, Nat.add_sub_cancel_left] at h
      obtain ⟨j, j1, j2⟩ := hr c hc z1
      exact ⟨σ (qr c - 20), by rw [← j2]; exact hσ j j1, h⟩
    · have h := hf c hc
      rw [fq_tv_v (x := qr c) (by omega), fq_tv_c z, h2, Nat.add_sub_cancel_left] at h
      exact h
    · have h := hf c hc
      rw [fq_tv_v (x := qr c) (by omega), fq_tv_v z1, h2, Nat.add_sub_cancel_left] at h
      exact h
    · have h := hf c hc
      rw [fq_tv_v (x := qr c) (by omega), fq_tv_v z1, h2, Nat.add_sub_cancel_left] at h
      obtain ⟨j, j1, j2⟩ := hl c hc z1
      exact ⟨σ (ql c - 20), by rw [← j2]; exact hσ j j1, h⟩
    · have hlt := hb b1
      obtain ⟨k, hk⟩ : ∃ k, m = i + 1 + k := ⟨m - (i + 1), by omega⟩
      obtain ⟨r, r1, r2⟩ := fq_pre_split (o := o) (σ := σ) (l := i + 1) (k := k) (fun j hj => hσ j (by omega))
      obtain ⟨r', r1', r2'⟩ := fq_pre_split (o := fun i => i) (σ := β) (l := i + 1) (k := k) (fun j hj => hβ b1 j (by omega))
      rw [hk, r2, r2'] at hlt
      have epre : fq_pre o σ i = fq_pre (fun i => i) β i := by
        have : ∀ l, l ≤ i → fq_pre o σ l = fq_pre (fun i => i) β l := by
          intro l
          induction l with
          | zero => intro _; rfl
          | succ l ih =>
            intro hl
            simp only [fq_pre]
            rw [ih (by omega), hag l (by omega)]
        exact this i (Nat.le_refl _)
      simp only [fq_pre] at hlt
      rw [epre] at hlt
      split
      · have hk0 : k = 0 := by omega
        subst hk0
        simp at hlt r1 r1'
        omega
      · rcases Nat.lt_or_ge (σ (o i)) (β i) with z | z
        · exfalso
          have := Nat.mul_le_mul_left (20 ^ k) (show 20 * fq_pre (fun i => i) β i + σ (o i) + 1 ≤ 20 * fq_pre (fun i => i) β i + β i by omega)
          rw [Nat.mul_add (20 ^ k) _ 1] at this
          omega
        · exact z
  · intro hall
    refine ⟨fun c hc => ?_, fun b1 => ?_⟩
    · rcases Nat.lt_or_ge (ql c) 20 with x20 | x20
      · rcases Nat.lt_or_ge (qr c) 20 with y20 | y20
        · rw [fq_tv_c x20, fq_tv_c y20]; exact hp c hc x20 y20
        · obtain ⟨j, j1, j2⟩ := hr c hc y20
          have h := ((hall j j1).2.1 c hc).2.2 (by omega) (by omega)
          rw [fq_tv_c x20, fq_tv_v y20, ← j2]
          exact h.1 x20
      · obtain ⟨i, i1, i2⟩ := hl c hc x20
        rcases Nat.lt_or_ge (qr c) 20 with y20 | y20
        · have h := ((hall i i1).2.1 c hc).2.1 (by omega) (by omega)
          rw [fq_tv_v x20, fq_tv_c y20, ← i2]
          exact h.1 y20
        · obtain ⟨j, j1, j2⟩ := hr c hc y20
          rw [fq_tv_v x20, fq_tv_v y20, ← i2, ← j2]
          rcases Nat.lt_trichotomy i j with z | z | z
          · have hne : o i ≠ o j := fun e => by have := hinj i j i1 j1 e; omega
            have h := ((hall j j1).2.1 c hc).2.2 (by omega) (by omega)
            have h2 := h.2.1 x20 ⟨i, z, i2⟩
            rw [← i2] at h2
            exact h2
          · subst z
            exact ((hall i i1).2.1 c hc).1 (by omega) (by omega)
          · have hne : o i ≠ o j := fun e => by have := hinj i j i1 j1 e; omega
            have h := ((hall i i1).2.1 c hc).2.1 (by omega) (by omega)
            have h2 := h.2.1 y20 ⟨j, z, j2⟩
            rw [← j2] at h2
            exact h2
    · have key : ∀ i, i ≤ m → ((∀ j, j < i → σ (o j) = β j) ∧ fq_pre (fun i => i) β i = fq_pre o σ i ∧ i ≠ m) ∨ fq_pre (fun i => i) β i < fq_pre o σ i := by
        intro i
        induction i with
        | zero => intro _; exact Or.inl ⟨fun j hj => absurd hj (by omega), rfl, by have := hm1 b1; omega⟩
        | succ i ih =>
          intro hi
          have hβi := hβ b1 i (by omega)
          simp only [fq_pre]
          rcases ih (by omega) with ⟨h1, h2, h3⟩ | h1
          · have ht := (hall i (by omega)).2.2 b1 (by omega) h1
            by_cases him : i + 1 = m
            · rw [if_pos him] at ht
              right; omega
            · rw [if_neg him] at ht
              by_cases heq : σ (o i) = β i
              · left
                refine ⟨fun j hj => ?_, by omega, him⟩
                by_cases hz : j = i
                · subst hz; exact heq
                · exact h1 j (by omega)
              · right; omega
          · right; omega
      rcases key m (Nat.le_refl _) with ⟨_, _, h3⟩ | h
      · exact absurd rfl h3
      · exact h
end
/-! the order of the variables as a list -/
def fq_o (vs : List Nat) (i : Nat) : Nat := vs.getD i 0
theorem fq_o_lt {vs : List Nat} {i : Nat} (h : i < vs.length) : fq_o vs i = vs[i] := by
  unfold fq_o
  rw [List.getD_eq_getElem?_getD, List.getElem?_eq_getElem h]; rfl
theorem fq_o_mem {vs : List Nat} {i : Nat} (h : i < vs.length) : fq_o vs i ∈ vs := by rw [fq_o_lt h]; exact List.getElem_mem h
theorem fq_mem_o {vs : List Nat} {k : Nat} (h : k ∈ vs) : ∃ i, i < vs.length ∧ fq_o vs i = k := by
  obtain ⟨i, h1, h2⟩ := List.mem_iff_getElem.mp h
  exact ⟨i, h1, by rw [fq_o_lt h1]; exact h2⟩
theorem fq_o_inj {vs : List Nat} (hn : vs.Nodup) {i j : Nat} (hi : i < vs.length) (hj : j < vs.length) (h : fq_o vs i = fq_o vs j) : i = j := (List.getD_inj hi hj hn).mp h
theorem fq_o_app {A B : List Nat} {i : Nat} (h : i < A.length) : fq_o (A ++ B) i = fq_o A i := by
  unfold fq_o
  rw [List.getD_eq_getElem?_getD, List.getD_eq_getElem?_getD, List.getElem?_append_left h]
theorem fq_ml_mem {M : Nat → Bool} {k j : Nat} : j ∈ fq_ml M k ↔ (j < k ∧ M j = true) := by
  unfold fq_ml
  rw [List.mem_filter, List.mem_range]
theorem fq_ml_nodup (M : Nat → Bool) (k : Nat) : (fq_ml M k).Nodup := List.Pairwise.filter M List.nodup_range
theorem fq_vs_nodup {M N : Nat → Bool} (h : ∀ k, k < 4 → M k = true → N k = true → False) : (fq_ml M 4 ++ fq_ml N 4).Nodup := by
  rw [List.nodup_append]
  refine ⟨fq_ml_nodup M 4, fq_ml_nodup N 4, fun a ha b hb e => ?_⟩
  rw [fq_ml_mem] at ha hb
  subst e
  exact h a ha.1 ha.2 hb.2
theorem fq_vs_lt {M N : Nat → Bool} {k : Nat} (h : k ∈ fq_ml M 4 ++ fq_ml N 4) : k < 4 := by
  rw [List.mem_append, fq_ml_mem, fq_ml_mem] at h
  rcases h with h | h
  · exact h.1
  · exact h.1
theorem fq_vs_perm (M : Nat → Bool) : fq_perm (fq_o (fq_ml M 4 ++ fq_ml (fun k => !M k) 4)) := by
  have hlen : (fq_ml M 4 ++ fq_ml (fun k => !M k) 4).length = 4 := by
    rw [List.length_append, fq_ml_len, fq_ml_len]; exact fq_cb_not M 4
  have hnd : (fq_ml M 4 ++ fq_ml (fun k => !M k) 4).Nodup := fq_vs_nodup fun k _ h1 h2 => by
    rw [h1] at h2; exact absurd h2 (by decide)
  refine ⟨fun i hi => fq_vs_lt (fq_o_mem (by omega)), fun i j hi hj e => fq_o_inj hnd (by omega) (by omega) e, fun k hk => ?_⟩
  have hm : k ∈ fq_ml M 4 ++ fq_ml (fun k => !M k) 4 := by
    rw [List.mem_append, fq_ml_mem, fq_ml_mem]
    cases h : M k
    · exact Or.inr ⟨hk, by rfl⟩
    · exact Or.inl ⟨hk, rfl⟩
  obtain ⟨i, h1, h2⟩ := fq_mem_o hm
  exact ⟨i, by omega, h2⟩
/-- a tuple's number along a list -/
def fq_fl (σ : Nat → Nat) (acc : Nat) (vs : List Nat) : Nat := vs.foldl (fun a k => 20 * a + σ k) acc
theorem fq_fl_acc (σ : Nat → Nat) : ∀ (vs : List Nat) (acc : Nat), fq_fl σ acc vs = 20 ^ vs.length * acc + fq_fl σ 0 vs
  | [], acc => by simp [fq_fl]
  | k :: vs, acc => by
    have h1 := fq_fl_acc σ vs (20 * acc + σ k)
    have h2 := fq_fl_acc σ vs (20 * 0 + σ k)
    show fq_fl σ (20 * acc + σ k) vs = 20 ^ (vs.length + 1) * acc + fq_fl σ (20 * 0 + σ k) vs
    rw [h1, h2, Nat.pow_succ, Nat.mul_add, Nat.mul_add, Nat.mul_assoc]
    omega
theorem fq_fl_cons (σ : Nat → Nat) (k : Nat) (vs : List Nat) : fq_fl σ 0 (k :: vs) = 20 ^ vs.length * σ k + fq_fl σ 0 vs := by
  show fq_fl σ (20 * 0 + σ k) vs = _
  rw [fq_fl_acc, Nat.mul_zero, Nat.zero_add]
theorem fq_fl_lt {σ : Nat → Nat} : ∀ {vs : List Nat}, (∀ k, k ∈ vs → σ k < 20) → fq_fl σ 0 vs < 20 ^ vs.length
  | [], _ => by simp [fq_fl]
  | k :: vs, h => by
    have h1 := fq_fl_lt (vs := vs) (fun j hj => h j (List.mem_cons_of_mem _ hj))
    have h2 := h k (List.mem_cons_self)
    rw [fq_fl_cons, List.length_cons, Nat.pow_succ]
    have := Nat.mul_le_mul_left (20 ^ vs.length) (show σ k + 1 ≤ 20 from h2)
    rw [Nat.mul_add, Nat.mul_one] at this
    omega
theorem fq_fl_eq {σ τ : Nat → Nat} : ∀ {vs : List Nat}, (∀ k, k ∈ vs → σ k = τ k) → fq_fl σ 0 vs = fq_fl τ 0 vs
  | [], _ => rfl
  | k :: vs, h => by
    rw [fq_fl_cons, fq_fl_cons, h k List.mem_cons_self, fq_fl_eq (vs := vs) (fun j hj => h j (List.mem_cons_of_mem _ hj))]
theorem fq_pre_fl {vs : List Nat} {σ : Nat → Nat} : ∀ l, l ≤ vs.length → fq_pre (fq_o vs) σ l = fq_fl σ 0 (vs.take l)
  | 0, _ => by simp [fq_pre, fq_fl]
  | l + 1, h => by
    have h1 := fq_pre_fl (vs := vs) (σ := σ) l (by omega)
    have h2 : vs.take (l + 1) = vs.take l ++ [fq_o vs l] := by
      rw [fq_o_lt (show l < vs.length by omega), List.take_append_getElem]
    rw [h2]
    simp only [fq_pre]
    rw [h1]
    unfold fq_fl
    rw [List.foldl_append]
    rfl
theorem fq_pre_A {A B : List Nat} {σ : Nat → Nat} : fq_pre (fq_o (A ++ B)) σ A.length = fq_fl σ 0 A := by
  rw [fq_pre_fl _ (by rw [List.length_append]; omega), List.take_left]
/-! counting answers along a list of variables -/
def fq_P (F : (Nat → Nat) → Prop) (us vs : List Nat) (σ : Nat → Nat) (t : Nat) : Prop := ∃ τ : Nat → Nat, (∀ k, k < 4 → τ k < 20) ∧ F τ ∧ (∀ k, k ∈ us → τ k = σ k) ∧ fq_fl τ 0 vs = t
noncomputable def fq_cnt (F : (Nat → Nat) → Prop) (us vs : List Nat) (σ : Nat → Nat) : Nat := fl_cn (fq_P F us vs σ) (20 ^ vs.length)
theorem fq_cnt_cons {F : (Nat → Nat) → Prop} {us vs : List Nat} {σ : Nat → Nat} {k : Nat} (hk : k ∉ us) (hvs : ∀ j, j ∈ vs → j < 4) : fq_cnt F us (k :: vs) σ = fl_sm (fun v => fq_cnt F (k :: us) vs (fc_un σ k v)) 20 := by
  unfold fq_cnt fl_cn
  rw [List.length_cons, Nat.pow_succ, fl_sm_split]
  refine fl_sm_eq fun v hv => fl_sm_eq fun j hj => fl_b01_eq ?_
  constructor
  · rintro ⟨τ, t1, t2, t3, t4⟩
    have hlt := fq_fl_lt (σ := τ) (vs := vs) (fun i hi => t1 i (hvs i hi))
    rw [fq_fl_cons] at t4
    have e1 : τ k = v := fq_between (B := 20 ^ vs.length) (X := τ k) (r := fq_fl τ 0 vs) (y := v) hlt (by omega) (by rw [Nat.mul_add, Nat.mul_one]; omega)
    rw [e1] at t4
    refine ⟨τ, t1, t2, fun i hi => ?_, by omega⟩
    rcases List.mem_cons.mp hi with z | z
    · subst z; rw [fc_us, e1]
    · rw [fc_uo (fun e => hk (by rw [← e]; exact z))]; exact t3 i z
  · rintro ⟨τ, t1, t2, t3, t4⟩
    have e1 : τ k = v := by rw [t3 k List.mem_cons_self, fc_us]
    refine ⟨τ, t1, t2, fun i hi => ?_, by rw [fq_fl_cons, e1, t4]⟩
    rw [t3 i (List.mem_cons_of_mem _ hi), fc_uo (fun e => hk (by rw [← e]; exact hi))]
theorem fq_cnt_drop {F : (Nat → Nat) → Prop} {us vs : List Nat} {σ : Nat → Nat} {k v : Nat} (hv : v < 20) (hk : k ∉ us) (hkv : k ∉ vs) (hF : ∀ τ v, F τ → F (fc_un τ k v)) : fq_cnt F (k :: us) vs (fc_un σ k v) = fq_cnt F us vs σ := by
  refine fl_cn_eq fun t _ => ⟨?_, ?_⟩
  · rintro ⟨τ, t1, t2, t3, t4⟩
    refine ⟨τ, t1, t2, fun i hi => ?_, t4⟩
    rw [t3 i (List.mem_cons_of_mem _ hi), fc_uo (fun e => hk (by rw [← e]; exact hi))]
  · rintro ⟨τ, t1, t2, t3, t4⟩
    refine ⟨fc_un τ k v, fun i hi => ?_, hF τ v t2, fun i hi => ?_, ?_⟩
    · by_cases hz : i = k
      · subst hz; rw [fc_us]; exact hv
      · rw [fc_uo hz]; exact t1 i hi
    · by_cases hz : i = k
      · subst hz; rw [fc_us, fc_us]
      · rw [fc_uo hz, fc_uo hz]
        rcases List.mem_cons.mp hi with z | z
        · exact absurd z hz
        · exact t3 i z
    · rw [← t4]
      exact fq_fl_eq fun i hi => fc_uo (fun e => hkv (by rw [← e]; exact hi))
theorem fq_cnt_main {F : (Nat → Nat) → Prop} {S : Nat → Bool} (hF : ∀ k, k < 4 → S k = false → ∀ τ v, F τ → F (fc_un τ k v)) : ∀ (vs us : List Nat) (σ : Nat → Nat), vs.Nodup → (∀ k, k ∈ vs → k < 4) → (∀ k, k ∈ vs → k ∉ us) → fq_cnt F us vs σ = 20 ^ (vs.filter (fun k => !S k)).length * fq_cnt F us (vs.filter S) σ
  | [], us, σ, _, _, _ => by simp
  | k :: vs, us, σ, hn, h4, hd => by
    have hn' := List.nodup_cons.mp hn
    have hvs4 : ∀ j, j ∈ vs → j < 4 := fun j hj => h4 j (List.mem_cons_of_mem _ hj)
    have hku : k ∉ us := hd k List.mem_cons_self
    cases hS : S k
    · have e1 : (k :: vs).filter S = vs.filter S := by rw [List.filter_cons, hS]; rfl
      have e2 : (k :: vs).filter (fun k => !S k) = k :: vs.filter (fun k => !S k) := by rw [List.filter_cons, hS]; rfl
      rw [e1, e2, List.length_cons, fq_cnt_cons hku hvs4]
      have ih := fq_cnt_main hF vs us σ hn'.2 hvs4 (fun j hj => hd j (List.mem_cons_of_mem _ hj))
      have e3 : fl_sm (fun v => fq_cnt F (k :: us) vs (fc_un σ k v)) 20 = fl_sm (fun _ => fq_cnt F us vs σ) 20 := fl_sm_eq fun v hv => fq_cnt_drop hv hku hn'.1 (hF k (h4 k List.mem_cons_self) hS)
      rw [e3, fl_sm_const, ih, Nat.pow_succ, Nat.mul_comm _ 20, Nat.mul_assoc]
    · have e1 : (k :: vs).filter S = k :: vs.filter S := by rw [List.filter_cons, hS]; rfl
      have e2 : (k :: vs).filter (fun k => !S k) = vs.filter (fun k => !S k) := by rw [List.filter_cons, hS]; rfl
      rw [e1, e2, fq_cnt_cons hku hvs4, fq_cnt_cons hku (fun j hj => hvs4 j (List.mem_filter.mp hj).1)]
      have ih : ∀ v, fq_cnt F (k :: us) vs (fc_un σ k v) = 20 ^ (vs.filter (fun k => !S k)).length * fq_cnt F (k :: us) (vs.filter S) (fc_un σ k v) := fun v => fq_cnt_main hF vs (k :: us) (fc_un σ k v) hn'.2 hvs4 (fun j hj hm => by
        rcases List.mem_cons.mp hm with z | z
        · subst z; exact hn'.1 hj
        · exact hd j (List.mem_cons_of_mem _ hj) z)
      have e3 : fl_sm (fun v => fq_cnt F (k :: us) vs (fc_un σ k v)) 20 = fl_sm (fun v => 20 ^ (vs.filter (fun k => !S k)).length * fq_cnt F (k :: us) (vs.filter S) (fc_un σ k v)) 20 := fl_sm_eq fun v _ => ih v
      have e4 : ∀ (c : Nat) (f : Nat → Nat) (n : Nat), fl_sm (fun v => c * f v) n = c * fl_sm f n := by
        intro c f n
        induction n with
        | zero => simp [fl_sm]
        | succ n ihn => simp only [fl_sm]; rw [ihn, Nat.mul_add]
      rw [e3, e4]
/-- the answers along the order, whoever goes over them -/
theorem fq_R_P {F Q : (Nat → Nat) → Prop} {A B : List Nat} {n : Nat} (hn : n = (A ++ B).length) (h4 : ∀ k, k ∈ A ++ B → k < 4) (hF : ∀ τ τ' : Nat → Nat, (∀ k, k ∈ A ++ B → τ k = τ' k) → F τ → F τ') (cond : Nat → Prop) (hQ : ∀ σ, Q σ ↔ (F σ ∧ cond (fq_pre (fq_o (A ++ B)) σ A.length))) (t : Nat) :
    fq_R (fq_o (A ++ B)) n A.length Q 0 t ↔ (fq_P F [] A (fun _ => 0) t ∧ cond t) := by
  constructor
  · rintro ⟨σ, t1, t2, t3, _⟩
    have hq := (hQ σ).mp t2
    have hb : ∀ k, k ∈ A ++ B → σ k < 20 := fun k hk => by
      obtain ⟨i, i1, i2⟩ := fq_mem_o hk
      rw [← i2]; exact t1 i (by omega)
    have he : ∀ k, k ∈ A ++ B → σ k = (if σ k < 20 then σ k else 0) := fun k hk => by rw [if_pos (hb k hk)]
    refine ⟨⟨fun k => if σ k < 20 then σ k else 0, fun k _ => ?_, hF σ _ he hq.1, fun k hk => absurd hk (by simp), ?_⟩, by rw [← t3]; exact hq.2⟩
    · dsimp only
      split
      · assumption
      · omega
    · rw [← t3, fq_pre_A]
      exact (fq_fl_eq fun k hk => he k (List.mem_append_left _ hk)).symm
  · rintro ⟨⟨τ, t1, t2, _, t4⟩, hc⟩
    refine ⟨τ, fun i hi => t1 _ (h4 _ (fq_o_mem (by omega))), (hQ τ).mpr ⟨t2, ?_⟩, ?_, Nat.zero_le _⟩
    · rw [fq_pre_A, t4]; exact hc
    · rw [fq_pre_A, t4]
end
section
/-! the component's search: begin, advance, leaveOthers, tuple, layBound -/
theorem fm_cb_mono {β γ : Nat → Bool} : ∀ n, (∀ i, i < n → β i = true → γ i = true) → fm_cb β n ≤ fm_cb γ n := fun n h => fl_sm_le fun i hi => by
  cases hb : β i
  · exact Nat.zero_le _
  · rw [h i hi hb]; exact Nat.le_refl _
def fq_XF (n : Nat) (o : Nat → Nat) (CX : Nat → (Nat → Nat) → Nat → Prop) (σ : Nat → Nat) (rest num : Nat → Int32) (asg : Int32) : Prop :=
  (∀ i, i < n → num (o i) = nI (σ (o i)) ∧ σ (o i) < 20) ∧ (∀ i, i < n → CX i σ (σ (o i))) ∧ (∀ i, i < n → fl_w 20 (rest i) ∧ ∀ w, w < 20 → (bt (rest i) w = true ↔ (CX i σ w ∧ σ (o i) < w))) ∧ (∀ k, k < 4 → (bt asg k = true ↔ ∃ i, i < n ∧ o i = k))
section
variable {f_latest f_kept f_steps f_mode f_since f_until f_clauses f_levels f_asked f_level f_assigned f_bounded : Int32} {a_kinds a_keptEntity a_keptAttribute a_keptValue a_came a_went a_now a_work a_stepKind a_stepEntity a_stepAttribute a_stepValue a_stepOther a_row a_column a_reach a_clauseKind a_clauseAttribute a_left a_right a_order a_rest a_number a_bound : Nat → Int32}
variable {C n m bd : Nat} {qk qa ql qr o β : Nat → Nat} {b_along : Nat → Int32}
theorem fq_begX {post : SX → Prop} {mk s : Int32} {σ : Nat → Nat} (hm : m = fm_cb (bt mk) 4) (hn : n = fm_cb (bt mk) 4 + fm_cb (bt (s &&& (mk ^^^ (-1)))) 4) (hn0 : 0 < n) (ho : o = fq_o (fq_ml (bt mk) 4 ++ fq_ml (bt (s &&& (mk ^^^ (-1)))) 4)) (hbd : bd ≤ 1) (hV : fq_V a_row a_column a_reach) (hK : fq_K C qk qa ql qr a_clauseKind a_clauseAttribute a_left a_right b_along) (hβ : bd = 1 → ∀ i, i < m → a_bound i = nI (β i) ∧ β i < 20)
    (hs : ∀ post : Int32 → Prop, post s → wpX_mentioned post (f_latest, f_kept, f_steps, f_mode, f_since, f_until, nI C, f_levels, f_asked, f_level, f_assigned, nI bd, a_kinds, a_keptEntity, a_keptAttribute, a_keptValue, a_came, a_went, a_now, a_work, a_stepKind, a_stepEntity, a_stepAttribute, a_stepValue, a_stepOther, a_row, a_column, a_reach, a_clauseKind, a_clauseAttribute, a_left, a_right, a_order, a_rest, a_number, a_bound))
    (h : ∀ or s0, fq_O or (fq_ml (bt mk) 4 ++ fq_ml (bt (s &&& (mk ^^^ (-1)))) 4) → fl_w 20 s0 → (∀ w, w < 20 → (bt s0 w = true ↔ fq_CX C qk qa ql qr a_row a_reach o bd m β 0 σ w)) → post (f_latest, f_kept, f_steps, f_mode, f_since, f_until, nI C, nI n, nI m, 0, 0, nI bd, a_kinds, a_keptEntity, a_keptAttribute, a_keptValue, a_came, a_went, a_now, a_work, a_stepKind, a_stepEntity, a_stepAttribute, a_stepValue, a_stepOther, a_row, a_column, a_reach, a_clauseKind, a_clauseAttribute, a_left, a_right, or, upd a_rest 0 s0, a_number, a_bound)) :
    wpX_begin_ post (f_latest, f_kept, f_steps, f_mode, f_since, f_until, nI C, f_levels, f_asked, f_level, f_assigned, nI bd, a_kinds, a_keptEntity, a_keptAttribute, a_keptValue, a_came, a_went, a_now, a_work, a_stepKind, a_stepEntity, a_stepAttribute, a_stepValue, a_stepOther, a_row, a_column, a_reach, a_clauseKind, a_clauseAttribute, a_left, a_right, a_order, a_rest, a_number, a_bound) mk := by
  have hdis : ∀ k, k < 4 → bt (s &&& (mk ^^^ (-1))) k = true → (!bt mk k) = true := fun k hk hb => by
    rw [b_and, fl_not _ (by omega), Bool.and_eq_true] at hb
    exact hb.2
  have hn4 : n ≤ 4 := by
    have h1 := fm_cb_mono (β := bt (s &&& (mk ^^^ (-1)))) (γ := fun k => !bt mk k) 4 hdis
    have h2 := fq_cb_not (bt mk) 4
    omega
  have hvlen : (fq_ml (bt mk) 4 ++ fq_ml (bt (s &&& (mk ^^^ (-1)))) 4).length = n := by rw [List.length_append, fq_ml_len, fq_ml_len, hn]
  have key66 : ∀ d k or, k + d = 4 → fq_O or (fq_ml (bt mk) 4 ++ fq_ml (bt (s &&& (mk ^^^ (-1)))) k) → wX_begin__66 post (s &&& (mk ^^^ (-1))) f_latest f_kept f_steps f_mode f_since f_until (nI C) (nI m) f_level f_assigned (nI bd) (d + 1) (nI k) (nI (fm_cb (bt mk) 4 + fm_cb (bt (s &&& (mk ^^^ (-1)))) k)) a_kinds a_keptEntity a_keptAttribute a_keptValue a_came a_went a_now a_work a_stepKind a_stepEntity a_stepAttribute a_stepValue a_stepOther a_row a_column a_reach a_clauseKind a_clauseAttribute a_left a_right or a_rest a_number a_bound := by
    intro d
    induction d with
    | zero =>
      intro k or hk hO
      have e : k = 4 := by omega
      subst e
      have hor : ∀ i, i ≤ 0 → or i = nI (o i) ∧ o i < 4 := fun i hi => by
        have hi0 : i < (fq_ml (bt mk) 4 ++ fq_ml (bt (s &&& (mk ^^^ (-1)))) 4).length := by omega
        rw [ho]
        exact ⟨hO i hi0, fq_vs_lt (fq_o_mem hi0)⟩
      obtain ⟨s0, u1, u2, u3⟩ := fq_choX (l := 0) (o := o) (σ := σ) (by omega) (show m ≤ 4 by omega) hbd hV hK hor (f_assigned := 0) (fun k _ => by rw [b_0]; exact ⟨fun z => absurd z (by decide), fun ⟨i, i1, _⟩ => absurd i1 (by omega)⟩) (fun i hi => absurd hi (by omega)) hβ (f_latest := f_latest) (f_kept := f_kept) (f_steps := f_steps) (f_mode := f_mode) (f_since := f_since) (f_until := f_until) (f_levels := nI n) (f_level := 0) (a_kinds := a_kinds) (a_keptEntity := a_keptEntity) (a_keptAttribute := a_keptAttribute) (a_keptValue := a_keptValue) (a_came := a_came) (a_went := a_went) (a_now := a_now) (a_work := a_work) (a_stepKind := a_stepKind) (a_stepEntity := a_stepEntity) (a_stepAttribute := a_stepAttribute) (a_stepValue := a_stepValue) (a_stepOther := a_stepOther) (a_rest := a_rest) (a_number := a_number)
      have h' := h or s0 hO u1 u2
      rw [← hn]
      exact br_t (nI_le (a := 4) (by omega) (by omega)) (br_f (nI_nle hn0 (by omega)) (u3 _ (nm_e h')))
    | succ d ih =>
      intro k or hk hO
      have hlen : (fq_ml (bt mk) 4 ++ fq_ml (bt (s &&& (mk ^^^ (-1)))) k).length = fm_cb (bt mk) 4 + fm_cb (bt (s &&& (mk ^^^ (-1)))) k := by rw [List.length_append, fq_ml_len, fq_ml_len]
      refine br_f (nI_ge (b := 4) (by omega) (by omega)) (fl_br1 k (by omega) (fun hb => ?_) (fun hb => nm_r (nI_1 k) ?_))
      · have hmo := fm_cb_le (β := bt (s &&& (mk ^^^ (-1)))) (a := k + 1) (b := 4) (by omega)
        rw [fm_cb_s, hb] at hmo
        have hmo' : fm_cb (bt (s &&& (mk ^^^ (-1)))) k + 1 ≤ fm_cb (bt (s &&& (mk ^^^ (-1)))) 4 := hmo
        have hh := ih (k + 1) (upd or (fm_cb (bt mk) 4 + fm_cb (bt (s &&& (mk ^^^ (-1)))) k) (nI k)) (by omega) (by
          have := fq_O_push (k := k) hO
          rw [hlen] at this
          rw [fq_ml_s (bt (s &&& (mk ^^^ (-1)))) k, hb]
          simpa using this)
        rw [fm_cb_s (bt (s &&& (mk ^^^ (-1)))) k, hb] at hh
        exact ⟨vp_in_nI (by omega) (by omega), nm_r (fk_ucl (by omega)) (nm_r (nI_1 _) (nm_r (nI_1 k) hh))⟩
      · have hh := ih (k + 1) or (by omega) (by rw [fq_ml_s (bt (s &&& (mk ^^^ (-1)))) k, hb]; simpa using hO)
        rw [fm_cb_s (bt (s &&& (mk ^^^ (-1)))) k, hb] at hh
        exact hh
  have key16 : ∀ d k or, k + d = 4 → fq_O or (fq_ml (bt mk) k) → wX_begin__16 post mk (s &&& (mk ^^^ (-1))) f_latest f_kept f_steps f_mode f_since f_until (nI C) f_asked f_level f_assigned (nI bd) (d + 1) (nI k) (nI (fm_cb (bt mk) k)) a_kinds a_keptEntity a_keptAttribute a_keptValue a_came a_went a_now a_work a_stepKind a_stepEntity a_stepAttribute a_stepValue a_stepOther a_row a_column a_reach a_clauseKind a_clauseAttribute a_left a_right or a_rest a_number a_bound := by
    intro d
    induction d with
    | zero =>
      intro k or hk hO
      have e : k = 4 := by omega
      subst e
      have hh := key66 4 0 or rfl (by simpa [fq_ml] using hO)
      rw [hm] at hh
      exact br_t (nI_le (a := 4) (by omega) (by omega)) ⟨_, hh⟩
    | succ d ih =>
      intro k or hk hO
      refine br_f (nI_ge (b := 4) (by omega) (by omega)) (fl_br1 k (by omega) (fun hb => ?_) (fun hb => nm_r (nI_1 k) ?_))
      · have hb4 := fq_cb_k (bt mk) k
        have hh := ih (k + 1) (upd or (fm_cb (bt mk) k) (nI k)) (by omega) (by
          have := fq_O_push (k := k) hO
          rw [fq_ml_len] at this
          rw [fq_ml_s, hb]
          simpa using this)
        rw [fm_cb_s, hb] at hh
        exact ⟨vp_in_nI (by omega) (by omega), nm_r (fk_ucl (by omega)) (nm_r (nI_1 _) (nm_r (nI_1 k) hh))⟩
      · have hh := ih (k + 1) or (by omega) (by rw [fq_ml_s, hb]; simpa using hO)
        rw [fm_cb_s, hb] at hh
        exact hh
  unfold wpX_begin_
  exact hs _ (nm_e ⟨_, key16 4 0 a_order rfl (fun i hi => absurd hi (by simp [fq_ml]))⟩)
theorem fq_advX {post : Int32 → SX → Prop} {S : Nat → Prop} {Q : (Nat → Nat) → Prop} (hn4 : n ≤ 4) (hmn : m ≤ n) (hbd : bd ≤ 1) (hV : fq_V a_row a_column a_reach) (hK : fq_K C qk qa ql qr a_clauseKind a_clauseAttribute a_left a_right b_along)
    (hor : ∀ i, i < n → a_order i = nI (o i) ∧ o i < 4) (hinj : ∀ i j, i < n → j < n → o i = o j → i = j) (hβ : bd = 1 → ∀ i, i < m → a_bound i = nI (β i) ∧ β i < 20) (hCH : fq_CH o n Q (fq_CX C qk qa ql qr a_row a_reach o bd m β))
    (hend : S = (fun _ => False) → ∀ asg rest num, post 0 (f_latest, f_kept, f_steps, f_mode, f_since, f_until, nI C, nI n, nI m, -1, asg, nI bd, a_kinds, a_keptEntity, a_keptAttribute, a_keptValue, a_came, a_went, a_now, a_work, a_stepKind, a_stepEntity, a_stepAttribute, a_stepValue, a_stepOther, a_row, a_column, a_reach, a_clauseKind, a_clauseAttribute, a_left, a_right, a_order, rest, num, a_bound))
    (hfnd : ∀ σ rest num asg, fq_XF n o (fq_CX C qk qa ql qr a_row a_reach o bd m β) σ rest num asg → S = fq_R o n m Q (fq_pre o σ n) → post 1 (f_latest, f_kept, f_steps, f_mode, f_since, f_until, nI C, nI n, nI m, nI (n - 1), asg, nI bd, a_kinds, a_keptEntity, a_keptAttribute, a_keptValue, a_came, a_went, a_now, a_work, a_stepKind, a_stepEntity, a_stepAttribute, a_stepValue, a_stepOther, a_row, a_column, a_reach, a_clauseKind, a_clauseAttribute, a_left, a_right, a_order, rest, num, a_bound)) :
    ∀ f l σ j t asg rest num, l < n → j ≤ 20 → (∀ i, i < l → num (o i) = nI (σ (o i)) ∧ σ (o i) < 20) → (∀ i, i < l → fq_CX C qk qa ql qr a_row a_reach o bd m β i σ (σ (o i))) → (∀ i, i < l → fl_w 20 (rest i) ∧ ∀ w, w < 20 → (bt (rest i) w = true ↔ (fq_CX C qk qa ql qr a_row a_reach o bd m β i σ w ∧ σ (o i) < w))) → (fl_w 20 (rest l) ∧ ∀ w, w < 20 → (bt (rest l) w = true ↔ (fq_CX C qk qa ql qr a_row a_reach o bd m β l σ w ∧ j ≤ w))) → (∀ k, k < 4 → k ≠ o l → (bt asg k = true ↔ ∃ i, i < l ∧ o i = k)) → t ≤ fq_ph l (fq_pre o σ l) j → 200000 < f + fq_ph l (fq_pre o σ l) j → S = fq_R o n m Q (20 ^ (n - 1 - l) * (20 * fq_pre o σ l + j)) →
      wX_advance_2 post f_latest f_kept f_steps f_mode f_since f_until (nI C) (nI n) (nI m) (nI bd) f (nI t) (nI l) asg a_kinds a_keptEntity a_keptAttribute a_keptValue a_came a_went a_now a_work a_stepKind a_stepEntity a_stepAttribute a_stepValue a_stepOther a_row a_column a_reach a_clauseKind a_clauseAttribute a_left a_right a_order rest num a_bound := by
  intro f
  induction f with
  | zero =>
    intro l σ j t asg rest num hl hj i1 i2 i3 i4 i5 ht hf hS
    have := fq_ph_le (fq_pre_lt (o := o) (σ := σ) (l := l) (fun i hi => (i1 i hi).2)) (by omega) hj
    omega
  | succ f ih =>
    intro l σ j t asg rest num hl hj i1 i2 i3 i4 i5 ht hf hS
    have hphb := fq_ph_le (fq_pre_lt (o := o) (σ := σ) (l := l) (fun i hi => (i1 i hi).2)) (by omega) hj
    obtain ⟨ol1, ol2⟩ := hor l hl
    have hne : ∀ i, i < l → o i ≠ o l := fun i hi e => by
      have := hinj i l (by omega) hl e
      omega
    have hin : vp_in (nI l) 4 := vp_in_nI (by omega) (by omega)
    have hino : vp_in (nI (o l)) 4 := vp_in_nI ol2 (by omega)
    have hasg : ∀ k, k < 4 → (bt (asg &&& (((1 : Int32) <<< (nI (o l) &&& 31)) ^^^ (-1))) k = true ↔ ∃ i, i < l ∧ o i = k) := fun k hk => by
      rw [b_and, Bool.and_eq_true, fl_not _ (by omega), fl_one (by omega)]
      by_cases hz : k = o l
      · subst hz
        constructor
        · rintro ⟨_, z⟩; simp at z
        · rintro ⟨i, z1, z2⟩; exact absurd z2 (hne i z1)
      · rw [decide_eq_false hz, i5 k hk hz]
        exact ⟨fun z => z.1, fun z => ⟨z, rfl⟩⟩
    refine br_f (nI_ge (b := 8000000) (by omega) (by omega)) (br_f (nI_pos (by omega)) ⟨hin, ?_⟩)
    rw [fk_cl (f := a_order) (n := l) (by omega), ol1, fk_cl (f := rest) (n := l) (by omega), nI_clamp (n := o l) (by omega)]
    refine nm_e ⟨hin, ?_⟩
    by_cases h0 : rest l = 0
    · have hskip := fq_skips (m := m) hCH (show n = l + 1 + (n - 1 - l) by omega) (fun i hi => (i1 i hi).2) (20 - j) j (by omega) (fun w w1 w2 hcx => by
        have := (i4.2 w (by omega)).mpr ⟨hcx, w1⟩
        rw [h0, b_0] at this
        exact absurd this (by decide))
      rw [hskip, show j + (20 - j) = 20 by omega] at hS
      refine br_t h0 ?_
      rcases Nat.eq_zero_or_pos l with z | z
      · subst z
        obtain ⟨f', rfl⟩ : ∃ f', f = f' + 1 := ⟨f - 1, by omega⟩
        obtain ⟨n', rfl⟩ : ∃ n', n = n' + 1 := ⟨n - 1, by omega⟩
        rw [fq_end (by simp only [fq_pre]; rw [Nat.add_sub_cancel, Nat.sub_zero, Nat.pow_succ]; simp)] at hS
        have hE := hend hS (asg &&& (((1 : Int32) <<< (nI (o 0) &&& 31)) ^^^ (-1))) rest num
        exact nm_r (e' := -1) (by decide) (nm_e (br_c (fun _ => hE) (fun _ => br_t (by decide) hE)))
      · obtain ⟨l', rfl⟩ : ∃ l', l = l' + 1 := ⟨l - 1, by omega⟩
        have hw := (i1 l' (by omega)).2
        have hp0 : l' = 0 → fq_pre o σ l' = 0 := fun z => by rw [z]; rfl
        have hup := fq_ph_up (l := l') (p := fq_pre o σ l') (w := σ (o l')) (by omega) hw hp0
        have hj20 : fq_ph (l' + 1) (fq_pre o σ (l' + 1)) j ≤ fq_ph (l' + 1) (fq_pre o σ (l' + 1)) 20 := by
          rcases Nat.lt_or_ge j 20 with z | z
          · exact Nat.le_of_lt (fq_ph_j z)
          · rw [show j = 20 by omega]; exact Nat.le_refl _
        have hup' : fq_ph (l' + 1) (fq_pre o σ (l' + 1)) 20 < fq_ph l' (fq_pre o σ l') (σ (o l') + 1) := hup
        refine nm_r (nI_pred l') (nm_r (nI_1 t) (ih l' σ (σ (o l') + 1) (t + 1) _ rest num (by omega) (by omega) (fun i hi => i1 i (by omega)) (fun i hi => i2 i (by omega)) (fun i hi => i3 i (by omega)) (i3 l' (by omega)) (fun k hk hkl => ?_) (by omega) (by omega) ?_))
        · rw [hasg k hk]
          constructor
          · rintro ⟨i, z1, z2⟩
            refine ⟨i, ?_, z2⟩
            rcases Nat.lt_or_ge i l' with q | q
            · exact q
            · rw [show i = l' by omega] at z2; exact absurd z2.symm hkl
          · rintro ⟨i, z1, z2⟩; exact ⟨i, by omega, z2⟩
        · rw [hS]
          have e : n - 1 - l' = (n - 1 - (l' + 1)) + 1 := by omega
          rw [e, ← fq_lo_up]
          rfl
    · obtain ⟨w0, w1, w2, w3⟩ := fl_low i4.1 h0
      obtain ⟨c1, c2⟩ := (i4.2 w0 w1).mp w2
      have hskip := fq_skips (m := m) hCH (show n = l + 1 + (n - 1 - l) by omega) (fun i hi => (i1 i hi).2) (w0 - j) j (by omega) (fun w q1 q2 hcx => by
        have := (i4.2 w (by omega)).mpr ⟨hcx, q1⟩
        rw [w3 w (by omega)] at this
        exact absurd this (by decide))
      rw [hskip, show j + (w0 - j) = w0 by omega] at hS
      have hjw : fq_ph l (fq_pre o σ l) j ≤ fq_ph l (fq_pre o σ l) w0 := by
        rcases Nat.lt_or_ge j w0 with z | z
        · exact Nat.le_of_lt (fq_ph_j z)
        · rw [show j = w0 by omega]; exact Nat.le_refl _
      have hagree : ∀ i, i < l → σ (o i) = fc_un σ (o l) w0 (o i) := fun i hi => (fc_uo (hne i hi)).symm
      have hpre : fq_pre o (fc_un σ (o l) w0) l = fq_pre o σ l := (fq_pre_eq hagree).symm
      have hcg : ∀ i w, i ≤ l → (fq_CX C qk qa ql qr a_row a_reach o bd m β i (fc_un σ (o l) w0) w ↔ fq_CX C qk qa ql qr a_row a_reach o bd m β i σ w) := fun i w hi => (hCH.1 i σ _ w (by omega) (fun k hk => hagree k (by omega))).symm
      have n1 : ∀ i, i < l + 1 → upd num (o l) (nI w0) (o i) = nI (fc_un σ (o l) w0 (o i)) ∧ fc_un σ (o l) w0 (o i) < 20 := fun i hi => by
        by_cases hz : i = l
        · subst hz; rw [pk_us, fc_us]; exact ⟨rfl, w1⟩
        · rw [pk_un (hne i (by omega)), fc_uo (hne i (by omega))]; exact i1 i (by omega)
      have n2 : ∀ i, i < l + 1 → fq_CX C qk qa ql qr a_row a_reach o bd m β i (fc_un σ (o l) w0) (fc_un σ (o l) w0 (o i)) := fun i hi => by
        rw [hcg i _ (by omega)]
        by_cases hz : i = l
        · subst hz; rw [fc_us]; exact c1
        · rw [fc_uo (hne i (by omega))]; exact i2 i (by omega)
      have n3 : ∀ i, i < l + 1 → fl_w 20 (upd rest l (rest l &&& (rest l - 1)) i) ∧ ∀ w, w < 20 → (bt (upd rest l (rest l &&& (rest l - 1)) i) w = true ↔ (fq_CX C qk qa ql qr a_row a_reach o bd m β i (fc_un σ (o l) w0) w ∧ fc_un σ (o l) w0 (o i) < w)) := fun i hi => by
        by_cases hz : i = l
        · subst hz
          rw [pk_us, fc_us]
          refine ⟨fl_w_and i4.1, fun w hw => ?_⟩
          rw [fl_pop w2 w3, Bool.and_eq_true, i4.2 w hw, hcg i w (Nat.le_refl _), decide_eq_true_iff]
          constructor
          · rintro ⟨⟨q1, q2⟩, q3⟩
            refine ⟨q1, ?_⟩
            rcases Nat.lt_or_ge w w0 with z | z
            · have := (i4.2 w hw).mpr ⟨q1, q2⟩
              rw [w3 w z] at this
              exact absurd this (by decide)
            · omega
          · rintro ⟨q1, q2⟩
            exact ⟨⟨q1, by omega⟩, by omega⟩
        · rw [pk_un hz, fc_uo (hne i (by omega))]
          refine ⟨(i3 i (by omega)).1, fun w hw => ?_⟩
          rw [hcg i w (by omega)]
          exact (i3 i (by omega)).2 w hw
      have n4 : ∀ k, k < 4 → (bt ((asg &&& (((1 : Int32) <<< (nI (o l) &&& 31)) ^^^ (-1))) ||| ((1 : Int32) <<< (nI (o l) &&& 31))) k = true ↔ ∃ i, i < l + 1 ∧ o i = k) := fun k hk => by
        rw [b_or, Bool.or_eq_true, hasg k hk, fl_one (by omega), decide_eq_true_iff]
        constructor
        · rintro (⟨i, z1, z2⟩ | z)
          · exact ⟨i, by omega, z2⟩
          · exact ⟨l, by omega, z.symm⟩
        · rintro ⟨i, z1, z2⟩
          by_cases hz : i = l
          · subst hz; exact Or.inr z2.symm
          · exact Or.inl ⟨i, by omega, z2⟩
      refine br_f h0 ⟨hin, hin, fl_lowest w1 w2 w3 ⟨hino, nm_e ⟨hin, hin, hin, nm_r (fk_ucl (by omega)) ⟨hin, nm_e ?_⟩⟩⟩⟩
      have en : nI n - 1 = nI (n - 1) := pk_sub (b := 1) (by omega)
      rw [en]
      refine pk_eq l (n - 1) (fun z => ?_) (fun z => ?_)
      · have hln : l + 1 = n := by omega
        rw [hln] at n1 n2 n3 n4
        have hf' := hfnd (fc_un σ (o l) w0) _ _ _ ⟨n1, n2, n3, n4⟩ (by
          rw [hS, ← hln]
          show _ = fq_R o (l + 1) m Q (20 * fq_pre o (fc_un σ (o l) w0) l + fc_un σ (o l) w0 (o l))
          rw [hpre, fc_us, show l + 1 - 1 - l = 0 by omega, Nat.pow_zero, Nat.one_mul])
        rw [z]
        rw [z] at hf'
        exact hf'
      · obtain ⟨o1', o2'⟩ := hor (l + 1) (by omega)
        have epre : fq_pre o (fc_un σ (o l) w0) (l + 1) = 20 * fq_pre o σ l + w0 := by
          show 20 * fq_pre o (fc_un σ (o l) w0) l + fc_un σ (o l) w0 (o l) = _
          rw [hpre, fc_us]
        have hp0 : l = 0 → fq_pre o σ l = 0 := fun z => by rw [z]; rfl
        have hdn := fq_ph_down (l := l) (p := fq_pre o σ l) (j := w0) (by omega) w1 hp0
        obtain ⟨s0, u1, u2, u3⟩ := fq_choX (l := l + 1) (m := m) (bd := bd) (C := C) (o := o) (β := β) (σ := fc_un σ (o l) w0) (by omega) (show m ≤ 4 by omega) hbd hV hK (fun i hi => hor i (by omega)) n4 n1 hβ (f_latest := f_latest) (f_kept := f_kept) (f_steps := f_steps) (f_mode := f_mode) (f_since := f_since) (f_until := f_until) (f_levels := nI n) (f_level := nI (l + 1)) (a_kinds := a_kinds) (a_keptEntity := a_keptEntity) (a_keptAttribute := a_keptAttribute) (a_keptValue := a_keptValue) (a_came := a_came) (a_went := a_went) (a_now := a_now) (a_work := a_work) (a_stepKind := a_stepKind) (a_stepEntity := a_stepEntity) (a_stepAttribute := a_stepAttribute) (a_stepValue := a_stepValue) (a_stepOther := a_stepOther) (a_rest := upd rest l (rest l &&& (rest l - 1)))
        refine nm_r (nI_1 l) (u3 _ ⟨vp_in_nI (by omega) (by omega), nm_r (fk_ucl (by omega)) (nm_r (nI_1 t) (ih (l + 1) (fc_un σ (o l) w0) 0 (t + 1) _ _ _ (by omega) (by omega) n1 n2 (fun i hi => ?_) ?_ (fun k hk _ => n4 k hk) ?_ ?_ ?_))⟩)
        · rw [pk_un (by omega)]; exact n3 i hi
        · rw [pk_us]
          refine ⟨u1, fun w hw => ?_⟩
          rw [u2 w hw]
          exact ⟨fun q => ⟨q, Nat.zero_le _⟩, fun q => q.1⟩
        · rw [epre]; omega
        · rw [epre]; omega
        · rw [hS, epre, fq_lo_down, show n - 1 - (l + 1) + 1 = n - 1 - l by omega]
theorem fq_leaveX {post : SX → Prop} (hmn : m ≤ n) (hn4 : n ≤ 4) (hor : ∀ i, i < n → a_order i = nI (o i) ∧ o i < 4)
    (h : ∀ asg, (∀ k, k < 4 → (bt asg k = true ↔ (bt f_assigned k = true ∧ ∀ i, m ≤ i → i < n → o i ≠ k))) → post (f_latest, f_kept, f_steps, f_mode, f_since, f_until, nI C, nI n, nI m, nI m - 1, asg, nI bd, a_kinds, a_keptEntity, a_keptAttribute, a_keptValue, a_came, a_went, a_now, a_work, a_stepKind, a_stepEntity, a_stepAttribute, a_stepValue, a_stepOther, a_row, a_column, a_reach, a_clauseKind, a_clauseAttribute, a_left, a_right, a_order, a_rest, a_number, a_bound)) : wpX_leaveOthers post (f_latest, f_kept, f_steps, f_mode, f_since, f_until, nI C, nI n, nI m, f_level, f_assigned, nI bd, a_kinds, a_keptEntity, a_keptAttribute, a_keptValue, a_came, a_went, a_now, a_work, a_stepKind, a_stepEntity, a_stepAttribute, a_stepValue, a_stepOther, a_row, a_column, a_reach, a_clauseKind, a_clauseAttribute, a_left, a_right, a_order, a_rest, a_number, a_bound) := by
  have key : ∀ d at_ asg, at_ + d = n → m ≤ at_ → (∀ k, k < 4 → (bt asg k = true ↔ (bt f_assigned k = true ∧ ∀ i, m ≤ i → i < at_ → o i ≠ k))) → wX_leaveOthers_5 post f_latest f_kept f_steps f_mode f_since f_until (nI C) (nI n) (nI m) f_level (nI bd) a_kinds a_keptEntity a_keptAttribute a_keptValue a_came a_went a_now a_work a_stepKind a_stepEntity a_stepAttribute a_stepValue a_stepOther a_row a_column a_reach a_clauseKind a_clauseAttribute a_left a_right a_order a_rest a_number a_bound (d + 1) (nI at_) asg := by
    intro d
    induction d with
    | zero =>
      intro at_ asg ha hm hk
      have e : at_ = n := by omega
      subst e
      exact br_t (nI_le (by omega) (by omega)) (nm_e (h asg hk))
    | succ d ih =>
      intro at_ asg ha hm hk
      obtain ⟨o1, o2⟩ := hor at_ (by omega)
      refine br_f (nI_ge (by omega) (by omega)) ⟨vp_in_nI (by omega) (by omega), ?_⟩
      rw [fk_cl (f := a_order) (n := at_) (by omega), o1]
      refine nm_e (nm_r (nI_1 at_) (ih (at_ + 1) _ (by omega) (by omega) (fun k hk4 => ?_)))
      rw [b_and, Bool.and_eq_true, fl_not _ (by omega), fl_one (by omega), hk k hk4]
      constructor
      · rintro ⟨⟨z1, z2⟩, z3⟩
        refine ⟨z1, fun i hi1 hi2 e => ?_⟩
        by_cases hz : i = at_
        · subst hz
          rw [e] at z3
          simp at z3
        · exact z2 i hi1 (by omega) e
      · rintro ⟨z1, z2⟩
        refine ⟨⟨z1, fun i hi1 hi2 => z2 i hi1 (by omega)⟩, ?_⟩
        have := z2 at_ hm (by omega)
        rw [decide_eq_false (fun e => this e.symm)]
        rfl
  exact ⟨_, key (n - m) m f_assigned (by omega) (Nat.le_refl _) (fun k hk => ⟨fun z => ⟨z, fun i i1 i2 => absurd i2 (by omega)⟩, fun z => z.1⟩)⟩
theorem fq_tupX {post : Int32 → Prop} {σ : Nat → Nat} (hm : m ≤ 4) (hor : ∀ i, i < m → a_order i = nI (o i) ∧ o i < 4) (hn : ∀ i, i < m → a_number (o i) = nI (σ (o i))) (h : post (nI (fq_pre o σ m))) : wpX_tuple post (f_latest, f_kept, f_steps, f_mode, f_since, f_until, f_clauses, f_levels, nI m, f_level, f_assigned, f_bounded, a_kinds, a_keptEntity, a_keptAttribute, a_keptValue, a_came, a_went, a_now, a_work, a_stepKind, a_stepEntity, a_stepAttribute, a_stepValue, a_stepOther, a_row, a_column, a_reach, a_clauseKind, a_clauseAttribute, a_left, a_right, a_order, a_rest, a_number, a_bound) := by
  have key : ∀ d l, l + d = m → wX_tuple_4 post f_latest f_kept f_steps f_mode f_since f_until f_clauses f_levels (nI m) f_level f_assigned f_bounded a_kinds a_keptEntity a_keptAttribute a_keptValue a_came a_went a_now a_work a_stepKind a_stepEntity a_stepAttribute a_stepValue a_stepOther a_row a_column a_reach a_clauseKind a_clauseAttribute a_left a_right a_order a_rest a_number a_bound (d + 1) (nI (fq_pre o σ l)) (nI l) := by
    intro d
    induction d with
    | zero =>
      intro l hl
      have e : l = m := by omega
      subst e
      exact br_t (nI_le (by omega) (by omega)) h
    | succ d ih =>
      intro l hl
      obtain ⟨o1, o2⟩ := hor l (by omega)
      refine br_f (nI_ge (by omega) (by omega)) ⟨vp_in_nI (by omega) (by omega), ?_⟩
      rw [fk_cl (f := a_order) (n := l) (by omega), o1, fk_cl (f := a_number) (n := o l) (by omega), hn l (by omega), fv_i20]
      exact ⟨vp_in_nI (by omega) (by omega), nm_e (nm_r (nI_1 l) (ih (l + 1) (by omega)))⟩
  exact ⟨_, key m 0 (by omega)⟩
end
end
section
/-! the whole searches -/
theorem fq_full_congr {C : Nat} {qk qa ql qr : Nat → Nat} {row reach : Nat → Int32} {τ τ' : Nat → Nat} (h1 : ∀ c, c < C → 20 ≤ ql c → τ (ql c - 20) = τ' (ql c - 20)) (h2 : ∀ c, c < C → 20 ≤ qr c → τ (qr c - 20) = τ' (qr c - 20)) (hf : fq_full C qk qa ql qr row reach τ) : fq_full C qk qa ql qr row reach τ' := by
  intro c hc
  have h := hf c hc
  have e1 : fq_tv τ (ql c) = fq_tv τ' (ql c) := by
    rcases Nat.lt_or_ge (ql c) 20 with z | z
    · rw [fq_tv_c z, fq_tv_c z]
    · rw [fq_tv_v z, fq_tv_v z]; exact h1 c hc z
  have e2 : fq_tv τ (qr c) = fq_tv τ' (qr c) := by
    rcases Nat.lt_or_ge (qr c) 20 with z | z
    · rw [fq_tv_c z, fq_tv_c z]
    · rw [fq_tv_v z, fq_tv_v z]; exact h2 c hc z
  rw [← e1, ← e2]; exact h
theorem fq_mkw : ∀ mm, mm < 16 → fl_w 4 (nI mm) := by
  intro mm hm i hi
  rcases Nat.lt_or_ge i 32 with h | h
  · exact (by decide +kernel : ∀ mm, mm < 16 → ∀ i, i < 32 → 4 ≤ i → bt (nI mm) i = false) mm hm i h hi
  · exact b_big h
theorem fq_mk1 : ∀ mm, mm < 16 → 1 ≤ mm → 1 ≤ fm_cb (bt (nI mm)) 4 := by decide +kernel
theorem fq_cb_w {mk : Int32} (h : fl_w 4 mk) : fl_pc mk = fm_cb (bt mk) 4 := by
  have e : fl_pc mk = fl_sm (fun i => (bt mk i).toNat) (4 + 16) := rfl
  rw [e, fl_sm_app]
  have e2 : fl_sm (fun j => (bt mk (4 + j)).toNat) 16 = fl_sm (fun _ => 0) 16 := fl_sm_eq fun j _ => by rw [h (4 + j) (by omega)]; rfl
  rw [e2, fl_sm_const]; rfl
theorem fq_pow4 {m : Nat} (h : m ≤ 4) : 20 ^ m ≤ 160000 := by
  have : 20 ^ m ≤ 20 ^ 4 := Nat.pow_le_pow_right (by omega) h
  omega
theorem fq_dig {af m : Nat} (h : af < 20 ^ m) : ∀ l, l ≤ m → fq_pre (fun i => i) (fun i => af / 20 ^ (m - 1 - i) % 20) l = af / 20 ^ (m - l)
  | 0, _ => by
    rw [Nat.sub_zero, Nat.div_eq_of_lt h]; rfl
  | l + 1, hl => by
    simp only [fq_pre]
    rw [fq_dig h l (by omega), show m - 1 - l = m - (l + 1) by omega, show m - l = (m - (l + 1)) + 1 by omega, Nat.pow_succ, ← Nat.div_div_eq_div_mul]
    omega
section
variable {f_latest f_kept f_steps f_mode f_since f_until f_clauses f_levels f_asked f_level f_assigned f_bounded : Int32} {a_kinds a_keptEntity a_keptAttribute a_keptValue a_came a_went a_now a_work a_stepKind a_stepEntity a_stepAttribute a_stepValue a_stepOther a_row a_column a_reach a_clauseKind a_clauseAttribute a_left a_right a_order a_rest a_number a_bound : Nat → Int32}
variable {g_latest g_steps g_mode g_from g_to g_clauses g_masked : Int32} {b_attributeKinds b_sets b_work b_sorts b_entities b_attributes b_values b_others b_seen b_reach b_kinds b_along b_left b_right b_order b_number : Nat → Int32}
variable {C m L md sn un : Nat} {qk qa ql qr : Nat → Nat} {row col reach a_ca : Nat → Int32} {x2 x3 mk : Int32}
theorem fq_layX {post : SX → Prop} {af : Nat} (hm : m = fm_cb (bt mk) 4) (hmk : fl_w 4 mk) (haf : af < 2 ^ 31) (h : ∀ bnd, (∀ i, i < m → bnd i = nI (af / 20 ^ (m - 1 - i) % 20)) → post (f_latest, f_kept, f_steps, f_mode, f_since, f_until, f_clauses, f_levels, f_asked, f_level, f_assigned, f_bounded, a_kinds, a_keptEntity, a_keptAttribute, a_keptValue, a_came, a_went, a_now, a_work, a_stepKind, a_stepEntity, a_stepAttribute, a_stepValue, a_stepOther, a_row, a_column, a_reach, a_clauseKind, a_clauseAttribute, a_left, a_right, a_order, a_rest, a_number, bnd)) : wpX_layBound post (f_latest, f_kept, f_steps, f_mode, f_since, f_until, f_clauses, f_levels, f_asked, f_level, f_assigned, f_bounded, a_kinds, a_keptEntity, a_keptAttribute, a_keptValue, a_came, a_went, a_now, a_work, a_stepKind, a_stepEntity, a_stepAttribute, a_stepValue, a_stepOther, a_row, a_column, a_reach, a_clauseKind, a_clauseAttribute, a_left, a_right, a_order, a_rest, a_number, a_bound) mk (nI af) := by
  have hm4 : m ≤ 4 := by rw [hm]; exact fq_cb_k _ 4
  have key : ∀ at_ bnd, at_ ≤ m → (∀ i, at_ ≤ i → i < m → bnd i = nI (af / 20 ^ (m - 1 - i) % 20)) → wX_layBound_13 post f_latest f_kept f_steps f_mode f_since f_until f_clauses f_levels f_asked f_level f_assigned f_bounded (at_ + 1) (nI (af / 20 ^ (m - at_))) (nI at_ - 1) a_kinds a_keptEntity a_keptAttribute a_keptValue a_came a_went a_now a_work a_stepKind a_stepEntity a_stepAttribute a_stepValue a_stepOther a_row a_column a_reach a_clauseKind a_clauseAttribute a_left a_right a_order a_rest a_number bnd := by
    intro at_
    induction at_ with
    | zero =>
      intro bnd _ hb
      exact br_t (by decide) (h bnd fun i hi => hb i (by omega) hi)
    | succ at_ ih =>
      intro bnd ha hb
      have hX : af / 20 ^ (m - (at_ + 1)) < 2 ^ 31 := Nat.lt_of_le_of_lt (Nat.div_le_self _ _) haf
      have er : nI (af / 20 ^ (m - (at_ + 1))) - nI (af / 20 ^ (m - (at_ + 1))) / 20 * 20 = nI (af / 20 ^ (m - (at_ + 1)) % 20) := pk_rem (d := 20) hX (by omega) (by omega)
      have ed : nI (af / 20 ^ (m - (at_ + 1))) / 20 = nI (af / 20 ^ (m - at_)) := (pk_div (d := 20) hX (by omega) (by omega)).trans (congrArg nI (by
        rw [show m - at_ = (m - (at_ + 1)) + 1 by omega, Nat.pow_succ, ← Nat.div_div_eq_div_mul]))
      have em : nI at_ + (-1) = nI at_ - 1 := by grind
      rw [nI_pred]
      refine br_f (nI_pos (by omega)) ⟨by decide, vp_in_nI (by omega) (by omega), nm_r (e' := upd bnd at_ (nI (af / 20 ^ (m - (at_ + 1)) % 20))) ?_ ⟨by decide, nm_r ed (nm_r em (ih _ (by omega) (fun i hi1 hi2 => ?_)))⟩⟩
      · rw [er, nI_clamp (by omega)]
      · by_cases hz : i = at_
        · subst hz
          rw [pk_us, show m - (i + 1) = m - 1 - i by omega]
        · rw [pk_un hz]; exact hb i (by omega) hi2
  unfold wpX_layBound
  refine fl_ones (fl_w_mono hmk (by omega)) ?_
  rw [fq_cb_w hmk, ← hm]
  have h0 := key m a_bound (Nat.le_refl _) (fun i h1 h2 => absurd h2 (by omega))
  rw [Nat.sub_self, Nat.pow_zero, Nat.div_one] at h0
  exact nm_e ⟨_, h0⟩
theorem fq_srchY {post : Int32 → SY → Prop} (G : Nat → (Nat → Prop) → Prop) (hW : fr_W L md sn un b_sets row col reach) (hL : L ≤ 24) (hK : fq_K C qk qa ql qr b_kinds a_ca b_left b_right b_along) (hm : m = fm_cb (bt mk) 4) (hm1 : 1 ≤ m)
    (hG0 : G 0 (fq_R (fq_o (fq_ml (bt mk) 4 ++ fq_ml (fun k => !bt mk k) 4)) 4 m (fq_full C qk qa ql qr row reach) 0))
    (hend : ∀ c msk seen rch or num, G c (fun _ => False) → (x2 = 0 → post (-2) (g_latest, g_steps, nI md, nI sn, nI un, nI C, msk, b_attributeKinds, b_sets, b_work, b_sorts, b_entities, b_attributes, b_values, b_others, seen, rch, b_kinds, b_along, b_left, b_right, or, num)) ∧ (¬ x2 = 0 → post (nI c) (g_latest, g_steps, nI md, nI sn, nI un, nI C, msk, b_attributeKinds, b_sets, b_work, b_sorts, b_entities, b_attributes, b_values, b_others, seen, rch, b_kinds, b_along, b_left, b_right, or, num)))
    (hfnd : ∀ c S S' t msk seen rch or num, G c S → t < 20 ^ m → S t → (∀ t', S t' → t ≤ t') → ¬ S' t → (∀ t', t' ≠ t → (S t' ↔ S' t')) → (x2 = 0 ∧ ¬ nI t ≤ x3 ∧ post (nI t) (g_latest, g_steps, nI md, nI sn, nI un, nI C, msk, b_attributeKinds, b_sets, b_work, b_sorts, b_entities, b_attributes, b_values, b_others, seen, rch, b_kinds, b_along, b_left, b_right, or, num)) ∨ ((x2 = 0 → nI t ≤ x3) ∧ G (c + 1) S')) :
    wpY_search post (g_latest, g_steps, nI md, nI sn, nI un, nI C, g_masked, b_attributeKinds, b_sets, b_work, b_sorts, b_entities, b_attributes, b_values, b_others, b_seen, b_reach, b_kinds, b_along, b_left, b_right, b_order, b_number) mk x2 x3 := by
  have hun := hW.1.2.2
  have hperm := fq_vs_perm (bt mk)
  have hm4 : m ≤ 4 := by rw [hm]; exact fq_cb_k _ 4
  have hlen : (fq_ml (bt mk) 4 ++ fq_ml (fun k => !bt mk k) 4).length = 4 := by
    rw [List.length_append, fq_ml_len, fq_ml_len]; exact fq_cb_not (bt mk) 4
  unfold wpY_search
  refine fv_look hW.1.1 hW.1.2.1 (by omega) (fun seen hseen => ?_)
  have hs : ∀ e a, e < 12 → a < 6 → seen (6 * e + a) = row (12 * a + e) := fun e a he ha => (fv_tr hW hseen he ha).symm
  refine fq_frY hs (fun rch hrch => ?_)
  have hr : ∀ a x, a < 6 → x < 20 → rch (20 * a + x) = reach (20 * a + x) := fun a x ha hx => by rw [hrch a x ha hx, hW.2.2.2 a x ha hx]
  refine fq_arrY (fun or hor => ?_)
  have hor' : ∀ i, i < 4 → or i = nI (fq_o (fq_ml (bt mk) 4 ++ fq_ml (fun k => !bt mk k) 4) i) := fun i hi => hor i (by omega)
  have hq : ∀ c, c < C → ql c < 24 ∧ qr c < 24 := fun c hc => ⟨(hK.2 c hc).1.2.2.1, (hK.2 c hc).1.2.2.2⟩
  generalize fq_o (fq_ml (bt mk) 4 ++ fq_ml (fun k => !bt mk k) 4) = o at *
  have hk0 : ∀ x, x < 24 → fq_kf o x = 0 → x < 20 := fun x hx hk => by
    rcases Nat.lt_or_ge x 20 with z | z
    · exact z
    · obtain ⟨i, _, _, i3⟩ := fq_kf_v hperm z hx
      omega
  rw [← hm]
  refine fq_goesY2 (l := 0) (o := o) (σ := fun _ => 0) (by decide) (by omega) hK hs hr hperm hor' (fun i hi => absurd hi (by omega)) (fun hyes => br_f fk_10 ?_) (fun hno => br_t rfl ?_)
  · have hCH := fq_CY_CH (row := row) (reach := reach) (qk := qk) (qa := qa) hq hperm (fun c hc h0 => by
      have h := hyes c hc h0
      rw [fq_tv_c (hk0 _ (hq c hc).1 (by omega)), fq_tv_c (hk0 _ (hq c hc).2 (by omega))] at h
      exact h)
    unfold wY_search_33
    rw [hor' 0 (by omega)]
    have ho0 := hperm.1 0 (by omega)
    refine ⟨vp_in_nI ho0 (by omega), nm_r (e' := upd b_number (o 0) (-1)) (by rw [nI_clamp (by omega)]) ⟨200001, ?_⟩⟩
    refine fq_loopY (o := o) G hm1 hm4 hK hs hr hperm hor' hCH (fun c num hG => hend c _ _ _ _ num hG) (fun c S S' t num g1 g2 g3 g4 g5 g6 => hfnd c S S' t _ _ _ _ num g1 g2 g3 g4 g5 g6) 200001 0 (fun _ => 0) 0 0 0 _ (by omega) (by omega) (fun i hi => absurd hi (by omega)) ?_ (fun i hi => absurd hi (by omega)) (by omega) (by omega) ?_
    · rw [pk_us]; decide
    · exact hG0
  · have hS0 : fq_R o 4 m (fq_full C qk qa ql qr row reach) 0 = (fun _ => False) := by
      funext t
      apply propext
      refine ⟨?_, fun z => z.elim⟩
      rintro ⟨σ, t1, t2, _⟩
      refine hno (fun c hc h0 => ?_)
      have h := t2 c hc
      rw [fq_tv_c (hk0 _ (hq c hc).1 (by omega)), fq_tv_c (hk0 _ (hq c hc).2 (by omega))] at h ⊢
      exact h
    rw [hS0] at hG0
    unfold wY_search_33
    rw [hor' 0 (by omega)]
    have ho0 := hperm.1 0 (by omega)
    have hE := fun num => hend 0 (nI m) seen rch or num hG0
    exact ⟨vp_in_nI ho0 (by omega), nm_e ⟨1, br_c (fun _ => hE _) (fun _ => br_t (by decide) (hE _))⟩⟩
end
end
section
/-! answers -/
theorem fq_ml_filter (M S : Nat → Bool) : (fq_ml M 4).filter S = fq_ml (fun k => M k && S k) 4 := by
  unfold fq_ml
  rw [List.filter_filter]
  congr 1
  funext k
  exact Bool.and_comm _ _
theorem fq_ml_congr {M N : Nat → Bool} (h : ∀ k, k < 4 → M k = N k) : fq_ml M 4 = fq_ml N 4 := by
  unfold fq_ml
  exact List.filter_congr fun k hk => h k (List.mem_range.mp hk)
section
variable {f_latest f_kept f_steps f_mode f_since f_until f_clauses f_levels f_asked f_level f_assigned f_bounded : Int32} {a_kinds a_keptEntity a_keptAttribute a_keptValue a_came a_went a_now a_work a_stepKind a_stepEntity a_stepAttribute a_stepValue a_stepOther a_row a_column a_reach a_clauseKind a_clauseAttribute a_left a_right a_order a_rest a_number a_bound : Nat → Int32}
variable {C n m bd : Nat} {qk qa ql qr o β : Nat → Nat} {b_along : Nat → Int32}
/-- the order that begin lays: facts -/
theorem fq_ordX {mk s : Int32} {or : Nat → Int32} (hm : m = fm_cb (bt mk) 4) (hn : n = fm_cb (bt mk) 4 + fm_cb (bt (s &&& (mk ^^^ (-1)))) 4) (hO : fq_O or (fq_ml (bt mk) 4 ++ fq_ml (bt (s &&& (mk ^^^ (-1)))) 4)) :
    (n = (fq_ml (bt mk) 4 ++ fq_ml (bt (s &&& (mk ^^^ (-1)))) 4).length ∧ m = (fq_ml (bt mk) 4).length ∧ m ≤ n ∧ n ≤ 4) ∧ (∀ i, i < n → or i = nI (fq_o (fq_ml (bt mk) 4 ++ fq_ml (bt (s &&& (mk ^^^ (-1)))) 4) i) ∧ fq_o (fq_ml (bt mk) 4 ++ fq_ml (bt (s &&& (mk ^^^ (-1)))) 4) i < 4) ∧
    (∀ i j, i < n → j < n → fq_o (fq_ml (bt mk) 4 ++ fq_ml (bt (s &&& (mk ^^^ (-1)))) 4) i = fq_o (fq_ml (bt mk) 4 ++ fq_ml (bt (s &&& (mk ^^^ (-1)))) 4) j → i = j) ∧ (∀ k, k < 4 → bt s k = true → k ∈ fq_ml (bt mk) 4 ++ fq_ml (bt (s &&& (mk ^^^ (-1)))) 4) := by
  have hdis : ∀ k, k < 4 → bt (s &&& (mk ^^^ (-1))) k = true → (!bt mk k) = true := fun k hk hb => by
    rw [b_and, fl_not _ (by omega), Bool.and_eq_true] at hb
    exact hb.2
  have hn4 : n ≤ 4 := by
    have h1 := fm_cb_mono (β := bt (s &&& (mk ^^^ (-1)))) (γ := fun k => !bt mk k) 4 hdis
    have h2 := fq_cb_not (bt mk) 4
    omega
  have hvlen : n = (fq_ml (bt mk) 4 ++ fq_ml (bt (s &&& (mk ^^^ (-1)))) 4).length := by rw [List.length_append, fq_ml_len, fq_ml_len, hn]
  have hnd : (fq_ml (bt mk) 4 ++ fq_ml (bt (s &&& (mk ^^^ (-1)))) 4).Nodup := fq_vs_nodup fun k hk h1 h2 => by
    have := hdis k hk h2
    rw [h1] at this
    exact absurd this (by decide)
  refine ⟨⟨hvlen, by rw [fq_ml_len, hm], by omega, hn4⟩, fun i hi => ⟨hO i (by omega), fq_vs_lt (fq_o_mem (by omega))⟩, fun i j hi hj e => fq_o_inj hnd (by omega) (by omega) e, fun k hk hb => ?_⟩
  rw [List.mem_append, fq_ml_mem, fq_ml_mem]
  cases hmk : bt mk k
  · refine Or.inr ⟨hk, ?_⟩
    rw [b_and, hb, fl_not _ (by omega), hmk]; rfl
  · exact Or.inl ⟨hk, rfl⟩
theorem fq_loopX {post : Int32 → SX → Prop} {Q : (Nat → Nat) → Prop} {x4 : Int32} {N : Nat} (hn4 : n ≤ 4) (hn0 : 0 < n) (hmn : m ≤ n) (hbd : bd ≤ 1) (hV : fq_V a_row a_column a_reach) (hK : fq_K C qk qa ql qr a_clauseKind a_clauseAttribute a_left a_right b_along)
    (hor : ∀ i, i < n → a_order i = nI (o i) ∧ o i < 4) (hinj : ∀ i j, i < n → j < n → o i = o j → i = j) (hβ : bd = 1 → ∀ i, i < m → a_bound i = nI (β i) ∧ β i < 20) (hCH : fq_CH o n Q (fq_CX C qk qa ql qr a_row a_reach o bd m β)) (hN : N ≤ 20 ^ m)
    (h : ∀ le asg rest num, post (nI N * x4) (f_latest, f_kept, f_steps, f_mode, f_since, f_until, nI C, nI n, nI m, le, asg, nI bd, a_kinds, a_keptEntity, a_keptAttribute, a_keptValue, a_came, a_went, a_now, a_work, a_stepKind, a_stepEntity, a_stepAttribute, a_stepValue, a_stepOther, a_row, a_column, a_reach, a_clauseKind, a_clauseAttribute, a_left, a_right, a_order, rest, num, a_bound)) :
    ∀ e c σ rest num asg, fq_XF n o (fq_CX C qk qa ql qr a_row a_reach o bd m β) σ rest num asg → c + 1 + fl_cn (fq_R o n m Q (20 ^ (n - m) * (fq_pre o σ m + 1))) (20 ^ m) = N → fl_cn (fq_R o n m Q (20 ^ (n - m) * (fq_pre o σ m + 1))) (20 ^ m) ≤ e →
      wX_answers_108 post x4 (e + 2) (nI c) 1 (nI c) f_latest f_kept f_steps f_mode f_since f_until (nI C) (nI n) (nI m) (nI (n - 1)) asg (nI bd) a_kinds a_keptEntity a_keptAttribute a_keptValue a_came a_went a_now a_work a_stepKind a_stepEntity a_stepAttribute a_stepValue a_stepOther a_row a_column a_reach a_clauseKind a_clauseAttribute a_left a_right a_order rest num a_bound := by
  have hpow := fq_pow4 (show m ≤ 4 by omega)
  intro e
  induction e with
  | zero =>
    intro c σ rest num asg hXF hc he
    obtain ⟨x1, x2, x3, x4'⟩ := hXF
    refine br_f (nI_ge (b := 160000) (by omega) (by omega)) (br_f fk_10 (nm_r (nI_1 c) (fq_leaveX hmn hn4 hor (fun asg' hasg' => ?_))))
    have hend : ∀ le asg rest num, wX_answers_108 post x4 1 (nI (c + 1)) 0 (nI (c + 1)) f_latest f_kept f_steps f_mode f_since f_until (nI C) (nI n) (nI m) le asg (nI bd) a_kinds a_keptEntity a_keptAttribute a_keptValue a_came a_went a_now a_work a_stepKind a_stepEntity a_stepAttribute a_stepValue a_stepOther a_row a_column a_reach a_clauseKind a_clauseAttribute a_left a_right a_order rest num a_bound := fun le asg rest num => by
      have hh := h le asg rest num
      rw [← hc, show c + 1 + fl_cn (fq_R o n m Q (20 ^ (n - m) * (fq_pre o σ m + 1))) (20 ^ m) = c + 1 by omega] at hh
      exact br_c (fun _ => hh) (fun _ => br_t rfl hh)
    rcases Nat.eq_zero_or_pos m with z | z
    · subst z
      exact br_t (by decide) (nm_r (nI_1 c) (hend _ _ _ _))
    · obtain ⟨m', rfl⟩ : ∃ m', m = m' + 1 := ⟨m - 1, by omega⟩
      rw [nI_pred]
      have hm' := (x1 m' (by omega)).2
      refine br_f (nI_pos (by omega)) ⟨200001, ?_⟩
      refine fq_advX (S := fq_R o n (m' + 1) Q (20 ^ (n - (m' + 1)) * (fq_pre o σ (m' + 1) + 1))) hn4 hmn hbd hV hK hor hinj hβ hCH (fun hS asg2 rest2 num2 => br_t rfl (nm_r (nI_1 c) (hend _ _ _ _))) (fun σ2 rest2 num2 asg2 hX2 hS2 => ?_) 200001 m' σ (σ (o m') + 1) 0 asg' rest num (by omega) (by omega) (fun i hi => x1 i (by omega)) (fun i hi => x2 i (by omega)) (fun i hi => x3 i (by omega)) (x3 m' (by omega)) (fun k hk hne => ?_) (Nat.zero_le _) (by omega) ?_
      · exfalso
        obtain ⟨g1, g2, g3, g4⟩ := fq_found (o := o) (n := n) (m := m' + 1) (k := n - (m' + 1)) (Q := Q) (by omega) (fun i hi => (hX2.1 i hi).2) ((hCH.2 σ2 (fun i hi => (hX2.1 i hi).2)).mpr hX2.2.1)
        have hone := fl_cn_one (P := fq_R o n (m' + 1) Q (20 ^ (n - (m' + 1)) * (fq_pre o σ (m' + 1) + 1))) (fq_R_lt hmn g1) (by rw [hS2]; exact g1) g3 (fun i _ hi => by rw [hS2]; exact g4 i hi)
        omega
      · rw [hasg' k hk, x4' k hk]
        constructor
        · rintro ⟨⟨i, i1, i2⟩, z2⟩
          refine ⟨i, ?_, i2⟩
          rcases Nat.lt_or_ge i m' with q | q
          · exact q
          · rcases Nat.lt_or_ge i (m' + 1) with q2 | q2
            · rw [show i = m' by omega] at i2; exact absurd i2.symm hne
            · exact absurd i2 (z2 i q2 i1)
        · rintro ⟨i, i1, i2⟩
          refine ⟨⟨i, by omega, i2⟩, fun i' i1' i2' e' => ?_⟩
          have := hinj i i' (by omega) i2' (by rw [i2, e'])
          omega
      · rw [show n - 1 - m' = n - (m' + 1) by omega]
        rfl
  | succ e ih =>
    intro c σ rest num asg hXF hc he
    obtain ⟨x1, x2, x3, x4'⟩ := hXF
    have hcn := fl_cn_le (fq_R o n m Q (20 ^ (n - m) * (fq_pre o σ m + 1))) (20 ^ m)
    refine br_f (nI_ge (b := 160000) (by omega) (by omega)) (br_f fk_10 (nm_r (nI_1 c) (fq_leaveX hmn hn4 hor (fun asg' hasg' => ?_))))
    have hend : fq_R o n m Q (20 ^ (n - m) * (fq_pre o σ m + 1)) = (fun _ => False) → ∀ le asg rest num, wX_answers_108 post x4 (e + 2) (nI (c + 1)) 0 (nI (c + 1)) f_latest f_kept f_steps f_mode f_since f_until (nI C) (nI n) (nI m) le asg (nI bd) a_kinds a_keptEntity a_keptAttribute a_keptValue a_came a_went a_now a_work a_stepKind a_stepEntity a_stepAttribute a_stepValue a_stepOther a_row a_column a_reach a_clauseKind a_clauseAttribute a_left a_right a_order rest num a_bound := fun hS le asg rest num => by
      have hh := h le asg rest num
      rw [hS, fl_cn_0 (fun _ _ z => z)] at hc
      rw [← hc, Nat.add_zero] at hh
      exact br_c (fun _ => hh) (fun _ => br_t rfl hh)
    rcases Nat.eq_zero_or_pos m with z | z
    · subst z
      exact br_t (by decide) (nm_r (nI_1 c) (hend (fq_end (by simp [fq_pre])) _ _ _ _))
    · obtain ⟨m', rfl⟩ : ∃ m', m = m' + 1 := ⟨m - 1, by omega⟩
      rw [nI_pred]
      have hm' := (x1 m' (by omega)).2
      refine br_f (nI_pos (by omega)) ⟨200001, ?_⟩
      refine fq_advX (S := fq_R o n (m' + 1) Q (20 ^ (n - (m' + 1)) * (fq_pre o σ (m' + 1) + 1))) hn4 hmn hbd hV hK hor hinj hβ hCH (fun hS asg2 rest2 num2 => br_t rfl (nm_r (nI_1 c) (hend hS _ _ _ _))) (fun σ2 rest2 num2 asg2 hX2 hS2 => ?_) 200001 m' σ (σ (o m') + 1) 0 asg' rest num (by omega) (by omega) (fun i hi => x1 i (by omega)) (fun i hi => x2 i (by omega)) (fun i hi => x3 i (by omega)) (x3 m' (by omega)) (fun k hk hne => ?_) (Nat.zero_le _) (by omega) ?_
      · obtain ⟨g1, g2, g3, g4⟩ := fq_found (o := o) (n := n) (m := m' + 1) (k := n - (m' + 1)) (Q := Q) (by omega) (fun i hi => (hX2.1 i hi).2) ((hCH.2 σ2 (fun i hi => (hX2.1 i hi).2)).mpr hX2.2.1)
        have hone := fl_cn_one (P := fq_R o n (m' + 1) Q (20 ^ (n - (m' + 1)) * (fq_pre o σ (m' + 1) + 1))) (fq_R_lt hmn g1) (by rw [hS2]; exact g1) g3 (fun i _ hi => by rw [hS2]; exact g4 i hi)
        exact br_f fk_10 (nm_r (nI_1 c) (ih (c + 1) σ2 rest2 num2 asg2 hX2 (by omega) (by omega)))
      · rw [hasg' k hk, x4' k hk]
        constructor
        · rintro ⟨⟨i, i1, i2⟩, z2⟩
          refine ⟨i, ?_, i2⟩
          rcases Nat.lt_or_ge i m' with q | q
          · exact q
          · rcases Nat.lt_or_ge i (m' + 1) with q2 | q2
            · rw [show i = m' by omega] at i2; exact absurd i2.symm hne
            · exact absurd i2 (z2 i q2 i1)
        · rintro ⟨i, i1, i2⟩
          refine ⟨⟨i, by omega, i2⟩, fun i' i1' i2' e' => ?_⟩
          have := hinj i i' (by omega) i2' (by rw [i2, e'])
          omega
      · rw [show n - 1 - m' = n - (m' + 1) by omega]
        rfl
end
end
section
/-! answers: both sides -/
theorem fq_cnt_split {C : Nat} {qk qa ql qr : Nat → Nat} {row reach : Nat → Int32} {mk s : Int32} (hs : ∀ k, k < 4 → (bt s k = true ↔ ∃ c, c < C ∧ (ql c = 20 + k ∨ qr c = 20 + k))) : fq_cnt (fq_full C qk qa ql qr row reach) [] (fq_ml (bt mk) 4) (fun _ => 0) = 20 ^ fm_cb (fun k => bt mk k && !bt s k) 4 * fq_cnt (fq_full C qk qa ql qr row reach) [] (fq_ml (bt (mk &&& s)) 4) (fun _ => 0) := by
  have h := fq_cnt_main (F := fq_full C qk qa ql qr row reach) (S := bt s) (fun k hk hb τ v hF => fq_full_congr (fun c hc h20 => ?_) (fun c hc h20 => ?_) hF) (fq_ml (bt mk) 4) [] (fun _ => 0) (fq_ml_nodup _ _) (fun k hk => (fq_ml_mem.mp hk).1) (fun k _ hk => absurd hk (by simp))
  · rw [h, fq_ml_filter, fq_ml_filter, fq_ml_len]
    have e : (fun k => bt mk k && bt s k) = bt (mk &&& s) := by
      funext k; rw [b_and]
    rw [e]
  · rw [fc_uo]
    intro e
    have := (hs k hk).mpr ⟨c, hc, Or.inl (by omega)⟩
    rw [hb] at this
    exact absurd this (by decide)
  · rw [fc_uo]
    intro e
    have := (hs k hk).mpr ⟨c, hc, Or.inr (by omega)⟩
    rw [hb] at this
    exact absurd this (by decide)
section
variable {f_latest f_kept f_steps f_mode f_since f_until f_clauses f_levels f_asked f_level f_assigned f_bounded : Int32} {a_kinds a_keptEntity a_keptAttribute a_keptValue a_came a_went a_now a_work a_stepKind a_stepEntity a_stepAttribute a_stepValue a_stepOther a_row a_column a_reach a_clauseKind a_clauseAttribute a_left a_right a_order a_rest a_number a_bound : Nat → Int32}
variable {C : Nat} {qk qa ql qr : Nat → Nat} {b_along : Nat → Int32} {mk : Int32}
theorem fq_ansX {post : Int32 → SX → Prop} (hV : fq_V a_row a_column a_reach) (hK : fq_K C qk qa ql qr a_clauseKind a_clauseAttribute a_left a_right b_along) (h1 : ¬ mk < 1) (h15 : mk ≤ 15)
    (h : ∀ lv ak le asg bo or rest num, post (nI (fq_cnt (fq_full C qk qa ql qr a_row a_reach) [] (fq_ml (bt mk) 4) (fun _ => 0))) (f_latest, f_kept, f_steps, f_mode, f_since, f_until, nI C, lv, ak, le, asg, bo, a_kinds, a_keptEntity, a_keptAttribute, a_keptValue, a_came, a_went, a_now, a_work, a_stepKind, a_stepEntity, a_stepAttribute, a_stepValue, a_stepOther, a_row, a_column, a_reach, a_clauseKind, a_clauseAttribute, a_left, a_right, or, rest, num, a_bound)) : wpX_answers post (f_latest, f_kept, f_steps, f_mode, f_since, f_until, nI C, f_levels, f_asked, f_level, f_assigned, f_bounded, a_kinds, a_keptEntity, a_keptAttribute, a_keptValue, a_came, a_went, a_now, a_work, a_stepKind, a_stepEntity, a_stepAttribute, a_stepValue, a_stepOther, a_row, a_column, a_reach, a_clauseKind, a_clauseAttribute, a_left, a_right, a_order, a_rest, a_number, a_bound) mk := by
  refine br_f h1 (br_t h15 (fq_plainX hV hK (fun hpl => br_f fk_10 ?_) (fun hno => br_t rfl ?_)))
  · obtain ⟨s, s1, s2, s3⟩ := fq_mentX hK (f_latest := f_latest) (f_kept := f_kept) (f_steps := f_steps) (f_mode := f_mode) (f_since := f_since) (f_until := f_until) (f_levels := f_levels) (f_asked := f_asked) (f_level := f_level) (f_assigned := f_assigned) (f_bounded := f_bounded) (a_kinds := a_kinds) (a_keptEntity := a_keptEntity) (a_keptAttribute := a_keptAttribute) (a_keptValue := a_keptValue) (a_came := a_came) (a_went := a_went) (a_now := a_now) (a_work := a_work) (a_stepKind := a_stepKind) (a_stepEntity := a_stepEntity) (a_stepAttribute := a_stepAttribute) (a_stepValue := a_stepValue) (a_stepOther := a_stepOther) (a_row := a_row) (a_column := a_column) (a_reach := a_reach) (a_order := a_order) (a_rest := a_rest) (a_number := a_number) (a_bound := a_bound)
    refine s3 _ ?_
    rw [fq_cnt_split s2] at h
    have key : ∀ d k, k + d = 4 → wX_answers_35 post mk s f_latest f_kept f_steps f_mode f_since f_until (nI C) f_levels f_asked f_level f_assigned f_bounded a_kinds a_keptEntity a_keptAttribute a_keptValue a_came a_went a_now a_work a_stepKind a_stepEntity a_stepAttribute a_stepValue a_stepOther a_row a_column a_reach a_clauseKind a_clauseAttribute a_left a_right a_order a_rest a_number a_bound (d + 1) (nI (20 ^ fm_cb (fun k => bt mk k && !bt s k) k)) (nI k) := by
      intro d
      induction d with
      | zero =>
        intro k hk
        have e : k = 4 := by omega
        subst e
        refine br_t (nI_le (a := 4) (by omega) (by omega)) ?_
        generalize 20 ^ fm_cb (fun k => bt mk k && !bt s k) 4 = U at *
        by_cases hs0 : s = 0
        · refine br_t hs0 ?_
          have e1 : fq_cnt (fq_full C qk qa ql qr a_row a_reach) [] (fq_ml (bt (mk &&& s)) 4) (fun _ => 0) = 1 := by
            have e2 : fq_ml (bt (mk &&& s)) 4 = [] := by
              rw [hs0]
              have : bt (mk &&& 0) = fun _ => false := by
                funext k; rw [b_and, b_0, Bool.and_false]
              rw [this]
              rfl
            rw [e2]
            show 0 + fl_b01 _ = 1
            rw [fl_b01_t]
            refine ⟨fun _ => 0, fun k _ => (by decide : (0 : Nat) < 20), fun c hc => ?_, fun k hk => absurd hk (by simp), rfl⟩
            obtain ⟨b1, b2, b3, b4⟩ := (hK.2 c hc).1
            have x20 : ql c < 20 := by
              rcases Nat.lt_or_ge (ql c) 20 with z | z
              · exact z
              · have := (s2 (ql c - 20) (by omega)).mpr ⟨c, hc, Or.inl (by omega)⟩
                rw [hs0, b_0] at this
                exact absurd this (by decide)
            have y20 : qr c < 20 := by
              rcases Nat.lt_or_ge (qr c) 20 with z | z
              · exact z
              · have := (s2 (qr c - 20) (by omega)).mpr ⟨c, hc, Or.inr (by omega)⟩
                rw [hs0, b_0] at this
                exact absurd this (by decide)
            rw [fq_tv_c x20, fq_tv_c y20]
            exact hpl c hc x20 y20
          rw [e1, Nat.mul_one] at h
          exact h f_levels f_asked f_level f_assigned f_bounded a_order a_rest a_number
        · refine br_f hs0 ?_
          obtain ⟨m, hm⟩ : ∃ m, m = fm_cb (bt (mk &&& s)) 4 := ⟨_, rfl⟩
          obtain ⟨n, hn⟩ : ∃ n, n = fm_cb (bt (mk &&& s)) 4 + fm_cb (bt (s &&& ((mk &&& s) ^^^ (-1)))) 4 := ⟨_, rfl⟩
          obtain ⟨k0, k1, k2, _⟩ := fl_low s1 hs0
          have hmem : ∀ k, k < 4 → bt s k = true → k ∈ fq_ml (bt (mk &&& s)) 4 ++ fq_ml (bt (s &&& ((mk &&& s) ^^^ (-1)))) 4 := by
            intro k hk hb
            rw [List.mem_append, fq_ml_mem, fq_ml_mem]
            cases hmk : bt (mk &&& s) k
            · refine Or.inr ⟨hk, ?_⟩
              rw [b_and, hb, fl_not _ (by omega), hmk]; rfl
            · exact Or.inl ⟨hk, rfl⟩
          have hn0 : 0 < n := by
            have := List.length_pos_of_mem (hmem k0 k1 k2)
            rw [List.length_append, fq_ml_len, fq_ml_len] at this
            omega
          refine fq_begX (bd := 0) (β := fun _ => 0) (σ := fun _ => 0) hm hn hn0 rfl (by omega) hV hK (fun z => absurd z (by decide)) (fun post hp => ?_) (fun or s0 hO u1 u2 => ?_)
          · obtain ⟨s', s1', s2', s3'⟩ := fq_mentX hK (f_latest := f_latest) (f_kept := f_kept) (f_steps := f_steps) (f_mode := f_mode) (f_since := f_since) (f_until := f_until) (f_levels := f_levels) (f_asked := f_asked) (f_level := f_level) (f_assigned := f_assigned) (f_bounded := nI 0) (a_kinds := a_kinds) (a_keptEntity := a_keptEntity) (a_keptAttribute := a_keptAttribute) (a_keptValue := a_keptValue) (a_came := a_came) (a_went := a_went) (a_now := a_now) (a_work := a_work) (a_stepKind := a_stepKind) (a_stepEntity := a_stepEntity) (a_stepAttribute := a_stepAttribute) (a_stepValue := a_stepValue) (a_stepOther := a_stepOther) (a_row := a_row) (a_column := a_column) (a_reach := a_reach) (a_order := a_order) (a_rest := a_rest) (a_number := a_number) (a_bound := a_bound)
            have es : s' = s := fl_ext s1' s1 fun k hk => by rw [Bool.eq_iff_iff, s2' k hk, s2 k hk]
            rw [es] at s3'
            exact s3' post hp
          · obtain ⟨⟨v1, v2, v3, v4⟩, hor, hinj, hmem'⟩ := fq_ordX hm hn hO
            have hlx : ∀ c, c < C → 20 ≤ ql c → ∃ i, i < n ∧ fq_o (fq_ml (bt (mk &&& s)) 4 ++ fq_ml (bt (s &&& ((mk &&& s) ^^^ (-1)))) 4) i = ql c - 20 := fun c hc h20 => by
              have b := (hK.2 c hc).1
              obtain ⟨i, i1, i2⟩ := fq_mem_o (hmem (ql c - 20) (by omega) ((s2 _ (by omega)).mpr ⟨c, hc, Or.inl (by omega)⟩))
              exact ⟨i, by omega, i2⟩
            have hrx : ∀ c, c < C → 20 ≤ qr c → ∃ i, i < n ∧ fq_o (fq_ml (bt (mk &&& s)) 4 ++ fq_ml (bt (s &&& ((mk &&& s) ^^^ (-1)))) 4) i = qr c - 20 := fun c hc h20 => by
              have b := (hK.2 c hc).1
              obtain ⟨i, i1, i2⟩ := fq_mem_o (hmem (qr c - 20) (by omega) ((s2 _ (by omega)).mpr ⟨c, hc, Or.inr (by omega)⟩))
              exact ⟨i, by omega, i2⟩
            have hCH := fq_CX_CH (bd := 0) (β := fun _ => 0) (row := a_row) (reach := a_reach) (qk := qk) (qa := qa) v3 hinj hpl hlx hrx (fun z => absurd z (by decide)) (fun z => absurd z (by decide))
            have hcX : fl_cn (fq_R (fq_o (fq_ml (bt (mk &&& s)) 4 ++ fq_ml (bt (s &&& ((mk &&& s) ^^^ (-1)))) 4)) n m (fq_QX C qk qa ql qr a_row a_reach (fq_o (fq_ml (bt (mk &&& s)) 4 ++ fq_ml (bt (s &&& ((mk &&& s) ^^^ (-1)))) 4)) 0 m (fun _ => 0)) 0) (20 ^ m) = fq_cnt (fq_full C qk qa ql qr a_row a_reach) [] (fq_ml (bt (mk &&& s)) 4) (fun _ => 0) := by
              unfold fq_cnt
              rw [v2]
              refine fl_cn_eq fun t _ => ?_
              rw [fq_R_P (F := fq_full C qk qa ql qr a_row a_reach) v1 (fun k hk => fq_vs_lt hk) (fun τ τ' he hF => fq_full_congr (fun c hc h20 => ?_) (fun c hc h20 => ?_) hF) (fun _ => True) (fun σ => ⟨fun q => ⟨q.1, trivial⟩, fun q => ⟨q.1, fun z => absurd z (by decide)⟩⟩)]
              · exact ⟨fun q => q.1, fun q => ⟨q, trivial⟩⟩
              · obtain ⟨i, i1, i2⟩ := hlx c hc h20
                rw [← i2]; exact he _ (fq_o_mem (by omega))
              · obtain ⟨i, i1, i2⟩ := hrx c hc h20
                rw [← i2]; exact he _ (fq_o_mem (by omega))
            rw [← hcX] at h
            generalize fq_o (fq_ml (bt (mk &&& s)) 4 ++ fq_ml (bt (s &&& ((mk &&& s) ^^^ (-1)))) 4) = o at *
            generalize hcXv : fl_cn (fq_R o n m (fq_QX C qk qa ql qr a_row a_reach o 0 m (fun _ => 0)) 0) (20 ^ m) = cX at *
            have hpost : ∀ le asg rest num, post (nI cX * nI U) (f_latest, f_kept, f_steps, f_mode, f_since, f_until, nI C, nI n, nI m, le, asg, nI 0, a_kinds, a_keptEntity, a_keptAttribute, a_keptValue, a_came, a_went, a_now, a_work, a_stepKind, a_stepEntity, a_stepAttribute, a_stepValue, a_stepOther, a_row, a_column, a_reach, a_clauseKind, a_clauseAttribute, a_left, a_right, or, rest, num, a_bound) := fun le asg rest num => by
              rw [pk_mul, Nat.mul_comm]
              exact h (nI n) (nI m) le asg (nI 0) or rest num
            refine ⟨200001, fq_advX (S := fq_R o n m (fq_QX C qk qa ql qr a_row a_reach o 0 m (fun _ => 0)) 0) v4 v3 (by omega) hV hK hor hinj (fun z => absurd z (by decide)) hCH (fun hS asg rest num => ?_) (fun σ rest num asg hX hS => ?_) 200001 0 (fun _ => 0) 0 0 0 _ _ hn0 (by omega) (fun i hi => absurd hi (by omega)) (fun i hi => absurd hi (by omega)) (fun i hi => absurd hi (by omega)) ?_ (fun k hk _ => ?_) (Nat.zero_le _) (by omega) ?_⟩
            · rw [hS, fl_cn_0 (fun _ _ z => z)] at hcXv
              have hp := hpost (-1) asg rest num
              rw [← hcXv] at hp
              exact ⟨1, br_c (fun _ => hp) (fun _ => br_t rfl hp)⟩
            · obtain ⟨g1, g2, g3, g4⟩ := fq_found (o := o) (n := n) (m := m) (k := n - m) (Q := fq_QX C qk qa ql qr a_row a_reach o 0 m (fun _ => 0)) (by omega) (fun i hi => (hX.1 i hi).2) ((hCH.2 σ (fun i hi => (hX.1 i hi).2)).mpr hX.2.1)
              have hone := fl_cn_one (P := fq_R o n m (fq_QX C qk qa ql qr a_row a_reach o 0 m (fun _ => 0)) 0) (fq_R_lt v3 g1) (by rw [hS]; exact g1) g3 (fun i _ hi => by rw [hS]; exact g4 i hi)
              have hle := fl_cn_le (fq_R o n m (fq_QX C qk qa ql qr a_row a_reach o 0 m (fun _ => 0)) 0) (20 ^ m)
              exact ⟨_, fq_loopX (N := cX) v4 hn0 v3 (by omega) hV hK hor hinj (fun z => absurd z (by decide)) hCH (by omega) hpost _ 0 σ rest num asg hX (by omega) (Nat.le_refl _)⟩
            · rw [pk_us]
              refine ⟨u1, fun w hw => ?_⟩
              rw [u2 w hw]
              exact ⟨fun q => ⟨q, Nat.zero_le _⟩, fun q => q.1⟩
            · rw [b_0]
              exact ⟨fun z => absurd z (by decide), fun ⟨i, i1, _⟩ => absurd i1 (by omega)⟩
            · rw [show 20 * fq_pre o (fun _ => 0) 0 + 0 = 0 from rfl, Nat.mul_zero]
      | succ d ih =>
        intro k hk
        refine br_f (nI_ge (b := 4) (by omega) (by omega)) (fl_br1 k (by omega) (fun hb => fl_br0 k (by omega) (fun hb2 => ?_) (fun hb2 => ?_)) (fun hb => ?_))
        · have hh := ih (k + 1) (by omega)
          rw [fm_cb_s, hb, hb2] at hh
          exact nm_r (e' := nI (20 ^ (fm_cb (fun k => bt mk k && !bt s k) k + 1))) (pk_mul _ 20) (nm_r (nI_1 k) hh)
        · have hh := ih (k + 1) (by omega)
          rw [fm_cb_s, hb, hb2] at hh
          exact nm_r ((pk_mul _ 1).trans (congrArg nI (Nat.mul_one _))) (nm_r (nI_1 k) hh)
        · have hh := ih (k + 1) (by omega)
          rw [fm_cb_s, hb] at hh
          exact nm_r ((pk_mul _ 1).trans (congrArg nI (Nat.mul_one _))) (nm_r (nI_1 k) hh)
    exact ⟨_, key 4 0 rfl⟩
  · have e : fq_cnt (fq_full C qk qa ql qr a_row a_reach) [] (fq_ml (bt mk) 4) (fun _ => 0) = 0 := fl_cn_0 fun t _ ⟨τ, t1, t2, _⟩ => hno fun c hc x20 y20 => by
      have := t2 c hc
      rw [fq_tv_c x20, fq_tv_c y20] at this
      exact this
    rw [e] at h
    exact h f_levels f_asked f_level f_assigned f_bounded a_order a_rest a_number
end
theorem fq_SY {C m : Nat} {qk qa ql qr : Nat → Nat} {row reach a_ck a_ca a_left a_right b_al : Nat → Int32} {mk : Int32} (hK : fq_K C qk qa ql qr a_ck a_ca a_left a_right b_al) (hm : m = fm_cb (bt mk) 4) (t : Nat) : fq_R (fq_o (fq_ml (bt mk) 4 ++ fq_ml (fun k => !bt mk k) 4)) 4 m (fq_full C qk qa ql qr row reach) 0 t ↔ fq_P (fq_full C qk qa ql qr row reach) [] (fq_ml (bt mk) 4) (fun _ => 0) t := by
  have hlen : 4 = (fq_ml (bt mk) 4 ++ fq_ml (fun k => !bt mk k) 4).length := by
    rw [List.length_append, fq_ml_len, fq_ml_len]; exact (fq_cb_not (bt mk) 4).symm
  have hm' : m = (fq_ml (bt mk) 4).length := by rw [fq_ml_len, hm]
  have hmem : ∀ k, k < 4 → k ∈ fq_ml (bt mk) 4 ++ fq_ml (fun k => !bt mk k) 4 := fun k hk => by
    rw [List.mem_append, fq_ml_mem, fq_ml_mem]
    cases h : bt mk k
    · exact Or.inr ⟨hk, rfl⟩
    · exact Or.inl ⟨hk, rfl⟩
  rw [hm', fq_R_P (F := fq_full C qk qa ql qr row reach) hlen (fun k hk => fq_vs_lt hk) (fun τ τ' he hF => fq_full_congr (fun c hc h20 => he _ (hmem _ (by have := (hK.2 c hc).1; omega))) (fun c hc h20 => he _ (hmem _ (by have := (hK.2 c hc).1; omega))) hF) (fun _ => True) (fun σ => ⟨fun q => ⟨q, trivial⟩, fun q => q.1⟩)]
  exact ⟨fun q => q.1, fun q => ⟨q, trivial⟩⟩
theorem fq_msk {v : Int32} (h1 : ¬ v < 1) (h15 : v ≤ 15) : ∃ mm, mm < 16 ∧ 1 ≤ mm ∧ v = nI mm := by
  have h0 : ¬ v < 0 := fun h => h1 (by
    rw [Int32.lt_iff_toInt_lt] at h ⊢
    have e0 : (0 : Int32).toInt = 0 := rfl
    have e1 : (1 : Int32).toInt = 1 := rfl
    omega)
  obtain ⟨j, hj, rfl⟩ := nI_of2 (M := 15) (n := 15) (by decide) h0 h15
  refine ⟨j, by omega, ?_, rfl⟩
  rcases Nat.eq_zero_or_pos j with z | z
  · subst z; exact absurd (by decide) h1
  · exact z
theorem i_vc_answers {k : Nat} {u : SX} {v : SY} (I : i_Rel k u v) (hk : k + 5 ≤ 2560) (v1 : Int32) : wpX_answers (fun r u' => wpY_answers (fun r' v' => r' = r ∧ i_Rel (k + 5) u' v') v v1) u v1 := by
  refine fr_el (P := fun u v => wpX_answers (fun r u' => wpY_answers (fun r' v' => r' = r ∧ i_Rel (k + 5) u' v') v v1) u v1) I ?_
  intro L K s md sn un C f_levels f_asked f_level f_assigned f_bounded g_masked a_kinds a_keptEntity a_keptAttribute a_keptValue a_came a_went a_now a_work a_stepKind a_stepEntity a_stepAttribute a_stepValue a_stepOther a_row a_column a_reach a_clauseKind a_clauseAttribute a_left a_right a_order a_rest a_number a_bound b_sets b_work b_attributes b_seen b_reach b_along b_order b_number h1 h2 h3 h4
  by_cases c1 : v1 < 1
  · exact br_t c1 (br_t c1 ⟨rfl, fr_in h1 h2 h3 h4⟩)
  by_cases c2 : v1 ≤ 15
  · have hV := fq_V_of h1 h3
    have hK := fq_K_of h4
    obtain ⟨mm, m1, m2, rfl⟩ := fq_msk c1 c2
    refine fq_ansX hV hK c1 c2 (fun lv ak le asg bo or rest num => ?_)
    refine br_f c1 (br_t c2 ?_)
    refine fq_srchY (m := fm_cb (bt (nI mm)) 4) (fun c S => c + fl_cn S (20 ^ fm_cb (bt (nI mm)) 4) = fq_cnt (fq_full C (fr_n a_clauseKind) (fr_n a_clauseAttribute) (fr_n a_left) (fr_n a_right) a_row a_reach) [] (fq_ml (bt (nI mm)) 4) (fun _ => 0)) h3 h1.1 hK rfl (fq_mk1 mm m1 m2) ?_ (fun c msk seen rch or num hG => ⟨fun z => absurd z fk_10, fun _ => ⟨?_, fr_in h1 h2 h3 h4⟩⟩) (fun c S S' t msk seen rch or num g1 g2 g3 g4 g5 g6 => Or.inr ⟨fun z => absurd z fk_10, ?_⟩)
    · unfold fq_cnt
      rw [Nat.zero_add, fq_ml_len]
      exact fl_cn_eq fun t _ => fq_SY hK rfl t
    · rw [fl_cn_0 (fun _ _ z => z), Nat.add_zero] at hG
      rw [hG]
    · have hone := fl_cn_one g2 g3 g5 (fun i _ hi => g6 i hi)
      omega
  · exact br_f c1 (br_f c2 (br_f c1 (br_f c2 ⟨rfl, fr_in h1 h2 h3 h4⟩)))
end
section
/-! next -/
theorem fq_P_lt {F : (Nat → Nat) → Prop} {mk : Int32} {t : Nat} (h : fq_P F [] (fq_ml (bt mk) 4) (fun _ => 0) t) : t < 20 ^ fm_cb (bt mk) 4 := by
  obtain ⟨τ, t1, _, _, t4⟩ := h
  rw [← t4, ← fq_ml_len]
  exact fq_fl_lt fun k hk => t1 k (fq_ml_mem.mp hk).1
section
variable {f_latest f_kept f_steps f_mode f_since f_until f_clauses f_levels f_asked f_level f_assigned f_bounded : Int32} {a_kinds a_keptEntity a_keptAttribute a_keptValue a_came a_went a_now a_work a_stepKind a_stepEntity a_stepAttribute a_stepValue a_stepOther a_row a_column a_reach a_clauseKind a_clauseAttribute a_left a_right a_order a_rest a_number a_bound : Nat → Int32}
variable {C m bd : Nat} {qk qa ql qr β : Nat → Nat} {b_along : Nat → Int32} {mk v2 : Int32}
theorem fq_nx101 {post : Int32 → SX → Prop} (hV : fq_V a_row a_column a_reach) (hK : fq_K C qk qa ql qr a_clauseKind a_clauseAttribute a_left a_right b_along) (hpl : ∀ c, c < C → ql c < 20 → qr c < 20 → fq_h a_row a_reach (qk c) (qa c) (ql c) (qr c) = true) (hm : m = fm_cb (bt mk) 4) (hm1 : 1 ≤ m) (hbd : bd ≤ 1) (hβ : bd = 1 → ∀ i, i < m → a_bound i = nI (β i) ∧ β i < 20)
    (hf : ∀ t, fq_P (fq_full C qk qa ql qr a_row a_reach) [] (fq_ml (bt mk) 4) (fun _ => 0) t → (bd = 1 → fq_pre (fun i => i) β m < t) → (∀ t', fq_P (fq_full C qk qa ql qr a_row a_reach) [] (fq_ml (bt mk) 4) (fun _ => 0) t' → (bd = 1 → fq_pre (fun i => i) β m < t') → t ≤ t') → ∀ lv ak le asg or rest num, post (nI t) (f_latest, f_kept, f_steps, f_mode, f_since, f_until, nI C, lv, ak, le, asg, 0, a_kinds, a_keptEntity, a_keptAttribute, a_keptValue, a_came, a_went, a_now, a_work, a_stepKind, a_stepEntity, a_stepAttribute, a_stepValue, a_stepOther, a_row, a_column, a_reach, a_clauseKind, a_clauseAttribute, a_left, a_right, or, rest, num, a_bound))
    (h0 : (∀ t, fq_P (fq_full C qk qa ql qr a_row a_reach) [] (fq_ml (bt mk) 4) (fun _ => 0) t → ¬ (bd = 1 → fq_pre (fun i => i) β m < t)) → ∀ lv ak le asg or rest num, post (-2) (f_latest, f_kept, f_steps, f_mode, f_since, f_until, nI C, lv, ak, le, asg, 0, a_kinds, a_keptEntity, a_keptAttribute, a_keptValue, a_came, a_went, a_now, a_work, a_stepKind, a_stepEntity, a_stepAttribute, a_stepValue, a_stepOther, a_row, a_column, a_reach, a_clauseKind, a_clauseAttribute, a_left, a_right, or, rest, num, a_bound)) :
    wX_next_101 post mk f_latest f_kept f_steps f_mode f_since f_until (nI C) f_levels f_asked f_level f_assigned (nI bd) a_kinds a_keptEntity a_keptAttribute a_keptValue a_came a_went a_now a_work a_stepKind a_stepEntity a_stepAttribute a_stepValue a_stepOther a_row a_column a_reach a_clauseKind a_clauseAttribute a_left a_right a_order a_rest a_number a_bound := by
  obtain ⟨s, s1, s2, s3⟩ := fq_mentX hK (f_latest := f_latest) (f_kept := f_kept) (f_steps := f_steps) (f_mode := f_mode) (f_since := f_since) (f_until := f_until) (f_levels := f_levels) (f_asked := f_asked) (f_level := f_level) (f_assigned := f_assigned) (f_bounded := nI bd) (a_kinds := a_kinds) (a_keptEntity := a_keptEntity) (a_keptAttribute := a_keptAttribute) (a_keptValue := a_keptValue) (a_came := a_came) (a_went := a_went) (a_now := a_now) (a_work := a_work) (a_stepKind := a_stepKind) (a_stepEntity := a_stepEntity) (a_stepAttribute := a_stepAttribute) (a_stepValue := a_stepValue) (a_stepOther := a_stepOther) (a_row := a_row) (a_column := a_column) (a_reach := a_reach) (a_order := a_order) (a_rest := a_rest) (a_number := a_number) (a_bound := a_bound)
  obtain ⟨n, hn⟩ : ∃ n, n = fm_cb (bt mk) 4 + fm_cb (bt (s &&& (mk ^^^ (-1)))) 4 := ⟨_, rfl⟩
  have hn0 : 0 < n := by omega
  unfold wX_next_101
  refine fq_begX (β := β) (σ := fun _ => 0) hm hn hn0 rfl hbd hV hK hβ s3 (fun or s0 hO u1 u2 => ?_)
  obtain ⟨⟨v1, v2', v3, v4⟩, hor, hinj, hmem⟩ := fq_ordX hm hn hO
  have hlx : ∀ c, c < C → 20 ≤ ql c → ∃ i, i < n ∧ fq_o (fq_ml (bt mk) 4 ++ fq_ml (bt (s &&& (mk ^^^ (-1)))) 4) i = ql c - 20 := fun c hc h20 => by
    have b := (hK.2 c hc).1
    obtain ⟨i, i1, i2⟩ := fq_mem_o (hmem (ql c - 20) (by omega) ((s2 _ (by omega)).mpr ⟨c, hc, Or.inl (by omega)⟩))
    exact ⟨i, by omega, i2⟩
  have hrx : ∀ c, c < C → 20 ≤ qr c → ∃ i, i < n ∧ fq_o (fq_ml (bt mk) 4 ++ fq_ml (bt (s &&& (mk ^^^ (-1)))) 4) i = qr c - 20 := fun c hc h20 => by
    have b := (hK.2 c hc).1
    obtain ⟨i, i1, i2⟩ := fq_mem_o (hmem (qr c - 20) (by omega) ((s2 _ (by omega)).mpr ⟨c, hc, Or.inr (by omega)⟩))
    exact ⟨i, by omega, i2⟩
  have hCH := fq_CX_CH (bd := bd) (β := β) (row := a_row) (reach := a_reach) (qk := qk) (qa := qa) v3 hinj hpl hlx hrx (fun _ => hm1) (fun z i hi => (hβ z i hi).2)
  have hPP : ∀ t, fq_R (fq_o (fq_ml (bt mk) 4 ++ fq_ml (bt (s &&& (mk ^^^ (-1)))) 4)) n m (fq_QX C qk qa ql qr a_row a_reach (fq_o (fq_ml (bt mk) 4 ++ fq_ml (bt (s &&& (mk ^^^ (-1)))) 4)) bd m β) 0 t ↔ (fq_P (fq_full C qk qa ql qr a_row a_reach) [] (fq_ml (bt mk) 4) (fun _ => 0) t ∧ (bd = 1 → fq_pre (fun i => i) β m < t)) := by
    intro t
    have hh := fq_R_P (F := fq_full C qk qa ql qr a_row a_reach) (Q := fq_QX C qk qa ql qr a_row a_reach (fq_o (fq_ml (bt mk) 4 ++ fq_ml (bt (s &&& (mk ^^^ (-1)))) 4)) bd m β) v1 (fun k hk => fq_vs_lt hk) (fun τ τ' he hF => fq_full_congr (fun c hc h20 => by
      obtain ⟨i, i1, i2⟩ := hlx c hc h20
      rw [← i2]; exact he _ (fq_o_mem (by omega))) (fun c hc h20 => by
      obtain ⟨i, i1, i2⟩ := hrx c hc h20
      rw [← i2]; exact he _ (fq_o_mem (by omega))) hF) (fun t => bd = 1 → fq_pre (fun i => i) β m < t) (fun σ => by rw [← v2']; exact Iff.rfl) t
    rw [← v2'] at hh
    exact hh
  generalize fq_o (fq_ml (bt mk) 4 ++ fq_ml (bt (s &&& (mk ^^^ (-1)))) 4) = o at *
  refine ⟨200001, fq_advX (S := fq_R o n m (fq_QX C qk qa ql qr a_row a_reach o bd m β) 0) v4 v3 hbd hV hK hor hinj hβ hCH (fun hS asg rest num => br_t rfl (h0 (fun t ht hc => ?_) _ _ _ _ _ _ _)) (fun σ rest num asg hX hS => br_f fk_10 (fq_tupX (o := o) (σ := σ) (by omega) (fun i hi => hor i (by omega)) (fun i hi => (hX.1 i (by omega)).1) ?_)) 200001 0 (fun _ => 0) 0 0 0 _ _ hn0 (by omega) (fun i hi => absurd hi (by omega)) (fun i hi => absurd hi (by omega)) (fun i hi => absurd hi (by omega)) ?_ (fun k hk _ => ?_) (Nat.zero_le _) (by omega) ?_⟩
  · have := (hPP t).mpr ⟨ht, hc⟩
    rw [hS] at this
    exact this
  · obtain ⟨g1, g2, g3, g4⟩ := fq_found (o := o) (n := n) (m := m) (k := n - m) (Q := fq_QX C qk qa ql qr a_row a_reach o bd m β) (by omega) (fun i hi => (hX.1 i hi).2) ((hCH.2 σ (fun i hi => (hX.1 i hi).2)).mpr hX.2.1)
    rw [← hS] at g1 g2
    obtain ⟨p1, p2⟩ := (hPP _).mp g1
    exact hf _ p1 p2 (fun t' q1 q2 => g2 t' ((hPP t').mpr ⟨q1, q2⟩)) _ _ _ _ _ _ _
  · rw [pk_us]
    refine ⟨u1, fun w hw => ?_⟩
    rw [u2 w hw]
    exact ⟨fun q => ⟨q, Nat.zero_le _⟩, fun q => q.1⟩
  · rw [b_0]
    exact ⟨fun z => absurd z (by decide), fun ⟨i, i1, _⟩ => absurd i1 (by omega)⟩
  · rw [show 20 * fq_pre o (fun _ => 0) 0 + 0 = 0 from rfl, Nat.mul_zero]
theorem fq_nxtX {post : Int32 → SX → Prop} (hmk : fl_w 4 mk) (hm1 : 1 ≤ fm_cb (bt mk) 4) (hV : fq_V a_row a_column a_reach) (hK : fq_K C qk qa ql qr a_clauseKind a_clauseAttribute a_left a_right b_along) (h1 : ¬ mk < 1) (h15 : mk ≤ 15)
    (hf : ∀ t, fq_P (fq_full C qk qa ql qr a_row a_reach) [] (fq_ml (bt mk) 4) (fun _ => 0) t → ¬ nI t ≤ v2 → (∀ t', fq_P (fq_full C qk qa ql qr a_row a_reach) [] (fq_ml (bt mk) 4) (fun _ => 0) t' → ¬ nI t' ≤ v2 → t ≤ t') → ∀ lv ak le asg bo or rest num bnd, post (nI t) (f_latest, f_kept, f_steps, f_mode, f_since, f_until, nI C, lv, ak, le, asg, bo, a_kinds, a_keptEntity, a_keptAttribute, a_keptValue, a_came, a_went, a_now, a_work, a_stepKind, a_stepEntity, a_stepAttribute, a_stepValue, a_stepOther, a_row, a_column, a_reach, a_clauseKind, a_clauseAttribute, a_left, a_right, or, rest, num, bnd))
    (h0 : (∀ t, fq_P (fq_full C qk qa ql qr a_row a_reach) [] (fq_ml (bt mk) 4) (fun _ => 0) t → nI t ≤ v2) → ∀ lv ak le asg bo or rest num bnd, post (-2) (f_latest, f_kept, f_steps, f_mode, f_since, f_until, nI C, lv, ak, le, asg, bo, a_kinds, a_keptEntity, a_keptAttribute, a_keptValue, a_came, a_went, a_now, a_work, a_stepKind, a_stepEntity, a_stepAttribute, a_stepValue, a_stepOther, a_row, a_column, a_reach, a_clauseKind, a_clauseAttribute, a_left, a_right, or, rest, num, bnd)) :
    wpX_next post (f_latest, f_kept, f_steps, f_mode, f_since, f_until, nI C, f_levels, f_asked, f_level, f_assigned, f_bounded, a_kinds, a_keptEntity, a_keptAttribute, a_keptValue, a_came, a_went, a_now, a_work, a_stepKind, a_stepEntity, a_stepAttribute, a_stepValue, a_stepOther, a_row, a_column, a_reach, a_clauseKind, a_clauseAttribute, a_left, a_right, a_order, a_rest, a_number, a_bound) mk v2 := by
  have hm4 : fm_cb (bt mk) 4 ≤ 4 := fq_cb_k _ 4
  have hpow := fq_pow4 hm4
  have hpos : 0 < 20 ^ fm_cb (bt mk) 4 := Nat.pow_pos (by omega)
  refine br_f h1 (br_t h15 (fq_plainX hV hK (fun hpl => br_f fk_10 ?_) (fun hno => br_t rfl (h0 (fun t ht => ?_) f_levels f_asked f_level f_assigned f_bounded a_order a_rest a_number a_bound))))
  · have key : ∀ d k, k + d = 4 → wX_next_31 post mk v2 f_latest f_kept f_steps f_mode f_since f_until (nI C) f_levels f_asked f_level f_assigned f_bounded a_kinds a_keptEntity a_keptAttribute a_keptValue a_came a_went a_now a_work a_stepKind a_stepEntity a_stepAttribute a_stepValue a_stepOther a_row a_column a_reach a_clauseKind a_clauseAttribute a_left a_right a_order a_rest a_number a_bound (d + 1) (nI (20 ^ fm_cb (bt mk) k)) (nI k) := by
      intro d
      induction d with
      | zero =>
        intro k hk
        have e : k = 4 := by omega
        subst e
        refine br_t (nI_le (a := 4) (by omega) (by omega)) ?_
        have em : nI (20 ^ fm_cb (bt mk) 4) - 1 = nI (20 ^ fm_cb (bt mk) 4 - 1) := pk_sub (b := 1) hpos
        rw [em]
        refine br_c (fun hc => br_c (fun hneg => ?_) (fun hneg => ?_)) (fun hc => h0 (fun t ht => ?_) f_levels f_asked f_level f_assigned f_bounded a_order a_rest a_number a_bound)
        · have hgt : ∀ t, t < 2 ^ 31 → ¬ nI t ≤ v2 := fun t ht hle => by
            have h := nI_pos' ht
            rw [Int32.le_iff_toInt_le] at h hle
            rw [Int32.lt_iff_toInt_lt] at hneg
            omega
          refine ⟨narrow_b0, by rfl, br_t rfl ?_⟩
          refine fq_nx101 (bd := 0) (β := fun _ => 0) hV hK hpl rfl hm1 (by omega) (fun z => absurd z (by decide)) (fun t t1 _ t3 lv ak le asg or rest num => hf t t1 (hgt t (by have := fq_P_lt t1; omega)) (fun t' q1 _ => t3 t' q1 (fun z => absurd z (by decide))) lv ak le asg 0 or rest num a_bound) (fun hno lv ak le asg or rest num => h0 (fun t ht => absurd (fun z => absurd z (by decide)) (hno t ht)) lv ak le asg 0 or rest num a_bound)
        · obtain ⟨af, haf, rfl⟩ := nI_of hneg
          rw [nI_ltI haf (by omega)] at hc
          have hgt : ∀ t, t < 2 ^ 31 → (¬ nI t ≤ nI af ↔ af < t) := fun t ht => by
            rw [nI_leI ht haf]; omega
          have hdig : fq_pre (fun i => i) (fun i => af / 20 ^ (fm_cb (bt mk) 4 - 1 - i) % 20) (fm_cb (bt mk) 4) = af := by
            rw [fq_dig (by omega) _ (Nat.le_refl _), Nat.sub_self, Nat.pow_zero, Nat.div_one]
          refine ⟨narrow_b1, by rfl, br_f fk_10 (fq_layX rfl hmk haf (fun bnd hbnd => ?_))⟩
          refine fq_nx101 (bd := 1) (β := fun i => af / 20 ^ (fm_cb (bt mk) 4 - 1 - i) % 20) hV hK hpl rfl hm1 (by omega) (fun _ i hi => ⟨hbnd i hi, Nat.mod_lt _ (by omega)⟩) (fun t t1 t2 t3 lv ak le asg or rest num => ?_) (fun hno lv ak le asg or rest num => ?_)
          · have hlt := fq_P_lt t1
            have h2 := t2 rfl
            rw [hdig] at h2
            refine hf t t1 ((hgt t (by omega)).mpr h2) (fun t' q1 q2 => t3 t' q1 (fun _ => ?_)) lv ak le asg 0 or rest num bnd
            rw [hdig]
            exact (hgt t' (by have := fq_P_lt q1; omega)).mp q2
          · refine h0 (fun t ht => ?_) lv ak le asg 0 or rest num bnd
            have h2 := hno t ht
            have hlt := fq_P_lt ht
            rw [hdig] at h2
            rw [nI_leI (by omega) haf]
            rcases Nat.lt_or_ge af t with z | z
            · exact absurd (fun _ => z) h2
            · exact z
        · have hlt := fq_P_lt ht
          have hle : nI t ≤ nI (20 ^ fm_cb (bt mk) 4 - 1) := nI_le (by omega) (by omega)
          exact Int32.le_trans hle (Int32.not_lt.mp hc)
      | succ d ih =>
        intro k hk
        have hh := ih (k + 1) (by omega)
        refine br_f (nI_ge (b := 4) (by omega) (by omega)) (fl_br1 k (by omega) (fun hb => ?_) (fun hb => ?_))
        · rw [fm_cb_s, hb] at hh
          exact nm_r (e' := nI (20 ^ (fm_cb (bt mk) k + 1))) (pk_mul _ 20) (nm_r (nI_1 k) hh)
        · rw [fm_cb_s, hb] at hh
          exact nm_r ((pk_mul _ 1).trans (congrArg nI (Nat.mul_one _))) (nm_r (nI_1 k) hh)
    exact ⟨_, key 4 0 rfl⟩
  · obtain ⟨τ, t1, t2, _⟩ := ht
    refine absurd (fun c hc x20 y20 => ?_) hno
    have := t2 c hc
    rw [fq_tv_c x20, fq_tv_c y20] at this
    exact this
end
theorem i_vc_next {k : Nat} {u : SX} {v : SY} (I : i_Rel k u v) (hk : k + 5 ≤ 2560) (v1 : Int32) (v2 : Int32) : wpX_next (fun r u' => wpY_next (fun r' v' => r' = r ∧ i_Rel (k + 5) u' v') v v1 v2) u v1 v2 := by
  refine fr_el (P := fun u v => wpX_next (fun r u' => wpY_next (fun r' v' => r' = r ∧ i_Rel (k + 5) u' v') v v1 v2) u v1 v2) I ?_
  intro L K s md sn un C f_levels f_asked f_level f_assigned f_bounded g_masked a_kinds a_keptEntity a_keptAttribute a_keptValue a_came a_went a_now a_work a_stepKind a_stepEntity a_stepAttribute a_stepValue a_stepOther a_row a_column a_reach a_clauseKind a_clauseAttribute a_left a_right a_order a_rest a_number a_bound b_sets b_work b_attributes b_seen b_reach b_along b_order b_number h1 h2 h3 h4
  by_cases c1 : v1 < 1
  · exact br_t c1 (br_t c1 ⟨rfl, fr_in h1 h2 h3 h4⟩)
  by_cases c2 : v1 ≤ 15
  · have hV := fq_V_of h1 h3
    have hK := fq_K_of h4
    obtain ⟨mm, m1, m2, rfl⟩ := fq_msk c1 c2
    refine fq_nxtX (fq_mkw mm m1) (fq_mk1 mm m1 m2) hV hK c1 c2 (fun t t1 t2 t3 lv ak le asg bo or rest num bnd => ?_) (fun hno lv ak le asg bo or rest num bnd => ?_)
    · refine br_f c1 (br_t c2 ?_)
      refine fq_srchY (m := fm_cb (bt (nI mm)) 4) (fun c S => ∀ t, ((S t ∧ ¬ nI t ≤ v2) ↔ (fq_P (fq_full C (fr_n a_clauseKind) (fr_n a_clauseAttribute) (fr_n a_left) (fr_n a_right) a_row a_reach) [] (fq_ml (bt (nI mm)) 4) (fun _ => 0) t ∧ ¬ nI t ≤ v2))) h3 h1.1 hK rfl (fq_mk1 mm m1 m2) (fun t => ?_) (fun c msk seen rch or num hG => ?_) (fun c S S' t' msk seen rch or num g1 g2 g3 g4 g5 g6 => ?_)
      · rw [fq_SY hK rfl t]
      · exact absurd ((hG t).mpr ⟨t1, t2⟩).1 id
      · by_cases hle : nI t' ≤ v2
        · refine Or.inr ⟨fun _ => hle, fun q => ?_⟩
          rw [← g1 q]
          by_cases hq : q = t'
          · subst hq
            exact ⟨fun z => absurd hle z.2, fun z => absurd hle z.2⟩
          · rw [g6 q hq]
        · refine Or.inl ⟨rfl, hle, ?_, fr_in h1 h2 h3 h4⟩
          have p1 := (g1 t').mp ⟨g3, hle⟩
          have p2 := (g1 t).mpr ⟨t1, t2⟩
          have l1 := t3 t' p1.1 p1.2
          have l2 := g4 t p2.1
          rw [show t' = t by omega]
    · refine br_f c1 (br_t c2 ?_)
      refine fq_srchY (m := fm_cb (bt (nI mm)) 4) (fun c S => ∀ t, S t → nI t ≤ v2) h3 h1.1 hK rfl (fq_mk1 mm m1 m2) (fun t ht => hno t ((fq_SY hK rfl t).mp ht)) (fun c msk seen rch or num hG => ⟨fun _ => ⟨rfl, fr_in h1 h2 h3 h4⟩, fun z => absurd rfl z⟩) (fun c S S' t' msk seen rch or num g1 g2 g3 g4 g5 g6 => Or.inr ⟨fun _ => g1 t' g3, fun q hq => ?_⟩)
      by_cases hz : q = t'
      · subst hz; exact absurd hq g5
      · exact g1 q ((g6 q hz).mpr hq)
  · exact br_f c1 (br_f c2 (br_f c1 (br_f c2 ⟨rfl, fr_in h1 h2 h3 h4⟩)))
end
