section
/-! rows of kit/rows (starting text), pasted -/
theorem pk_us {f : Nat → Int32} {k : Nat} {x : Int32} : upd f k x k = x := if_pos rfl
theorem pk_un {f : Nat → Int32} {k j : Nat} {x : Int32} (h : j ≠ k) : upd f k x j = f j := if_neg h
theorem pk_uLs {f : Nat → Int64} {k : Nat} {x : Int64} : vp_updL f k x k = x := if_pos rfl
theorem pk_uLn {f : Nat → Int64} {k j : Nat} {x : Int64} (h : j ≠ k) : vp_updL f k x j = f j := if_neg h
theorem pk_sub {a b : Nat} (h : b ≤ a) : nI a - nI b = nI (a - b) := by
  obtain ⟨c, rfl⟩ : ∃ c, a = c + b := ⟨a - b, by omega⟩
  rw [← nI_add, Int32.add_sub_cancel, Nat.add_sub_cancel]
theorem pk_m1 (n : Nat) : nI (n + 1) + (-1) = nI n := by
  rw [← nI_1, Int32.add_assoc, show (1 : Int32) + (-1) = 0 from rfl, Int32.add_zero]
theorem pk_mul (a b : Nat) : nI a * nI b = nI (a * b) := (Int32.ofNat_mul a b).symm
theorem pk_div {a d : Nat} (ha : a < 2 ^ 31) (h0 : 0 < d) (hd : d < 2 ^ 31) : nI a / nI d = nI (a / d) := by
  apply Int32.toInt_inj.mp
  rw [lg_idiv_nonneg (by rw [nI_toInt ha]; omega) (by rw [nI_toInt hd]; omega), nI_toInt ha, nI_toInt hd, nI_toInt (Nat.lt_of_le_of_lt (Nat.div_le_self a d) ha)]
  first | rfl | exact (Int.natCast_ediv _ _).symm
theorem pk_rem {a d : Nat} (ha : a < 2 ^ 31) (h0 : 0 < d) (hd : d < 2 ^ 31) : nI a - nI a / nI d * nI d = nI (a % d) := by
  rw [pk_div ha h0 hd, pk_mul, pk_sub (Nat.div_mul_le_self a d)]
  exact congrArg nI (by have := Nat.div_add_mod' a d; omega)
theorem pk_sub_toInt {a b : Nat} (ha : a < 2 ^ 30) (hb : b < 2 ^ 30) : (nI a - nI b).toInt = (a : Int) - b := by
  rw [Int32.toInt_sub, nI_toInt (by omega), nI_toInt (by omega)]
  exact Int.bmod_eq_of_le (by omega) (by omega)
theorem pk_sneg {a b : Nat} (hb : b < 2 ^ 30) (h : a < b) : nI a - nI b < 0 := by
  rw [Int32.lt_iff_toInt_lt, pk_sub_toInt (by omega) hb, show (0 : Int32).toInt = 0 from by decide]
  omega
theorem pk_ix (x : Int32) {n : Nat} (hn : n < 2 ^ 31) : x < 0 ∨ nI n ≤ x ∨ ∃ j : Nat, j < n ∧ x = nI j := by
  by_cases h : x < 0
  · exact Or.inl h
  · obtain ⟨j, hj, rfl⟩ := nI_of h
    by_cases h2 : j < n
    · exact Or.inr (Or.inr ⟨j, h2, rfl⟩)
    · exact Or.inr (Or.inl (nI_le (by omega) hj))
theorem pk_le {x y : Int32} {A B : Prop} (a b : Nat) (f : a ≤ b → A) (g : b < a → B) (hx : x = nI a := by rfl) (hy : y = nI b := by rfl) (ha : a < 2 ^ 31 := by omega) (hb : b < 2 ^ 31 := by omega) : (x ≤ y → A) ∧ (¬ x ≤ y → B) := by
  subst hx hy
  rw [nI_leI ha hb]
  exact ⟨f, fun z => g (by omega)⟩
theorem pk_lt {x y : Int32} {A B : Prop} (a b : Nat) (f : a < b → A) (g : b ≤ a → B) (hx : x = nI a := by rfl) (hy : y = nI b := by rfl) (ha : a < 2 ^ 31 := by omega) (hb : b < 2 ^ 31 := by omega) : (x < y → A) ∧ (¬ x < y → B) := by
  subst hx hy
  rw [nI_ltI ha hb]
  exact ⟨f, fun z => g (by omega)⟩
theorem pk_eq {x y : Int32} {A B : Prop} (a b : Nat) (f : a = b → A) (g : a ≠ b → B) (hx : x = nI a := by rfl) (hy : y = nI b := by rfl) (ha : a < 2 ^ 31 := by omega) (hb : b < 2 ^ 31 := by omega) : (x = y → A) ∧ (¬ x = y → B) := by
  subst hx hy
  rw [nI_eq ha hb]
  exact ⟨f, g⟩
theorem pk_in {x : Int32} (n N : Nat) (h : n < N) (hx : x = nI n := by rfl) (hN : N < 2 ^ 31 := by omega) : vp_in x N := by
  subst hx
  exact vp_in_nI h hN
theorem pk_cl {x : Int32} (n : Nat) (hx : x = nI n := by rfl) (h : n < 2 ^ 31 := by omega) : x.toNatClampNeg = n := by
  subst hx
  exact nI_clamp h
theorem pk_tn {n : Nat} (h : n < 2 ^ 32) : (nI n).toBitVec.toNat = n := Nat.mod_eq_of_lt h
theorem pk_and (x : Int32) {m : Int32} (k : Nat) (hm : m.toBitVec.toNat = 2 ^ k - 1) : x &&& m = nI (x.toBitVec.toNat % 2 ^ k) := by
  apply Int32.toBitVec_inj.mp
  apply BitVec.eq_of_toNat_eq
  rw [Int32.toBitVec_and, BitVec.toNat_and, hm, Nat.and_two_pow_sub_one_eq_mod]
  show _ = (BitVec.ofNat 32 _).toNat
  rw [BitVec.toNat_ofNat]
  exact (Nat.mod_eq_of_lt (Nat.lt_of_le_of_lt (Nat.mod_le _ _) x.toBitVec.isLt)).symm
theorem pk_andN {n : Nat} (h : n < 2 ^ 32) {m : Int32} (k : Nat) (hm : m.toBitVec.toNat = 2 ^ k - 1) : nI n &&& m = nI (n % 2 ^ k) := by
  rw [pk_and _ k hm, pk_tn h]
theorem pk_andE (x : Int32) {m : Int32} (k : Nat) (hm : m.toBitVec.toNat = 2 ^ k - 1) : ∃ j : Nat, j < 2 ^ k ∧ x &&& m = nI j := ⟨_, Nat.mod_lt _ (Nat.two_pow_pos k), pk_and x k hm⟩
theorem pk_andIn (x : Int32) {m : Int32} (k : Nat) (hm : m.toBitVec.toNat = 2 ^ k - 1) (hk : k ≤ 30) : vp_in (x &&& m) (2 ^ k) := by
  obtain ⟨j, hj, e⟩ := pk_andE x k hm
  rw [e]
  exact vp_in_nI hj (Nat.lt_of_le_of_lt (Nat.pow_le_pow_right (by decide) hk) (by decide))
theorem pk_shl (a s : Int32) (k : Nat) (hs : (s.toBitVec.smod 32).toNat = k) : (a <<< s).toBitVec.toNat = a.toBitVec.toNat * 2 ^ k % 2 ^ 32 := by
  show (a.toBitVec <<< (s.toBitVec.smod 32).toNat).toNat = _
  rw [hs, BitVec.toNat_shiftLeft, Nat.shiftLeft_eq]
theorem pk_shlN {n : Nat} (s : Int32) (k : Nat) (hs : (s.toBitVec.smod 32).toNat = k) (h : n * 2 ^ k < 2 ^ 32) : nI n <<< s = nI (n * 2 ^ k) := by
  apply Int32.toBitVec_inj.mp
  apply BitVec.eq_of_toNat_eq
  have hn : n < 2 ^ 32 := Nat.lt_of_le_of_lt (Nat.le_mul_of_pos_right n (Nat.two_pow_pos k)) h
  rw [pk_shl _ _ k hs, pk_tn hn, pk_tn h, Nat.mod_eq_of_lt h]
theorem pk_shr (a s : Int32) (k : Nat) (hs : (s.toBitVec.smod 32).toNat = k) : (a >>> s).toInt = a.toInt >>> k := by
  show (a.toBitVec.sshiftRight (s.toBitVec.smod 32).toNat).toInt = _
  rw [hs, BitVec.toInt_sshiftRight]
  rfl
theorem pk_shrN {n : Nat} (h : n < 2 ^ 31) (s : Int32) (k : Nat) (hs : (s.toBitVec.smod 32).toNat = k) : nI n >>> s = nI (n / 2 ^ k) := by
  apply Int32.toInt_inj.mp
  have h2 : n / 2 ^ k ≤ n := Nat.div_le_self _ _
  rw [pk_shr _ _ k hs, nI_toInt h, nI_toInt (by omega), Int.shiftRight_eq_div_pow]
  rfl
theorem pk_ushr (x s : Int32) (k : Nat) (hs : ((s.toUInt32 &&& Int32.toUInt32 31).toBitVec % 32).toNat = k) : (x.toUInt32 >>> (s.toUInt32 &&& Int32.toUInt32 31)).toInt32.toBitVec.toNat = x.toBitVec.toNat / 2 ^ k := by
  have e : (x.toUInt32 >>> (s.toUInt32 &&& Int32.toUInt32 31)).toInt32.toBitVec = x.toBitVec >>> k := by
    rw [← hs]
    exact UInt32.toBitVec_shiftRight _ _
  rw [e, BitVec.toNat_ushiftRight, Nat.shiftRight_eq_div_pow]
theorem pk_ushrN {n : Nat} (hn : n < 2 ^ 32) (s : Int32) (k : Nat) (hs : ((s.toUInt32 &&& Int32.toUInt32 31).toBitVec % 32).toNat = k) : ((nI n).toUInt32 >>> (s.toUInt32 &&& Int32.toUInt32 31)).toInt32 = nI (n / 2 ^ k) := by
  apply Int32.toBitVec_inj.mp
  apply BitVec.eq_of_toNat_eq
  rw [pk_ushr _ s k hs, pk_tn hn, pk_tn (Nat.lt_of_le_of_lt (Nat.div_le_self _ _) hn)]
theorem pk_least (P : Nat → Prop) (h : ∃ k, P k) : ∃ k, P k ∧ ∀ j, j < k → ¬ P j := by
  obtain ⟨k, hk⟩ := h
  induction k using Nat.strongRecOn with
  | ind k ih =>
    by_cases e : ∃ j, j < k ∧ P j
    · obtain ⟨j, hj, pj⟩ := e
      exact ih j hj pj
    · exact ⟨k, hk, fun j hj pj => e ⟨j, hj, pj⟩⟩
def bt (x : Int32) (i : Nat) : Bool := x.toBitVec.getLsbD i
theorem b_ext {x y : Int32} (h : ∀ i, i < 32 → bt x i = bt y i) : x = y := Int32.toBitVec_inj.mp (BitVec.eq_of_getLsbD_eq (fun i hi => h i hi))
theorem b_or (x y : Int32) (i : Nat) : bt (x ||| y) i = (bt x i || bt y i) := by unfold bt; rw [Int32.toBitVec_or, BitVec.getLsbD_or]
theorem b_and (x y : Int32) (i : Nat) : bt (x &&& y) i = (bt x i && bt y i) := by unfold bt; rw [Int32.toBitVec_and, BitVec.getLsbD_and]
theorem b_xor (x y : Int32) (i : Nat) : bt (x ^^^ y) i = (bt x i ^^ bt y i) := by unfold bt; rw [Int32.toBitVec_xor, BitVec.getLsbD_xor]
theorem b_big {x : Int32} {i : Nat} (h : 32 ≤ i) : bt x i = false := BitVec.getLsbD_of_ge _ _ h
theorem b_255 (i : Nat) : bt 255 i = decide (i < 8) := by
  rcases Nat.lt_or_ge i 32 with h | h
  · exact (by decide +kernel : ∀ i, i < 32 → bt 255 i = decide (i < 8)) i h
  · rw [b_big h, decide_eq_false (by omega)]
theorem b_65535 (i : Nat) : bt 65535 i = decide (i < 16) := by
  rcases Nat.lt_or_ge i 32 with h | h
  · exact (by decide +kernel : ∀ i, i < 32 → bt 65535 i = decide (i < 16)) i h
  · rw [b_big h, decide_eq_false (by omega)]
theorem b_m1 : ∀ i, i < 32 → bt (-1) i = true := by decide +kernel
theorem b_0 (i : Nat) : bt 0 i = false := BitVec.getLsbD_zero
theorem s_l : ∀ n, n < 32 → ((nI n &&& 31).toBitVec.smod 32).toNat = n := by decide +kernel
theorem s_u : ∀ n, n < 32 → (((nI n).toUInt32 &&& Int32.toUInt32 31).toBitVec % 32).toNat = n := by decide +kernel
theorem b_shl (n : Nat) (hn : n < 32) (x : Int32) {i : Nat} (hi : i < 32) : bt (x <<< (nI n &&& 31)) i = (decide (n ≤ i) && bt x (i - n)) := by
  unfold bt
  rw [Int32.toBitVec_shiftLeft]
  show (x.toBitVec <<< ((nI n &&& 31).toBitVec.smod 32).toNat).getLsbD i = _
  rw [s_l n hn, BitVec.getLsbD_shiftLeft]
  rcases Nat.lt_or_ge i n with h | h
  · simp [h, Nat.not_le.mpr h]
  · simp [hi, h, Nat.not_lt.mpr h]
theorem b_ushr (n : Nat) (hn : n < 32) (x : Int32) (i : Nat) : bt ((x.toUInt32 >>> ((nI n).toUInt32 &&& Int32.toUInt32 31)).toInt32) i = bt x (n + i) := by
  show (x.toUInt32 >>> ((nI n).toUInt32 &&& Int32.toUInt32 31)).toBitVec.getLsbD i = x.toUInt32.toBitVec.getLsbD (n + i)
  rw [UInt32.toBitVec_shiftRight]
  show (x.toUInt32.toBitVec >>> (((nI n).toUInt32 &&& Int32.toUInt32 31).toBitVec % 32).toNat).getLsbD i = _
  rw [s_u n hn, BitVec.getLsbD_ushiftRight]
theorem b_sshr (n : Nat) (hn : n < 32) (x : Int32) {i : Nat} (hi : i < 32) : bt (x >>> (nI n &&& 31)) i = if n + i < 32 then bt x (n + i) else bt x 31 := by
  unfold bt
  rw [Int32.toBitVec_shiftRight]
  show (x.toBitVec.sshiftRight ((nI n &&& 31).toBitVec.smod 32).toNat).getLsbD i = _
  rw [s_l n hn, BitVec.getLsbD_sshiftRight, BitVec.msb_eq_getLsbD_last]
  simp [hi]
theorem wb_tb (n : Nat) : (lN n).toBitVec = BitVec.ofNat 64 n := rfl
theorem wb_inj {a b : Int64} (h : a.toBitVec = b.toBitVec) : a = b := Int64.toBitVec_inj.mp h
theorem wb_tn {n : Nat} (h : n < 2 ^ 64) : (lN n).toBitVec.toNat = n := by rw [wb_tb, BitVec.toNat_ofNat, Nat.mod_eq_of_lt h]
theorem wb_of (x : Int64) : ∃ n, n < 2 ^ 64 ∧ x = lN n := ⟨x.toBitVec.toNat, x.toBitVec.isLt, wb_inj (by rw [wb_tb]; simp)⟩
theorem wb_of32 (x : Int32) : ∃ n, n < 2 ^ 32 ∧ x = nI n := ⟨x.toBitVec.toNat, x.toBitVec.isLt, Int32.toBitVec_inj.mp (by show _ = BitVec.ofNat 32 _; simp)⟩
theorem wb_c : ∀ k, k < 64 → ((nI k).toInt64 &&& 63) = lN k := by decide +kernel
theorem wb_cu : ∀ k, k < 64 → ((nI k).toInt64.toUInt64 &&& Int64.toUInt64 63) = UInt64.ofNat k := by decide +kernel
theorem wb_sm : ∀ k, k < 64 → (BitVec.ofNat 64 k).smod 64 = BitVec.ofNat 64 k := by decide +kernel
end
section
/-! sums and counts over 0 .. N-1; bijections; bits -/
def zm_s (f : Nat → Nat) : Nat → Nat
  | 0 => 0
  | k + 1 => zm_s f k + f k
theorem zm_s_le {f h : Nat → Nat} : ∀ {N : Nat}, (∀ k, k < N → f k ≤ h k) → zm_s f N ≤ zm_s h N
  | 0, _ => Nat.le_refl _
  | N + 1, w => by
    have a := zm_s_le (f := f) (h := h) (N := N) (fun k hk => w k (by omega))
    have b := w N (by omega)
    simp only [zm_s]; omega
theorem zm_s_eq {f h : Nat → Nat} {N : Nat} (w : ∀ k, k < N → f k = h k) : zm_s f N = zm_s h N :=
  Nat.le_antisymm (zm_s_le fun k hk => Nat.le_of_eq (w k hk)) (zm_s_le fun k hk => Nat.le_of_eq (w k hk).symm)
theorem zm_s_lt {f h : Nat → Nat} {a : Nat} (hl : f a < h a) : ∀ {N : Nat}, (∀ k, k < N → f k ≤ h k) → a < N → zm_s f N < zm_s h N
  | 0, _, z => by omega
  | N + 1, w, z => by
    simp only [zm_s]
    rcases Nat.lt_or_ge a N with q | q
    · have x := zm_s_lt hl (N := N) (fun k hk => w k (by omega)) q
      have b := w N (by omega)
      omega
    · have e : a = N := by omega
      subst e
      have x := zm_s_le (f := f) (h := h) (N := a) (fun k hk => w k (by omega))
      omega
theorem zm_s_upd {f h : Nat → Nat} {a : Nat} : ∀ {N : Nat}, (∀ k, k < N → k ≠ a → h k = f k) → a < N → zm_s h N + f a = zm_s f N + h a
  | 0, _, z => by omega
  | N + 1, w, z => by
    simp only [zm_s]
    rcases Nat.lt_or_ge a N with q | q
    · have x := zm_s_upd (f := f) (h := h) (N := N) (fun k hk => w k (by omega)) q
      have b := w N (by omega) (by omega)
      omega
    · have e : a = N := by omega
      subst e
      have x := zm_s_eq (f := h) (h := f) (N := a) (fun k hk => w k (by omega) (by omega))
      omega
theorem zm_s_const (c : Nat) : ∀ N, zm_s (fun _ => c) N = N * c
  | 0 => by simp [zm_s]
  | N + 1 => by simp only [zm_s]; rw [zm_s_const c N, Nat.succ_mul]
theorem zm_s_zero {f : Nat → Nat} {N : Nat} (w : ∀ k, k < N → f k = 0) : zm_s f N = 0 := by
  rw [zm_s_eq (h := fun _ => 0) w, zm_s_const, Nat.mul_zero]
theorem zm_s_add (f h : Nat → Nat) : ∀ N, zm_s (fun k => f k + h k) N = zm_s f N + zm_s h N
  | 0 => rfl
  | N + 1 => by simp only [zm_s]; rw [zm_s_add f h N]; omega
theorem zm_s_swap (f : Nat → Nat → Nat) (M : Nat) : ∀ N, zm_s (fun i => zm_s (fun j => f i j) M) N = zm_s (fun j => zm_s (fun i => f i j) N) M
  | 0 => by simp only [zm_s]; exact (zm_s_zero fun _ _ => rfl).symm
  | N + 1 => by simp only [zm_s]; rw [zm_s_swap f M N, zm_s_add]
theorem zm_s_one {f : Nat → Nat} {N a : Nat} (ha : a < N) (w : ∀ k, k < N → k ≠ a → f k = 0) : zm_s f N = f a := by
  have x := zm_s_upd (f := fun _ => 0) (h := f) (a := a) (N := N) w ha
  rw [zm_s_const] at x
  simpa using x
theorem zm_s_le1 {f : Nat → Nat} {c : Nat} : ∀ {N : Nat}, (∀ k, k < N → f k ≤ c) → (∀ i j, i < N → j < N → f i ≠ 0 → f j ≠ 0 → i = j) → zm_s f N ≤ c
  | 0, _, _ => Nat.zero_le _
  | N + 1, w, u => by
    by_cases z : f N = 0
    · simp only [zm_s]; rw [z]
      exact zm_s_le1 (fun k hk => w k (by omega)) (fun i j hi hj => u i j (by omega) (by omega))
    · simp only [zm_s]
      rw [zm_s_zero (fun k hk => ?_)]
      · have := w N (by omega); omega
      · rcases Nat.eq_zero_or_pos (f k) with q | q
        · exact q
        · have := u k N (by omega) (by omega) (by omega) z; omega
/-- an injection of 0..n-1 into 0..m-1 -/
theorem zm_inj {n m : Nat} (f : Nat → Nat) (hf : ∀ i, i < n → f i < m) (hi : ∀ i j, i < n → j < n → f i = f j → i = j) : n ≤ m := by
  have h1 : zm_s (fun i => zm_s (fun v => if f i = v then 1 else 0) m) n = n := by
    rw [zm_s_eq (h := fun _ => 1), zm_s_const, Nat.mul_one]
    intro i h
    rw [zm_s_one (hf i h)]
    · simp
    · intro v _ hv; rw [if_neg (fun e => hv e.symm)]
  have h2 : zm_s (fun v => zm_s (fun i => if f i = v then 1 else 0) n) m ≤ m := by
    have := zm_s_le (f := fun v => zm_s (fun i => if f i = v then 1 else 0) n) (h := fun _ => 1) (N := m) (fun v _ => ?_)
    · rw [zm_s_const, Nat.mul_one] at this; exact this
    · refine zm_s_le1 (fun k _ => by split <;> omega) (fun i j h1 h2 a b => hi i j h1 h2 ?_)
      have e1 : f i = v := by
        by_cases q : f i = v
        · exact q
        · simp [q] at a
      have e2 : f j = v := by
        by_cases q : f j = v
        · exact q
        · simp [q] at b
      omega
  rw [zm_s_swap] at h1
  omega
/-- a sum does not change under a bijection -/
theorem zm_bij {n m : Nat} (f h : Nat → Nat) (hf : ∀ i, i < n → f i < m ∧ h (f i) = i) (hh : ∀ v, v < m → h v < n ∧ f (h v) = v) (a : Nat → Nat) : zm_s (fun i => a (f i)) n = zm_s a m := by
  have h1 : zm_s (fun i => zm_s (fun v => if f i = v then a v else 0) m) n = zm_s (fun i => a (f i)) n := by
    apply zm_s_eq
    intro i hi
    rw [zm_s_one (hf i hi).1]
    · simp
    · intro v _ hv; rw [if_neg (fun e => hv e.symm)]
  rw [← h1, zm_s_swap]
  apply zm_s_eq
  intro v hv
  rw [zm_s_one (hh v hv).1]
  · rw [if_pos (hh v hv).2]
  · intro i hi hn
    rw [if_neg]
    intro e
    apply hn
    rw [← e, (hf i hi).2]
noncomputable def zm_b (P : Prop) : Nat := @ite Nat P (Classical.propDecidable P) 1 0
theorem zm_b_t {P : Prop} (h : P) : zm_b P = 1 := by unfold zm_b; rw [if_pos h]
theorem zm_b_f {P : Prop} (h : ¬ P) : zm_b P = 0 := by unfold zm_b; rw [if_neg h]
theorem zm_b_le (P : Prop) : zm_b P ≤ 1 := by
  rcases Classical.em P with h | h
  · rw [zm_b_t h]; omega
  · rw [zm_b_f h]; omega
theorem zm_b_mono {P Q : Prop} (h : P → Q) : zm_b P ≤ zm_b Q := by
  rcases Classical.em P with hp | hp
  · rw [zm_b_t hp, zm_b_t (h hp)]; omega
  · rw [zm_b_f hp]; omega
noncomputable def zm_c (P : Nat → Prop) (N : Nat) : Nat := zm_s (fun k => zm_b (P k)) N
theorem zm_c_le (P : Nat → Prop) (N : Nat) : zm_c P N ≤ N := by
  have := zm_s_le (f := fun k => zm_b (P k)) (h := fun _ => 1) (N := N) (fun k _ => zm_b_le _)
  rw [zm_s_const, Nat.mul_one] at this; exact this
theorem zm_c_mono {P Q : Nat → Prop} {N : Nat} (h : ∀ k, k < N → P k → Q k) : zm_c P N ≤ zm_c Q N := zm_s_le fun k hk => zm_b_mono (h k hk)
theorem zm_c_lt {P Q : Nat → Prop} {a N : Nat} (hp : ¬ P a) (hq : Q a) (h : ∀ k, k < N → P k → Q k) (ha : a < N) : zm_c P N < zm_c Q N :=
  zm_s_lt (a := a) (by show zm_b (P a) < zm_b (Q a); rw [zm_b_t hq, zm_b_f hp]; omega) (fun k hk => zm_b_mono (h k hk)) ha
theorem zm_c_full {P : Nat → Prop} {N : Nat} (h : N ≤ zm_c P N) : ∀ k, k < N → P k := by
  intro k hk
  rcases Classical.em (P k) with z | z
  · exact z
  · have := zm_c_lt (P := P) (Q := fun _ => True) z trivial (fun _ _ _ => trivial) hk
    have := zm_c_le (fun _ => True) N
    omega
/-- two sets of naturals below N, one in the other: equal, or the count grows -/
theorem zm_c_grow {P Q : Nat → Prop} {N : Nat} (h : ∀ k, k < N → P k → Q k) : (∀ k, k < N → Q k → P k) ∨ zm_c P N < zm_c Q N := by
  rcases Classical.em (∃ a, a < N ∧ Q a ∧ ¬ P a) with ⟨a, h1, h2, h3⟩ | z
  · exact Or.inr (zm_c_lt h3 h2 h h1)
  · refine Or.inl fun k hk hq => ?_
    rcases Classical.em (P k) with y | y
    · exact y
    · exact absurd ⟨k, hk, hq, y⟩ z
/-! bits of a mask as propositions -/
def zb (x : Int32) (i : Nat) : Prop := bt x i = true
theorem zb_or {x y : Int32} {i : Nat} : zb (x ||| y) i ↔ zb x i ∨ zb y i := by unfold zb; rw [b_or]; simp
theorem zb_and {x y : Int32} {i : Nat} : zb (x &&& y) i ↔ zb x i ∧ zb y i := by unfold zb; rw [b_and]; simp
theorem zb_0 {i : Nat} : ¬ zb 0 i := by unfold zb; rw [b_0]; simp
theorem zb_lt {x : Int32} {i : Nat} (h : zb x i) : i < 32 := by
  rcases Nat.lt_or_ge i 32 with z | z
  · exact z
  · unfold zb at h; rw [b_big z] at h; exact absurd h (by decide)
theorem zb_ext {x y : Int32} (h : ∀ i, i < 32 → (zb x i ↔ zb y i)) : x = y := by
  apply b_ext
  intro i hi
  have := h i hi
  unfold zb at this
  cases h1 : bt x i <;> cases h2 : bt y i <;> simp_all
theorem zb_not {x : Int32} {i : Nat} (hi : i < 32) : zb (x ^^^ (-1)) i ↔ ¬ zb x i := by
  unfold zb; rw [b_xor, b_m1 i hi]; cases bt x i <;> simp
theorem zb_z {x : Int32} : x = 0 ↔ ∀ i, i < 32 → ¬ zb x i := by
  constructor
  · intro h i _; rw [h]; exact zb_0
  · intro h; exact zb_ext fun i hi => ⟨fun z => absurd z (h i hi), fun z => absurd z zb_0⟩
theorem zb_sub {x y : Int32} : (x &&& (y ^^^ (-1))) = 0 ↔ ∀ i, i < 32 → zb x i → zb y i := by
  rw [zb_z]
  constructor
  · intro h i hi hx
    rcases Classical.em (zb y i) with z | z
    · exact z
    · exact absurd (zb_and.mpr ⟨hx, (zb_not hi).mpr z⟩) (h i hi)
  · intro h i hi z
    obtain ⟨h1, h2⟩ := zb_and.mp z
    exact (zb_not hi).mp h2 (h i hi h1)
theorem zb_one : ∀ n, n < 32 → ∀ i, i < 32 → (bt ((1 : Int32) <<< (nI n &&& 31)) i = decide (i = n)) := by decide +kernel
theorem zb_sh {n i : Nat} (hn : n < 32) : zb ((1 : Int32) <<< (nI n &&& 31)) i ↔ i = n := by
  constructor
  · intro h
    have hi := zb_lt h
    unfold zb at h
    rw [zb_one n hn i hi] at h
    exact of_decide_eq_true h
  · intro h
    unfold zb
    rw [zb_one n hn i (by omega)]
    exact decide_eq_true h
theorem zb_1 {i : Nat} : zb 1 i ↔ i = 0 := zb_sh (n := 0) (by decide)
theorem zb_get {x : Int32} {n : Nat} (hn : n < 32) : ((x >>> (nI n &&& 31)) &&& 1) = 0 ↔ ¬ zb x n := by
  rw [zb_z]
  have e : zb (x >>> (nI n &&& 31)) 0 ↔ zb x n := by
    unfold zb
    rw [b_sshr n hn x (by decide), if_pos (by omega)]
    rfl
  constructor
  · intro h z
    exact h 0 (by decide) (zb_and.mpr ⟨e.mpr z, zb_1.mpr rfl⟩)
  · intro h i _ z
    obtain ⟨h1, h2⟩ := zb_and.mp z
    have := zb_1.mp h2
    subst this
    exact h (e.mp h1)
theorem zb_get1 {x : Int32} {n : Nat} (hn : n < 32) (h : zb x n) : ((x >>> (nI n &&& 31)) &&& 1) = 1 := by
  apply zb_ext
  intro i _
  rw [zb_and, zb_1]
  constructor
  · exact fun z => z.2
  · intro z
    subst z
    refine ⟨?_, rfl⟩
    unfold zb
    rw [b_sshr n hn x (by decide), if_pos (by omega)]
    exact h
/-! the same for longs -/
def zB (x : Int64) (i : Nat) : Prop := x.toBitVec.getLsbD i = true
theorem zB_or {x y : Int64} {i : Nat} : zB (x ||| y) i ↔ zB x i ∨ zB y i := by unfold zB; rw [Int64.toBitVec_or, BitVec.getLsbD_or]; simp
theorem zB_and {x y : Int64} {i : Nat} : zB (x &&& y) i ↔ zB x i ∧ zB y i := by unfold zB; rw [Int64.toBitVec_and, BitVec.getLsbD_and]; simp
theorem zB_0 {i : Nat} : ¬ zB 0 i := by
  unfold zB
  rw [show (0 : Int64).toBitVec = 0#64 from rfl, BitVec.getLsbD_zero]
  decide
theorem zB_lt {x : Int64} {i : Nat} (h : zB x i) : i < 64 := by
  rcases Nat.lt_or_ge i 64 with z | z
  · exact z
  · unfold zB at h; rw [BitVec.getLsbD_of_ge _ _ z] at h; exact absurd h (by decide)
theorem zB_ext {x y : Int64} (h : ∀ i, i < 64 → (zB x i ↔ zB y i)) : x = y := by
  apply Int64.toBitVec_inj.mp
  apply BitVec.eq_of_getLsbD_eq
  intro i hi
  have := h i hi
  unfold zB at this
  cases h1 : x.toBitVec.getLsbD i <;> cases h2 : y.toBitVec.getLsbD i <;> simp_all
theorem zB_z {x : Int64} : x = 0 ↔ ∀ i, ¬ zB x i := by
  constructor
  · intro h i; rw [h]; exact zB_0
  · intro h; exact zB_ext fun i _ => ⟨fun z => absurd z (h i), fun z => absurd z zB_0⟩
theorem zB_one : ∀ n, n < 64 → ∀ i, i < 64 → (((1 : Int64) <<< ((nI n).toInt64 &&& 63)).toBitVec.getLsbD i = decide (i = n)) := by decide +kernel
theorem zB_sh {n i : Nat} (hn : n < 64) : zB ((1 : Int64) <<< ((nI n).toInt64 &&& 63)) i ↔ i = n := by
  constructor
  · intro h
    have hi := zB_lt h
    unfold zB at h
    rw [zB_one n hn i hi] at h
    exact of_decide_eq_true h
  · intro h
    unfold zB
    rw [zB_one n hn i (by omega)]
    exact decide_eq_true h
theorem zB_1 {i : Nat} : zB 1 i ↔ i = 0 := zB_sh (n := 0) (by decide)
theorem zB_shl1 {x : Int64} {i : Nat} : zB (x <<< ((1 : Int32).toInt64 &&& 63)) i ↔ i < 64 ∧ 0 < i ∧ zB x (i - 1) := by
  unfold zB
  rw [Int64.toBitVec_shiftLeft]
  show (x.toBitVec <<< (((1 : Int32).toInt64 &&& 63).toBitVec.smod 64).toNat).getLsbD i = true ↔ _
  rw [show (((1 : Int32).toInt64 &&& 63).toBitVec.smod 64).toNat = 1 from by decide, BitVec.getLsbD_shiftLeft]
  simp
  constructor
  · rintro ⟨h1, h2⟩; exact ⟨h1.1, by omega, h2⟩
  · rintro ⟨h1, h2, h3⟩; exact ⟨⟨h1, by omega⟩, h3⟩
theorem zB_get {x : Int64} {n : Nat} (hn : n < 64) : ((x >>> ((nI n).toInt64 &&& 63)) &&& 1) = 0 ↔ ¬ zB x n := by
  have e : zB (x >>> ((nI n).toInt64 &&& 63)) 0 ↔ zB x n := by
    unfold zB
    rw [Int64.toBitVec_shiftRight]
    show (x.toBitVec.sshiftRight (((nI n).toInt64 &&& 63).toBitVec.smod 64).toNat).getLsbD 0 = true ↔ _
    rw [wb_c n hn, wb_tb, wb_sm n hn, BitVec.toNat_ofNat, Nat.mod_eq_of_lt (show n < 2 ^ 64 by omega), BitVec.getLsbD_sshiftRight]
    simp [hn]
  rw [zB_z]
  constructor
  · intro h z
    exact h 0 (zB_and.mpr ⟨e.mpr z, zB_1.mpr rfl⟩)
  · intro h i z
    obtain ⟨h1, h2⟩ := zB_and.mp z
    have := zB_1.mp h2
    subst this
    exact h (e.mp h1)
end
section
/-! the grammar: g (4r) left side, g (4r+1..3) right side, 0 where nothing; item 4r+d -/
def zg_ok (g : Nat → Nat) (R : Nat) : Prop :=
  R ≤ 12 ∧ g 0 = 0 ∧ g 1 = 8 ∧ g 2 = 0 ∧ g 3 = 0 ∧ (∀ r, 1 ≤ r → r ≤ R → 8 ≤ g (4 * r)) ∧ (∀ i, g i < 16) ∧
  (∀ r, g (4 * r + 1) = 0 → g (4 * r + 2) = 0) ∧ (∀ r, g (4 * r + 2) = 0 → g (4 * r + 3) = 0) ∧ (∀ i, 4 * R + 4 ≤ i → g i = 0)
def zg_af (g : Nat → Nat) (e : Nat) : Nat := if e % 4 < 3 then g (e + 1) else 0
def zg_ln (g : Nat → Nat) (r : Nat) : Nat := if g (4 * r + 1) = 0 then 0 else if g (4 * r + 2) = 0 then 1 else if g (4 * r + 3) = 0 then 2 else 3
def zg_Cl (g : Nat → Nat) (R : Nat) (K : Nat → Prop) (e : Nat) : Prop :=
  ∀ S : Nat → Prop, (∀ e, K e → S e) → (∀ e s, S e → 1 ≤ s → s ≤ R → zg_af g e = g (4 * s) → S (4 * s)) → S e
def zg_mv (g : Nat → Nat) (S : Nat → Prop) (x e : Nat) : Prop := ∃ f, S f ∧ zg_af g f = x ∧ e = f + 1
def zg_GT (g : Nat → Nat) (R : Nat) (S : Nat → Prop) (x : Nat) : Nat → Prop := zg_Cl g R (zg_mv g S x)
def zg_ST (g : Nat → Nat) (R : Nat) : Nat → Prop := zg_Cl g R (fun e => e = 0)
def zg_Df (g : Nat → Nat) (S : Nat → Prop) (x : Nat) : Prop := x ≠ 0 ∧ ∃ e, S e ∧ zg_af g e = x
def zg_RC (g : Nat → Nat) (R : Nat) (S : Nat → Prop) : Prop :=
  ∀ P : (Nat → Prop) → Prop, P (zg_ST g R) → (∀ S x, P S → zg_Df g S x → P (zg_GT g R S x)) → P S
section ZG
variable {g : Nat → Nat} {R : Nat}
theorem zg_af_pos {e : Nat} (h : zg_af g e ≠ 0) : e % 4 < 3 ∧ zg_af g e = g (e + 1) := by
  unfold zg_af at h ⊢
  by_cases z : e % 4 < 3
  · rw [if_pos z]; exact ⟨z, rfl⟩
  · rw [if_neg z] at h; exact absurd rfl h
theorem zg_af_m {e : Nat} (h : e % 4 < 3) : zg_af g e = g (e + 1) := by unfold zg_af; rw [if_pos h]
theorem zg_af_3 {e : Nat} (h : e % 4 = 3) : zg_af g e = 0 := by unfold zg_af; rw [if_neg (by omega)]
theorem zg_af_lt (ok : zg_ok g R) {e : Nat} (h : zg_af g e ≠ 0) : e + 1 < 4 * R + 4 := by
  obtain ⟨_, h2⟩ := zg_af_pos h
  rcases Nat.lt_or_ge (e + 1) (4 * R + 4) with z | z
  · exact z
  · exact absurd (h2.trans (ok.2.2.2.2.2.2.2.2.2 _ z)) h
theorem zg_af_16 (ok : zg_ok g R) (e : Nat) : zg_af g e < 16 := by
  unfold zg_af
  split
  · exact ok.2.2.2.2.2.2.1 _
  · omega
theorem zg_ln_le (r : Nat) : zg_ln g r ≤ 3 := by
  unfold zg_ln; split
  · omega
  · split
    · omega
    · split <;> omega
theorem zg_lnI (ok : zg_ok g R) {r d : Nat} (hd : d < 4) : zg_af g (4 * r + d) ≠ 0 ↔ d < zg_ln g r := by
  have p1 := ok.2.2.2.2.2.2.2.1 r
  have p2 := ok.2.2.2.2.2.2.2.2.1 r
  have m : (4 * r + d) % 4 = d := by omega
  unfold zg_af zg_ln
  rw [m]
  by_cases h1 : g (4 * r + 1) = 0
  · have h2 := p1 h1
    have h3 := p2 h2
    rw [if_pos h1]
    rcases (show d = 0 ∨ d = 1 ∨ d = 2 ∨ d = 3 by omega) with e | e | e | e <;> subst e <;> simp [h1, h2, h3, Nat.add_assoc]
  · rw [if_neg h1]
    by_cases h2 : g (4 * r + 2) = 0
    · have h3 := p2 h2
      rw [if_pos h2]
      rcases (show d = 0 ∨ d = 1 ∨ d = 2 ∨ d = 3 by omega) with e | e | e | e <;> subst e <;> simp [h1, h2, h3, Nat.add_assoc]
    · rw [if_neg h2]
      by_cases h3 : g (4 * r + 3) = 0
      · rw [if_pos h3]
        rcases (show d = 0 ∨ d = 1 ∨ d = 2 ∨ d = 3 by omega) with e | e | e | e <;> subst e <;> simp [h1, h2, h3, Nat.add_assoc]
      · rw [if_neg h3]
        rcases (show d = 0 ∨ d = 1 ∨ d = 2 ∨ d = 3 by omega) with e | e | e | e <;> subst e <;> simp [h1, h2, h3, Nat.add_assoc]
theorem zg_ln_nz (ok : zg_ok g R) {r d : Nat} (hd : d < zg_ln g r) : g (4 * r + 1 + d) ≠ 0 ∧ d < 3 ∧ zg_af g (4 * r + d) = g (4 * r + 1 + d) := by
  have h3 := zg_ln_le (g := g) r
  have h := (zg_lnI ok (r := r) (d := d) (by omega)).mpr hd
  have e := (zg_af_pos h).2
  rw [show 4 * r + d + 1 = 4 * r + 1 + d by omega] at e
  exact ⟨by rw [← e]; exact h, by omega, e⟩
theorem zg_ln_R (ok : zg_ok g R) {r : Nat} (h : R < r) : zg_ln g r = 0 := by
  unfold zg_ln; rw [if_pos (ok.2.2.2.2.2.2.2.2.2 _ (by omega))]
theorem zg_ln_0 (ok : zg_ok g R) : zg_ln g 0 = 1 := by
  unfold zg_ln
  rw [show 4 * 0 + 1 = 1 from rfl, show 4 * 0 + 2 = 2 from rfl, ok.2.2.1, ok.2.2.2.1]
  rfl
theorem zg_Cl_base {K : Nat → Prop} {e : Nat} (h : K e) : zg_Cl g R K e := fun _ h1 _ => h1 e h
theorem zg_Cl_step {K : Nat → Prop} {e s : Nat} (h : zg_Cl g R K e) (h1 : 1 ≤ s) (h2 : s ≤ R) (h3 : zg_af g e = g (4 * s)) : zg_Cl g R K (4 * s) :=
  fun S a b => b e s (h S a b) h1 h2 h3
theorem zg_Cl_ind {K P : Nat → Prop} (h0 : ∀ e, K e → P e) (h1 : ∀ e s, zg_Cl g R K e → P e → 1 ≤ s → s ≤ R → zg_af g e = g (4 * s) → P (4 * s)) {e : Nat} (h : zg_Cl g R K e) : P e :=
  (h (fun e => zg_Cl g R K e ∧ P e) (fun e k => ⟨zg_Cl_base k, h0 e k⟩) (fun e s a b c d => ⟨zg_Cl_step a.1 b c d, h1 e s a.1 a.2 b c d⟩)).2
theorem zg_Cl_inv {K : Nat → Prop} {e : Nat} (h : zg_Cl g R K e) : K e ∨ ∃ f s, zg_Cl g R K f ∧ 1 ≤ s ∧ s ≤ R ∧ zg_af g f = g (4 * s) ∧ e = 4 * s :=
  zg_Cl_ind (P := fun e => K e ∨ ∃ f s, zg_Cl g R K f ∧ 1 ≤ s ∧ s ≤ R ∧ zg_af g f = g (4 * s) ∧ e = 4 * s) (fun _ k => Or.inl k) (fun f s a _ b c d => Or.inr ⟨f, s, a, b, c, d, rfl⟩) h
theorem zg_mv_m {S : Nat → Prop} {x e : Nat} (hx : x ≠ 0) (h : zg_mv g S x e) : e % 4 ≠ 0 := by
  obtain ⟨f, _, h2, h3⟩ := h
  have := (zg_af_pos (g := g) (e := f) (by rw [h2]; exact hx)).1
  omega
theorem zg_GT_k {S : Nat → Prop} {x e : Nat} (h : zg_GT g R S x e) (hm : e % 4 ≠ 0) : zg_mv g S x e :=
  zg_Cl_ind (P := fun e => e % 4 ≠ 0 → zg_mv g S x e) (fun _ k _ => k) (fun _ s _ _ _ _ _ hm => absurd (show 4 * s % 4 = 0 by omega) hm) h hm
theorem zg_GT_0 {S : Nat → Prop} {x : Nat} (hx : x ≠ 0) : ¬ zg_GT g R S x 0 := fun h =>
  zg_Cl_ind (P := fun e => e ≠ 0) (fun _ k => fun z => zg_mv_m hx k (by rw [z])) (fun _ s _ _ h1 _ _ => by omega) h rfl
theorem zg_ST_0 : zg_ST g R 0 := zg_Cl_base rfl
theorem zg_ST_GT {S : Nat → Prop} {x : Nat} (hx : x ≠ 0) : zg_GT g R S x ≠ zg_ST g R := fun h => zg_GT_0 (g := g) (R := R) (S := S) hx (by rw [h]; exact zg_ST_0)
theorem zg_ST_m {e : Nat} (h : zg_ST g R e) : e % 4 = 0 :=
  zg_Cl_ind (P := fun e => e % 4 = 0) (fun _ k => by rw [k]) (fun _ s _ _ _ _ _ => by omega) h
theorem zg_mv_ext {S S' : Nat → Prop} {x x' : Nat} (hx : x ≠ 0) (hx' : x' ≠ 0) (h : ∀ e, e % 4 ≠ 0 → (zg_GT g R S x e ↔ zg_mv g S' x' e)) : zg_GT g R S x = zg_GT g R S' x' := by
  have : zg_mv g S x = zg_mv g S' x' := by
    funext e
    apply propext
    by_cases m : e % 4 = 0
    · exact ⟨fun z => absurd m (zg_mv_m hx z), fun z => absurd m (zg_mv_m hx' z)⟩
    · exact ⟨fun z => (h e m).mp (zg_Cl_base z), fun z => zg_GT_k ((h e m).mpr z) m⟩
  unfold zg_GT
  rw [this]
theorem zg_RC_0 : zg_RC g R (zg_ST g R) := fun _ h0 _ => h0
theorem zg_RC_s {S : Nat → Prop} {x : Nat} (h : zg_RC g R S) (hd : zg_Df g S x) : zg_RC g R (zg_GT g R S x) := fun P h0 h1 => h1 S x (h P h0 h1) hd
theorem zg_RC_ind {P : (Nat → Prop) → Prop} (h0 : P (zg_ST g R)) (h1 : ∀ S x, zg_RC g R S → P S → zg_Df g S x → P (zg_GT g R S x)) {S : Nat → Prop} (h : zg_RC g R S) : P S :=
  (h (fun S => zg_RC g R S ∧ P S) ⟨zg_RC_0, h0⟩ (fun S x a b => ⟨zg_RC_s a.1 b, h1 S x a.1 a.2 b⟩)).2
theorem zg_RC_cl {S : Nat → Prop} (h : zg_RC g R S) {e s : Nat} : S e → 1 ≤ s → s ≤ R → zg_af g e = g (4 * s) → S (4 * s) :=
  zg_RC_ind (P := fun S => S e → 1 ≤ s → s ≤ R → zg_af g e = g (4 * s) → S (4 * s)) (fun a b c d => zg_Cl_step a b c d) (fun _ _ _ _ _ a b c d => zg_Cl_step a b c d) h
theorem zg_RC_it (ok : zg_ok g R) {S : Nat → Prop} (h : zg_RC g R S) : ∀ e, S e → e < 4 * R + 4 ∧ (e % 4 = 0 ∨ g e ≠ 0) := by
  refine zg_RC_ind (P := fun S => ∀ e, S e → e < 4 * R + 4 ∧ (e % 4 = 0 ∨ g e ≠ 0)) ?_ ?_ h
  · intro e he
    refine zg_Cl_ind (P := fun e => e < 4 * R + 4 ∧ (e % 4 = 0 ∨ g e ≠ 0)) ?_ ?_ he
    · intro e k; exact ⟨by omega, Or.inl (by omega)⟩
    · intro e s _ _ h1 h2 _; exact ⟨by omega, Or.inl (by omega)⟩
  · intro S x _ _ hd e he
    refine zg_Cl_ind (P := fun e => e < 4 * R + 4 ∧ (e % 4 = 0 ∨ g e ≠ 0)) ?_ ?_ he
    · rintro e ⟨f, _, h2, h3⟩
      have q : zg_af g f ≠ 0 := by rw [h2]; exact hd.1
      have := zg_af_lt ok q
      refine ⟨by omega, Or.inr ?_⟩
      rw [h3, ← (zg_af_pos q).2]; exact q
    · intro e s _ _ h1 h2 _; exact ⟨by omega, Or.inl (by omega)⟩
theorem zg_RC_top {S : Nat → Prop} (h : zg_RC g R S) {s : Nat} : S (4 * s) → 1 ≤ s → s ≤ R ∧ ∃ f, S f ∧ zg_af g f = g (4 * s) := by
  refine zg_RC_ind (P := fun S => S (4 * s) → 1 ≤ s → s ≤ R ∧ ∃ f, S f ∧ zg_af g f = g (4 * s)) ?_ ?_ h
  · intro a b
    rcases zg_Cl_inv a with k | ⟨f, s', h1, h2, h3, h4, h5⟩
    · omega
    · have : s = s' := by omega
      subst this
      exact ⟨h3, f, h1, h4⟩
  · intro S x _ _ hd a b
    rcases zg_Cl_inv a with k | ⟨f, s', h1, h2, h3, h4, h5⟩
    · exact absurd (show 4 * s % 4 = 0 by omega) (zg_mv_m hd.1 k)
    · have : s = s' := by omega
      subst this
      exact ⟨h3, f, h1, h4⟩
theorem zg_RC_df (ok : zg_ok g R) {S : Nat → Prop} (h : zg_RC g R S) {s : Nat} (a : S (4 * s)) (b : 1 ≤ s) : zg_Df g S (g (4 * s)) := by
  obtain ⟨h1, f, h2, h3⟩ := zg_RC_top h a b
  have := ok.2.2.2.2.2.1 s b h1
  exact ⟨by omega, f, h2, h3⟩
theorem zg_RC_z {S : Nat → Prop} (h : zg_RC g R S) : S 0 → S = zg_ST g R :=
  zg_RC_ind (P := fun S => S 0 → S = zg_ST g R) (fun _ => rfl) (fun _ _ _ _ hd a => absurd a (zg_GT_0 hd.1)) h
theorem zg_RC_c {S : Nat → Prop} (h : zg_RC g R S) : S = zg_ST g R ∨ ∃ S0 x, zg_RC g R S0 ∧ zg_Df g S0 x ∧ S = zg_GT g R S0 x :=
  zg_RC_ind (P := fun S => S = zg_ST g R ∨ ∃ S0 x, zg_RC g R S0 ∧ zg_Df g S0 x ∧ S = zg_GT g R S0 x) (Or.inl rfl) (fun S x a _ b => Or.inr ⟨S, x, a, b, rfl⟩) h
end ZG
/-! nullable, productive, first -/
def zg_NC (g : Nat → Nat) (R : Nat) (N : Nat → Prop) : Prop := N 0 ∧ ∀ r, 1 ≤ r → r ≤ R → N (g (4 * r + 1)) → N (g (4 * r + 2)) → N (g (4 * r + 3)) → N (g (4 * r))
def zg_NU (g : Nat → Nat) (R : Nat) (x : Nat) : Prop := ∀ N, zg_NC g R N → N x
def zg_PC (g : Nat → Nat) (R : Nat) (N : Nat → Prop) : Prop := (∀ x, x < 8 → N x) ∧ ∀ r, 1 ≤ r → r ≤ R → N (g (4 * r + 1)) → N (g (4 * r + 2)) → N (g (4 * r + 3)) → N (g (4 * r))
def zg_PR (g : Nat → Nat) (R : Nat) (x : Nat) : Prop := ∀ N, zg_PC g R N → N x
def zg_FC (g : Nat → Nat) (R : Nat) (F : Nat → Nat → Prop) : Prop :=
  (∀ x, 1 ≤ x → x < 8 → F x x) ∧ (∀ r t, 1 ≤ r → r ≤ R → F (g (4 * r + 1)) t → F (g (4 * r)) t) ∧
  (∀ r t, 1 ≤ r → r ≤ R → zg_NU g R (g (4 * r + 1)) → F (g (4 * r + 2)) t → F (g (4 * r)) t) ∧
  (∀ r t, 1 ≤ r → r ≤ R → zg_NU g R (g (4 * r + 1)) → zg_NU g R (g (4 * r + 2)) → F (g (4 * r + 3)) t → F (g (4 * r)) t)
def zg_FI (g : Nat → Nat) (R : Nat) (x t : Nat) : Prop := ∀ F, zg_FC g R F → F x t
def zg_NS (g : Nat → Nat) (R : Nat) (e : Nat) : Prop := ∀ i, e < i → i / 4 = e / 4 → zg_NU g R (g i)
def zg_FS (g : Nat → Nat) (R : Nat) (e t : Nat) : Prop := ∃ i, e < i ∧ i / 4 = e / 4 ∧ zg_FI g R (g i) t ∧ ∀ j, e < j → j < i → zg_NU g R (g j)
section ZG
variable {g : Nat → Nat} {R : Nat}
theorem zg_NU_c : zg_NC g R (zg_NU g R) := ⟨fun _ h => h.1, fun r h1 h2 a b c N h => h.2 r h1 h2 (a N h) (b N h) (c N h)⟩
theorem zg_PR_c : zg_PC g R (zg_PR g R) := ⟨fun x hx _ h => h.1 x hx, fun r h1 h2 a b c N h => h.2 r h1 h2 (a N h) (b N h) (c N h)⟩
theorem zg_FI_c : zg_FC g R (zg_FI g R) :=
  ⟨fun x h1 h2 _ h => h.1 x h1 h2, fun r t h1 h2 a F h => h.2.1 r t h1 h2 (a F h), fun r t h1 h2 n a F h => h.2.2.1 r t h1 h2 n (a F h), fun r t h1 h2 n m a F h => h.2.2.2 r t h1 h2 n m (a F h)⟩
theorem zg_NU_8 (ok : zg_ok g R) {x : Nat} (h : zg_NU g R x) : x = 0 ∨ 8 ≤ x :=
  h (fun x => x = 0 ∨ 8 ≤ x) ⟨Or.inl rfl, fun r h1 h2 _ _ _ => Or.inr (ok.2.2.2.2.2.1 r h1 h2)⟩
theorem zg_FI_t (ok : zg_ok g R) {x t : Nat} (h : zg_FI g R x t) : x ≠ 0 ∧ 1 ≤ t ∧ t < 8 :=
  h (fun x t => x ≠ 0 ∧ 1 ≤ t ∧ t < 8) ⟨fun x h1 h2 => ⟨by omega, h1, h2⟩, fun r t h1 h2 a => ⟨by have := ok.2.2.2.2.2.1 r h1 h2; omega, a.2⟩, fun r t h1 h2 _ a => ⟨by have := ok.2.2.2.2.2.1 r h1 h2; omega, a.2⟩, fun r t h1 h2 _ _ a => ⟨by have := ok.2.2.2.2.2.1 r h1 h2; omega, a.2⟩⟩
theorem zg_NS_3 {e : Nat} (h : e % 4 = 3) : zg_NS g R e := fun i h1 h2 => by omega
theorem zg_NS_s {e : Nat} (h : e % 4 < 3) (h1 : zg_NU g R (g (e + 1))) (h2 : zg_NS g R (e + 1)) : zg_NS g R e := fun i a b => by
  by_cases z : i = e + 1
  · rw [z]; exact h1
  · exact h2 i (by omega) (by omega)
theorem zg_NS_i {e : Nat} (h : zg_NS g R e) (hm : e % 4 < 3) : zg_NU g R (g (e + 1)) ∧ zg_NS g R (e + 1) :=
  ⟨h (e + 1) (by omega) (by omega), fun i a b => h i (by omega) (by omega)⟩
theorem zg_FS_h {e t : Nat} (h : e % 4 < 3) (h1 : zg_FI g R (g (e + 1)) t) : zg_FS g R e t := ⟨e + 1, by omega, by omega, h1, fun j a b => by omega⟩
theorem zg_FS_n {e t : Nat} (h : e % 4 < 3) (h1 : zg_NU g R (g (e + 1))) (h2 : zg_FS g R (e + 1) t) : zg_FS g R e t := by
  obtain ⟨i, a, b, c, d⟩ := h2
  refine ⟨i, by omega, by omega, c, fun j a b => ?_⟩
  by_cases z : j = e + 1
  · rw [z]; exact h1
  · exact d j (by omega) b
theorem zg_FS_i {e t : Nat} (h : zg_FS g R e t) : e % 4 < 3 ∧ (zg_FI g R (g (e + 1)) t ∨ (zg_NU g R (g (e + 1)) ∧ zg_FS g R (e + 1) t)) := by
  obtain ⟨i, a, b, c, d⟩ := h
  refine ⟨by omega, ?_⟩
  by_cases z : i = e + 1
  · subst z; exact Or.inl c
  · exact Or.inr ⟨d _ (by omega) (by omega), i, by omega, by omega, c, fun j a b => d j (by omega) b⟩
theorem zg_FS_nz (ok : zg_ok g R) {e t : Nat} (h : zg_FS g R e t) : g (e + 1) ≠ 0 := by
  obtain ⟨i, a, b, c, _⟩ := h
  have hi := (zg_FI_t ok c).1
  have p1 := ok.2.2.2.2.2.2.2.1 (e / 4)
  have p2 := ok.2.2.2.2.2.2.2.2.1 (e / 4)
  have q : i = 4 * (e / 4) + 1 ∨ i = 4 * (e / 4) + 2 ∨ i = 4 * (e / 4) + 3 := by omega
  have q2 : e + 1 = 4 * (e / 4) + 1 ∨ e + 1 = 4 * (e / 4) + 2 ∨ e + 1 = 4 * (e / 4) + 3 := by omega
  intro z
  rcases q with q | q | q <;> rcases q2 with y | y | y <;> rw [q] at hi <;> rw [y] at z <;> first | exact hi z | exact hi (p1 z) | exact hi (p2 z) | exact hi (p2 (p1 z)) | omega
theorem zg_FI_FS {r t : Nat} (h1 : 1 ≤ r) (h2 : r ≤ R) (h : zg_FS g R (4 * r) t) : zg_FI g R (g (4 * r)) t := by
  have c := zg_FI_c (g := g) (R := R)
  rcases (zg_FS_i h).2 with a | ⟨n1, h'⟩
  · exact c.2.1 r t h1 h2 a
  · rcases (zg_FS_i h').2 with a | ⟨n2, h''⟩
    · exact c.2.2.1 r t h1 h2 n1 a
    · rcases (zg_FS_i h'').2 with a | ⟨_, h3⟩
      · exact c.2.2.2 r t h1 h2 n1 n2 a
      · have := (zg_FS_i h3).1
        omega
theorem zg_NU_NS {r : Nat} (h1 : 1 ≤ r) (h2 : r ≤ R) (h : zg_NS g R (4 * r)) : zg_NU g R (g (4 * r)) :=
  (zg_NU_c (g := g) (R := R)).2 r h1 h2 (h _ (by omega) (by omega)) (h _ (by omega) (by omega)) (h _ (by omega) (by omega))
theorem zg_live (ok : zg_ok g R) {x : Nat} (h : zg_PR g R x) : zg_NU g R x ∨ ∃ t, zg_FI g R x t := by
  have c := zg_FI_c (g := g) (R := R)
  have cn := zg_NU_c (g := g) (R := R)
  refine h (fun x => zg_NU g R x ∨ ∃ t, zg_FI g R x t) ⟨?_, ?_⟩
  · intro x hx
    by_cases z : x = 0
    · subst z; exact Or.inl cn.1
    · exact Or.inr ⟨x, c.1 x (by omega) hx⟩
  · intro r h1 h2 a1 a2 a3
    rcases a1 with a1 | ⟨t, a1⟩
    · rcases a2 with a2 | ⟨t, a2⟩
      · rcases a3 with a3 | ⟨t, a3⟩
        · exact Or.inl (cn.2 r h1 h2 a1 a2 a3)
        · exact Or.inr ⟨t, c.2.2.2 r t h1 h2 a1 a2 a3⟩
      · exact Or.inr ⟨t, c.2.2.1 r t h1 h2 a1 a2⟩
    · exact Or.inr ⟨t, c.2.1 r t h1 h2 a1⟩
theorem zg_liveS (ok : zg_ok g R) (h : ∀ i, zg_PR g R (g i)) : ∀ k e, e % 4 + k = 3 → zg_NS g R e ∨ ∃ t, zg_FS g R e t := by
  intro k
  induction k with
  | zero => intro e he; exact Or.inl (zg_NS_3 (by omega))
  | succ k ih =>
    intro e he
    rcases zg_live ok (h (e + 1)) with a | ⟨t, a⟩
    · rcases ih (e + 1) (by omega) with b | ⟨t, b⟩
      · exact Or.inl (zg_NS_s (by omega) a b)
      · exact Or.inr ⟨t, zg_FS_n (by omega) a b⟩
    · exact Or.inr ⟨t, zg_FS_h (by omega) a⟩
end ZG
end
section
/-! lookaheads: the least propagation LA over item sets; what the relations reads, includes and lookback give -/
def zl_LC (g : Nat → Nat) (R : Nat) (F : (Nat → Prop) → Nat → Nat → Prop) : Prop :=
  F (zg_ST g R) 0 0 ∧
  (∀ S e t, zg_RC g R S → S e → zg_af g e ≠ 0 → F S e t → F (zg_GT g R S (zg_af g e)) (e + 1) t) ∧
  (∀ S e t s, zg_RC g R S → S e → 1 ≤ s → s ≤ R → zg_af g e = g (4 * s) → (zg_FS g R (e + 1) t ∨ (zg_NS g R (e + 1) ∧ F S e t)) → F S (4 * s) t)
def zl_LA (g : Nat → Nat) (R : Nat) (S : Nat → Prop) (e t : Nat) : Prop := ∀ F, zl_LC g R F → F S e t
def zl_RD (g : Nat → Nat) (R : Nat) (S : Nat → Prop) (A t : Nat) : Prop := ∃ e, S e ∧ zg_af g e = A ∧ zg_FS g R (e + 1) t
def zl_Ps (g : Nat → Nat) (R : Nat) (S : Nat → Prop) (A t : Nat) : Prop := ∃ e, S e ∧ zg_af g e = A ∧ (zg_FS g R (e + 1) t ∨ (zg_NS g R (e + 1) ∧ zl_LA g R S e t))
def zl_RP (g : Nat → Nat) (R : Nat) (S : Nat → Prop) (t : Nat) : Prop :=
  ∀ P : (Nat → Prop) → Prop, (∀ S, zg_Df g S t → P S) → (∀ S C, 8 ≤ C → zg_NU g R C → zg_Df g S C → P (zg_GT g R S C) → P S) → P S
def zl_Wk (g : Nat → Nat) (R : Nat) (S : Nat → Prop) (r : Nat) : Nat → Nat → Prop
  | 0 => S
  | d + 1 => zg_GT g R (zl_Wk g R S r d) (g (4 * r + 1 + d))
section ZL
variable {g : Nat → Nat} {R : Nat}
theorem zl_LA_c : zl_LC g R (zl_LA g R) := by
  refine ⟨fun F h => h.1, fun S e t h1 h2 h3 h4 F h => h.2.1 S e t h1 h2 h3 (h4 F h), fun S e t s h1 h2 h3 h4 h5 h6 F h => h.2.2 S e t s h1 h2 h3 h4 h5 ?_⟩
  rcases h6 with z | ⟨z, y⟩
  · exact Or.inl z
  · exact Or.inr ⟨z, y F h⟩
theorem zl_LA_S {S : Nat → Prop} {e t : Nat} (h : zl_LA g R S e t) : zg_RC g R S ∧ S e := by
  refine h (fun S e _ => zg_RC g R S ∧ S e) ⟨⟨zg_RC_0, zg_ST_0⟩, ?_, ?_⟩
  · intro S e t h1 h2 h3 _
    exact ⟨zg_RC_s h1 ⟨h3, e, h2, rfl⟩, zg_Cl_base ⟨e, h2, rfl, rfl⟩⟩
  · intro S e t s h1 h2 h3 h4 h5 _
    exact ⟨h1, zg_RC_cl h1 h2 h3 h4 h5⟩
theorem zl_FS_t (ok : zg_ok g R) {e t : Nat} (h : zg_FS g R e t) : 1 ≤ t ∧ t < 8 := by
  obtain ⟨i, _, _, c, _⟩ := h
  exact (zg_FI_t ok c).2
theorem zl_LA_t (ok : zg_ok g R) {S : Nat → Prop} {e t : Nat} (h : zl_LA g R S e t) : t < 8 := by
  refine h (fun _ _ t => t < 8) ⟨by omega, fun _ _ _ _ _ _ a => a, ?_⟩
  intro S e t s _ _ _ _ _ a
  rcases a with a | a
  · exact (zl_FS_t ok a).2
  · exact a.2
theorem zl_K (ok : zg_ok g R) {S : Nat → Prop} {x e t : Nat} (h : zg_GT g R S x e) (hf : zg_FS g R e t) : zl_RD g R S x t := by
  refine zg_Cl_ind (P := fun e => zg_FS g R e t → zl_RD g R S x t) ?_ ?_ h hf
  · rintro e ⟨f, h1, h2, h3⟩ hf
    subst h3
    exact ⟨f, h1, h2, hf⟩
  · intro e s _ ih h1 h2 h3 hf
    have q := ok.2.2.2.2.2.1 s h1 h2
    have z := zg_af_pos (g := g) (e := e) (by omega)
    refine ih (zg_FS_h z.1 ?_)
    rw [← z.2, h3]
    exact zg_FI_FS h1 h2 hf
theorem zl_RPb {S : Nat → Prop} {t : Nat} (h : zg_Df g S t) : zl_RP g R S t := fun _ h0 _ => h0 S h
theorem zl_RPs {S : Nat → Prop} {t C : Nat} (h1 : 8 ≤ C) (h2 : zg_NU g R C) (h3 : zg_Df g S C) (h : zl_RP g R (zg_GT g R S C) t) : zl_RP g R S t := fun P h0 hs => hs S C h1 h2 h3 (h P h0 hs)
theorem zl_RPe (ok : zg_ok g R) {S : Nat → Prop} {t e : Nat} (h : S e) (hm : e % 4 < 3) (hn : zg_NU g R (g (e + 1))) (hz : g (e + 1) ≠ 0) (hp : zg_GT g R S (g (e + 1)) (e + 1) → zl_RP g R (zg_GT g R S (g (e + 1))) t) : zl_RP g R S t := by
  have h8 : 8 ≤ g (e + 1) := by rcases zg_NU_8 ok hn with z | z; exact absurd z hz; exact z
  exact zl_RPs h8 hn ⟨hz, e, h, zg_af_m hm⟩ (hp (zg_Cl_base ⟨e, h, zg_af_m hm, rfl⟩))
theorem zl_RPd {S : Nat → Prop} (h1 : zg_RC g R S) {e : Nat} (h : S e) (hm : e % 4 < 3) (hz : g (e + 1) ≠ 0) : zg_RC g R (zg_GT g R S (g (e + 1))) := zg_RC_s h1 ⟨hz, e, h, zg_af_m hm⟩
theorem zl_FI_RP (ok : zg_ok g R) {x t : Nat} (h : zg_FI g R x t) : ∀ S e, zg_RC g R S → S e → zg_af g e = x → zl_RP g R S t := by
  have c := zg_FI_c (g := g) (R := R)
  have key := h (fun x t => zg_FI g R x t ∧ ∀ S e, zg_RC g R S → S e → zg_af g e = x → zl_RP g R S t) ⟨?_, ?_, ?_, ?_⟩
  · exact key.2
  · intro x h1 h2
    exact ⟨c.1 x h1 h2, fun S e _ he ha => zl_RPb ⟨by omega, e, he, ha⟩⟩
  · rintro r t h1 h2 ⟨hf, ih⟩
    refine ⟨c.2.1 r t h1 h2 hf, fun S e hr he ha => ?_⟩
    exact ih S (4 * r) hr (zg_RC_cl hr he h1 h2 ha) (zg_af_m (by omega))
  · rintro r t h1 h2 hn ⟨hf, ih⟩
    refine ⟨c.2.2.1 r t h1 h2 hn hf, fun S e hr he ha => ?_⟩
    have q := zg_RC_cl hr he h1 h2 ha
    have z1 : g (4 * r + 1) ≠ 0 := fun z => (zg_FI_t ok hf).1 (ok.2.2.2.2.2.2.2.1 r z)
    exact zl_RPe ok q (by omega) hn z1 (fun q1 => ih _ (4 * r + 1) (zl_RPd hr q (by omega) z1) q1 (zg_af_m (by omega)))
  · rintro r t h1 h2 hn hn2 ⟨hf, ih⟩
    refine ⟨c.2.2.2 r t h1 h2 hn hn2 hf, fun S e hr he ha => ?_⟩
    have q := zg_RC_cl hr he h1 h2 ha
    have z2 : g (4 * r + 2) ≠ 0 := fun z => (zg_FI_t ok hf).1 (ok.2.2.2.2.2.2.2.2.1 r z)
    have z1 : g (4 * r + 1) ≠ 0 := fun z => z2 (ok.2.2.2.2.2.2.2.1 r z)
    refine zl_RPe ok q (by omega) hn z1 (fun q1 => ?_)
    have r1 := zl_RPd hr q (by omega) z1
    refine zl_RPe ok q1 (by omega) hn2 z2 (fun q2 => ?_)
    exact ih _ (4 * r + 2) (zl_RPd r1 q1 (by omega) z2) q2 (zg_af_m (by omega))
theorem zl_FS_RP (ok : zg_ok g R) {t : Nat} : ∀ k e S, e % 4 + k = 3 → zg_RC g R S → S e → zg_FS g R e t → zl_RP g R S t := by
  intro k
  induction k with
  | zero => intro e S he _ _ hf; have := (zg_FS_i hf).1; omega
  | succ k ih =>
    intro e S he hr hs hf
    have z := zg_FS_nz ok hf
    obtain ⟨hm, a | ⟨hn, a⟩⟩ := zg_FS_i hf
    · exact zl_FI_RP ok a S e hr hs (zg_af_m hm)
    · exact zl_RPe ok hs hm hn z (fun q => ih (e + 1) _ (by omega) (zl_RPd hr hs hm z) q a)
theorem zl_RD_RP (ok : zg_ok g R) {S : Nat → Prop} {A t : Nat} (hr : zg_RC g R S) (hA : A ≠ 0) (h : zl_RD g R S A t) : zl_RP g R (zg_GT g R S A) t := by
  obtain ⟨e, h1, h2, h3⟩ := h
  have hm := (zg_FS_i h3).1
  exact zl_FS_RP ok (3 - (e + 1) % 4) (e + 1) _ (by omega) (zg_RC_s hr ⟨hA, e, h1, h2⟩) (zg_Cl_base ⟨e, h1, h2, rfl⟩) h3
theorem zl_RP_RD (ok : zg_ok g R) {S : Nat → Prop} {A t : Nat} (ht : 1 ≤ t ∧ t < 8) (h : zl_RP g R (zg_GT g R S A) t) : zl_RD g R S A t := by
  have key := h (fun S => ∃ e, S e ∧ zg_FS g R e t) ?_ ?_
  · obtain ⟨e, h1, h2⟩ := key
    exact zl_K ok h1 h2
  · rintro S ⟨_, e, h1, h2⟩
    have z := zg_af_pos (g := g) (e := e) (by omega)
    refine ⟨e, h1, zg_FS_h z.1 ?_⟩
    rw [← z.2, h2]
    exact (zg_FI_c (g := g) (R := R)).1 t ht.1 ht.2
  · rintro S C h1 h2 _ ⟨e, h4, h5⟩
    obtain ⟨f, a, b, c⟩ := zl_K ok h4 h5
    have z := zg_af_pos (g := g) (e := f) (by omega)
    exact ⟨f, a, zg_FS_n z.1 (by rw [← z.2, b]; exact h2) c⟩
/-! how a lookahead came -/
theorem zl_inv (ok : zg_ok g R) {S : Nat → Prop} {e t : Nat} (h : zl_LA g R S e t) :
    (e = 0 → S = zg_ST g R ∧ t = 0) ∧ (e = 1 → S = zg_GT g R (zg_ST g R) 8 ∧ t = 0) ∧ (∀ r, 1 ≤ r → e = 4 * r → zl_Ps g R S (g (4 * r)) t) ∧
    (∀ r d, 1 ≤ r → e = 4 * r + d → d < 4 → ∃ S0, zg_RC g R S0 ∧ S0 (4 * r) ∧ S = zl_Wk g R S0 r d ∧ zl_LA g R S0 (4 * r) t) := by
  have c := zl_LA_c (g := g) (R := R)
  have key := h (fun S e t => zl_LA g R S e t ∧ (e = 0 → S = zg_ST g R ∧ t = 0) ∧ (e = 1 → S = zg_GT g R (zg_ST g R) 8 ∧ t = 0) ∧ (∀ r, 1 ≤ r → e = 4 * r → zl_Ps g R S (g (4 * r)) t) ∧
    (∀ r d, 1 ≤ r → e = 4 * r + d → d < 4 → ∃ S0, zg_RC g R S0 ∧ S0 (4 * r) ∧ S = zl_Wk g R S0 r d ∧ zl_LA g R S0 (4 * r) t)) ⟨?_, ?_, ?_⟩
  · exact key.2
  · exact ⟨c.1, fun _ => ⟨rfl, rfl⟩, fun z => by omega, fun r _ z => by omega, fun r d _ z => by omega⟩
  · rintro S e t h1 h2 h3 ⟨f1, f2, f3, f4, f5⟩
    have m := zg_af_pos h3
    refine ⟨c.2.1 S e t h1 h2 h3 f1, fun z => by omega, fun z => ?_, fun r _ z => by omega, fun r d hr z hd => ?_⟩
    · have e0 : e = 0 := by omega
      subst e0
      obtain ⟨p, q⟩ := f2 rfl
      rw [p, m.2, show g (0 + 1) = 8 from ok.2.2.1]
      exact ⟨rfl, q⟩
    · obtain ⟨d', rfl⟩ : ∃ d', d = d' + 1 := ⟨d - 1, by omega⟩
      obtain ⟨S0, a1, a2, a3, a4⟩ := f5 r d' hr (by omega) (by omega)
      refine ⟨S0, a1, a2, ?_, a4⟩
      have e0 : e = 4 * r + d' := by omega
      subst e0
      rw [m.2, a3, show 4 * r + d' + 1 = 4 * r + 1 + d' by omega]
      rfl
  · intro S e t s h1 h2 h3 h4 h5 h6
    have h7 : zg_FS g R (e + 1) t ∨ (zg_NS g R (e + 1) ∧ zl_LA g R S e t) := h6.elim Or.inl (fun z => Or.inr ⟨z.1, z.2.1⟩)
    have l := c.2.2 S e t s h1 h2 h3 h4 h5 h7
    refine ⟨l, fun z => by omega, fun z => by omega, fun r _ z => ?_, fun r d hr z hd => ?_⟩
    · have : r = s := by omega
      subst this
      exact ⟨e, h2, h5, h7⟩
    · have : r = s := by omega
      subst this
      have : d = 0 := by omega
      subst this
      exact ⟨S, h1, zg_RC_cl h1 h2 h3 h4 h5, rfl, l⟩
theorem zl_Ps_LA {S : Nat → Prop} {s t : Nat} (hr : zg_RC g R S) (h1 : 1 ≤ s) (h2 : s ≤ R) (h : zl_Ps g R S (g (4 * s)) t) : zl_LA g R S (4 * s) t := by
  obtain ⟨e, a, b, c⟩ := h
  exact (zl_LA_c (g := g) (R := R)).2.2 S e t s hr a h1 h2 b c
end ZL
/-! a numbering of the reachable sets -/
def zl_AU (g : Nat → Nat) (R n : Nat) (σ : Nat → Nat → Prop) (G : Nat → Nat → Nat) : Prop :=
  1 ≤ n ∧ n ≤ 24 ∧ σ 0 = zg_ST g R ∧ (∀ s x, s < n → zg_Df g (σ s) x → G s x < n ∧ σ (G s x) = zg_GT g R (σ s) x) ∧
  (∀ s s', s < n → s' < n → σ s = σ s' → s = s') ∧ (∀ s, s < n → zg_RC g R (σ s))
def zl_wk (g : Nat → Nat) (G : Nat → Nat → Nat) (s r : Nat) : Nat → Nat
  | 0 => s
  | d + 1 => G (zl_wk g G s r d) (g (4 * r + 1 + d))
/-- closure of a relation, by its end -/
def zd_Re (E : Nat → Nat → Prop) (v z : Nat) : Prop := ∀ P : Nat → Prop, P z → (∀ a b, E a b → P b → P a) → P v
theorem zd_Re_0 {E : Nat → Nat → Prop} {v : Nat} : zd_Re E v v := fun _ h _ => h
theorem zd_Re_s {E : Nat → Nat → Prop} {v w z : Nat} (h : E v w) (h2 : zd_Re E w z) : zd_Re E v z := fun P a b => b v w h (h2 P a b)
theorem zd_Re_t {E : Nat → Nat → Prop} {v w z : Nat} (h : zd_Re E v w) (h2 : zd_Re E w z) : zd_Re E v z := h (fun v => zd_Re E v z) h2 (fun _ _ e p => zd_Re_s e p)
def zl_E1 (g : Nat → Nat) (R n : Nat) (σ : Nat → Nat → Prop) (G : Nat → Nat → Nat) (v z : Nat) : Prop :=
  ∃ s k k', v = s * 8 + k ∧ s < n ∧ k < 8 ∧ k' < 8 ∧ zg_Df g (σ s) (8 + k) ∧ z = G s (8 + k) * 8 + k' ∧ zg_NU g R (8 + k') ∧ zg_Df g (σ (G s (8 + k))) (8 + k')
def zl_F0 (g : Nat → Nat) (n : Nat) (σ : Nat → Nat → Prop) (G : Nat → Nat → Nat) (v t : Nat) : Prop :=
  (∃ s k, v = s * 8 + k ∧ s < n ∧ k < 8 ∧ zg_Df g (σ s) (8 + k) ∧ 1 ≤ t ∧ t < 8 ∧ zg_Df g (σ (G s (8 + k))) t) ∨ (v = 0 ∧ t = 0)
def zl_F1 (g : Nat → Nat) (R n : Nat) (σ : Nat → Nat → Prop) (v t : Nat) : Prop :=
  (∃ s k, v = s * 8 + k ∧ s < n ∧ k < 8 ∧ zg_Df g (σ s) (8 + k) ∧ zl_RD g R (σ s) (8 + k) t) ∨ (v = 0 ∧ t = 0)
def zl_E2 (g : Nat → Nat) (R n : Nat) (σ : Nat → Nat → Prop) (G : Nat → Nat → Nat) (v z : Nat) : Prop :=
  ∃ s r d, s < n ∧ 1 ≤ r ∧ r ≤ R ∧ zg_Df g (σ s) (g (4 * r)) ∧ d < zg_ln g r ∧ 8 ≤ g (4 * r + 1 + d) ∧ zg_NS g R (4 * r + d + 1) ∧
    z = s * 8 + (g (4 * r) - 8) ∧ v = zl_wk g G s r d * 8 + (g (4 * r + 1 + d) - 8)
section ZA
variable {g : Nat → Nat} {R n : Nat} {σ : Nat → Nat → Prop} {G : Nat → Nat → Nat}
theorem zl_sur (A : zl_AU g R n σ G) {S : Nat → Prop} (h : zg_RC g R S) : ∃ s, s < n ∧ σ s = S := by
  refine zg_RC_ind (P := fun S => ∃ s, s < n ∧ σ s = S) ⟨0, A.1, A.2.2.1⟩ ?_ h
  rintro S x _ ⟨s, h1, rfl⟩ hd
  exact ⟨G s x, A.2.2.2.1 s x h1 hd⟩
theorem zl_r4 (A : zl_AU g R n σ G) {s r : Nat} (hs : s < n) (h1 : 1 ≤ r) (h2 : r ≤ R) (hd : zg_Df g (σ s) (g (4 * r))) : σ s (4 * r) := by
  obtain ⟨_, e, h3, h4⟩ := hd
  exact zg_RC_cl (A.2.2.2.2.2 s hs) h3 h1 h2 h4
theorem zl_wk_i (ok : zg_ok g R) (A : zl_AU g R n σ G) {s r : Nat} (hs : s < n) (h4 : σ s (4 * r)) : ∀ d, d ≤ zg_ln g r → zl_wk g G s r d < n ∧ σ (zl_wk g G s r d) (4 * r + d) ∧ σ (zl_wk g G s r d) = zl_Wk g R (σ s) r d := by
  intro d
  induction d with
  | zero => intro _; exact ⟨hs, h4, rfl⟩
  | succ d ih =>
    intro hd
    obtain ⟨a, b, c⟩ := ih (by omega)
    obtain ⟨p, q, u⟩ := zg_ln_nz ok (show d < zg_ln g r by omega)
    have df : zg_Df g (σ (zl_wk g G s r d)) (g (4 * r + 1 + d)) := ⟨p, _, b, u⟩
    obtain ⟨x, y⟩ := A.2.2.2.1 _ _ a df
    refine ⟨x, ?_, ?_⟩
    · show σ (G (zl_wk g G s r d) (g (4 * r + 1 + d))) (4 * r + (d + 1))
      rw [y]
      exact zg_Cl_base ⟨_, b, u, rfl⟩
    · show σ (G (zl_wk g G s r d) (g (4 * r + 1 + d))) = _
      rw [y, c]
      rfl
theorem zl_wk_df (ok : zg_ok g R) (A : zl_AU g R n σ G) {s r : Nat} (hs : s < n) (h4 : σ s (4 * r)) {d : Nat} (hd : d < zg_ln g r) : zg_Df g (σ (zl_wk g G s r d)) (g (4 * r + 1 + d)) := by
  obtain ⟨_, b, _⟩ := zl_wk_i ok A hs h4 d (by omega)
  obtain ⟨p, _, u⟩ := zg_ln_nz ok hd
  exact ⟨p, _, b, u⟩
theorem zl_wk_LA (ok : zg_ok g R) (A : zl_AU g R n σ G) {s r t : Nat} (hs : s < n) (h4 : σ s (4 * r)) (hl : zl_LA g R (σ s) (4 * r) t) : ∀ d, d ≤ zg_ln g r → zl_LA g R (σ (zl_wk g G s r d)) (4 * r + d) t := by
  intro d
  induction d with
  | zero => intro _; exact hl
  | succ d ih =>
    intro hd
    obtain ⟨a, b, _⟩ := zl_wk_i ok A hs h4 d (by omega)
    obtain ⟨p, _, u⟩ := zg_ln_nz ok (show d < zg_ln g r by omega)
    have := (zl_LA_c (g := g) (R := R)).2.1 _ _ t (A.2.2.2.2.2 _ a) b (by rw [u]; exact p) (ih (by omega))
    rw [u, ← (A.2.2.2.1 _ _ a ⟨p, _, b, u⟩).2] at this
    exact this
/-- what the relation reads gives -/
theorem zl_reads (ok : zg_ok g R) (A : zl_AU g R n σ G) {v t : Nat} : (∃ z, zd_Re (zl_E1 g R n σ G) v z ∧ zl_F0 g n σ G z t) ↔ zl_F1 g R n σ v t := by
  constructor
  · rintro ⟨z, h1, h2⟩
    refine h1 (fun v => zl_F1 g R n σ v t) ?_ ?_
    · rcases h2 with ⟨s, k, e, hs, hk, hd, t1, t8, ht⟩ | h2
      · refine Or.inl ⟨s, k, e, hs, hk, hd, zl_RP_RD ok ⟨t1, t8⟩ ?_⟩
        rw [← (A.2.2.2.1 s _ hs hd).2]
        exact zl_RPb ht
      · exact Or.inr h2
    · rintro a b ⟨s, k, k', e, hs, hk, hk', hd, e', hn, hd'⟩ ih
      have st := A.2.2.2.1 s _ hs hd
      rcases ih with ⟨s2, k2, e2, hs2, hk2, hd2, x, y1, y2, y3⟩ | ⟨e2, _⟩
      · have : s2 = G s (8 + k) := by omega
        subst this
        have : k2 = k' := by omega
        subst this
        refine Or.inl ⟨s, k, e, hs, hk, hd, ?_⟩
        rw [st.2] at y1
        have z := zg_af_pos (g := g) (e := x) (by omega)
        exact zl_K ok y1 (zg_FS_n z.1 (by rw [← z.2, y2]; exact hn) y3)
      · exfalso
        have : G s (8 + k) = 0 := by omega
        have q := st.2
        rw [this, A.2.2.1] at q
        exact zg_ST_GT (by omega) q.symm
  · rintro (⟨s, k, e, hs, hk, hd, hr⟩ | h)
    · have key := zl_RD_RP ok (A.2.2.2.2.2 s hs) (by omega) hr (fun S => ∀ s k, s < n → k < 8 → zg_Df g (σ s) (8 + k) → σ (G s (8 + k)) = S → ∃ z, zd_Re (zl_E1 g R n σ G) (s * 8 + k) z ∧ zl_F0 g n σ G z t) ?_ ?_
      · rw [e]
        exact key s k hs hk hd (A.2.2.2.1 s _ hs hd).2
      · intro S hS s k hs hk hd eS
        obtain ⟨x, y1, y2, y3⟩ := hr
        have := zl_FS_t ok y3
        exact ⟨_, zd_Re_0, Or.inl ⟨s, k, rfl, hs, hk, hd, this.1, this.2, by rw [eS]; exact hS⟩⟩
      · intro S C hC hn hD ih s k hs hk hd eS
        have st := A.2.2.2.1 s _ hs hd
        have hC16 : C < 16 := by
          obtain ⟨_, x, _, y⟩ := hD
          rw [← y]; exact zg_af_16 ok x
        have eC : C = 8 + (C - 8) := by omega
        have hD' : zg_Df g (σ (G s (8 + k))) (8 + (C - 8)) := by rw [← eC, eS]; exact hD
        have st' := A.2.2.2.1 _ _ st.1 hD'
        obtain ⟨z, z1, z2⟩ := ih (G s (8 + k)) (C - 8) st.1 (by omega) hD' (by rw [st'.2, eS, ← eC])
        exact ⟨z, zd_Re_s ⟨s, k, C - 8, rfl, hs, hk, by omega, hd, rfl, by rw [← eC]; exact hn, hD'⟩ z1, z2⟩
    · exact ⟨v, zd_Re_0, Or.inr h⟩
def zl_R2 (g : Nat → Nat) (R n : Nat) (σ : Nat → Nat → Prop) (G : Nat → Nat → Nat) (v t : Nat) : Prop := ∃ z, zd_Re (zl_E2 g R n σ G) v z ∧ zl_F1 g R n σ z t
def zl_FX (g : Nat → Nat) (R n : Nat) (σ : Nat → Nat → Prop) (G : Nat → Nat → Nat) (S : Nat → Prop) (e t : Nat) : Prop :=
  (e = 0 → S = zg_ST g R ∧ t = 0) ∧
  (∀ r d, 1 ≤ r → e = 4 * r + d → d < 4 → ∃ p, p < n ∧ σ p (4 * r) ∧ d ≤ zg_ln g r ∧ S = σ (zl_wk g G p r d) ∧ zl_R2 g R n σ G (p * 8 + (g (4 * r) - 8)) t)
theorem zl_in0 (ok : zg_ok g R) {e : Nat} (h : e < 4) (ha : zg_af g e ≠ 0) : e = 0 := by
  obtain ⟨a, b⟩ := zg_af_pos ha
  rcases (show e = 0 ∨ e = 1 ∨ e = 2 by omega) with z | z | z
  · exact z
  · subst z; exact absurd (b.trans ok.2.2.2.1) ha
  · subst z; exact absurd (b.trans ok.2.2.2.2.1) ha
theorem zl_inA (ok : zg_ok g R) (A : zl_AU g R n σ G) {s e k t : Nat} (hs : s < n) (hk : k < 8) (he : σ s e) (ha : zg_af g e = 8 + k)
    (h : zg_FS g R (e + 1) t ∨ (zg_NS g R (e + 1) ∧ zl_FX g R n σ G (σ s) e t)) : zl_R2 g R n σ G (s * 8 + k) t := by
  have df : zg_Df g (σ s) (8 + k) := ⟨by omega, e, he, ha⟩
  rcases h with h | ⟨h1, h2, h3⟩
  · exact ⟨_, zd_Re_0, Or.inl ⟨s, k, rfl, hs, hk, df, e, he, ha, h⟩⟩
  · rcases Nat.lt_or_ge e 4 with z | z
    · have e0 := zl_in0 ok z (by omega)
      subst e0
      obtain ⟨a, b⟩ := h2 rfl
      have s0 : s = 0 := A.2.2.2.2.1 s 0 hs A.1 (a.trans A.2.2.1.symm)
      have k0 : k = 0 := by
        have := (zg_af_pos (g := g) (e := 0) (by omega)).2
        have h1 : g (0 + 1) = 8 := ok.2.2.1
        omega
      subst s0; subst k0
      exact ⟨0, zd_Re_0, Or.inr ⟨rfl, b⟩⟩
    · obtain ⟨p, p1, p2, p3, p4, z1, z2, z3⟩ := h3 (e / 4) (e % 4) (by omega) (by omega) (by omega)
      have hr : e / 4 ≤ R := by have := zg_af_lt ok (e := e) (by omega); omega
      have ee : 4 * (e / 4) + e % 4 = e := by omega
      have hd : e % 4 < zg_ln g (e / 4) := (zg_lnI ok (by omega)).mp (by rw [ee]; omega)
      obtain ⟨u1, u2, u3⟩ := zg_ln_nz ok hd
      rw [ee, ha] at u3
      have sw : s = zl_wk g G p (e / 4) (e % 4) := A.2.2.2.2.1 _ _ hs (zl_wk_i ok A p1 p2 _ p3).1 p4
      refine ⟨z1, zd_Re_s ⟨p, e / 4, e % 4, p1, by omega, hr, zg_RC_df ok (A.2.2.2.2.2 p p1) p2 (by omega), hd, by omega, by rw [ee]; exact h1, rfl, ?_⟩ z2, z3⟩
      rw [← sw]; omega
theorem zl_FXc (ok : zg_ok g R) (A : zl_AU g R n σ G) : zl_LC g R (zl_FX g R n σ G) := by
  refine ⟨⟨fun _ => ⟨rfl, rfl⟩, fun r d _ z => by omega⟩, ?_, ?_⟩
  · rintro S e t h1 h2 h3 ⟨f1, f2⟩
    have m := zg_af_pos h3
    refine ⟨fun z => by omega, fun r d hr z hd => ?_⟩
    obtain ⟨d', rfl⟩ : ∃ d', d = d' + 1 := ⟨d - 1, by omega⟩
    have e0 : e = 4 * r + d' := by omega
    subst e0
    obtain ⟨p, p1, p2, p3, p4, p5⟩ := f2 r d' hr rfl (by omega)
    have hd' : d' < zg_ln g r := (zg_lnI ok (by omega)).mp h3
    obtain ⟨u1, u2, u3⟩ := zg_ln_nz ok hd'
    obtain ⟨w1, w2, _⟩ := zl_wk_i ok A p1 p2 d' p3
    refine ⟨p, p1, p2, by omega, ?_, p5⟩
    rw [u3, p4]
    exact (A.2.2.2.1 _ _ w1 ⟨u1, _, w2, u3⟩).2.symm
  · intro S e t s h1 h2 h3 h4 h5 h6
    obtain ⟨p, p1, p2⟩ := zl_sur A h1
    have q := ok.2.2.2.2.2.1 s h3 h4
    have q2 := ok.2.2.2.2.2.2.1 (4 * s)
    refine ⟨fun z => by omega, fun r d hr z hd => ?_⟩
    have : r = s := by omega
    subst this
    have : d = 0 := by omega
    subst this
    refine ⟨p, p1, by rw [p2]; exact zg_RC_cl h1 h2 h3 h4 h5, by omega, p2.symm, ?_⟩
    subst p2
    exact zl_inA ok A p1 (by omega) h2 (by omega) h6
/-- what includes gives: Follow -/
theorem zl_incl (ok : zg_ok g R) (A : zl_AU g R n σ G) {s k t : Nat} (hs : s < n) (hk : k < 8) : zl_R2 g R n σ G (s * 8 + k) t ↔ zl_Ps g R (σ s) (8 + k) t := by
  constructor
  · rintro ⟨z, h1, h2⟩
    refine h1 (fun v => ∀ s k, s < n → k < 8 → v = s * 8 + k → zl_Ps g R (σ s) (8 + k) t) ?_ ?_ s k hs hk rfl
    · intro s k hs hk e
      rcases h2 with ⟨s2, k2, e2, _, hk2, _, x, y1, y2, y3⟩ | ⟨e2, et⟩
      · have : s2 = s := by omega
        subst this
        have : k2 = k := by omega
        subst this
        exact ⟨x, y1, y2, Or.inl y3⟩
      · have s0 : s = 0 := by omega
        have k0 : k = 0 := by omega
        subst s0; subst k0; subst et
        refine ⟨0, by rw [A.2.2.1]; exact zg_ST_0, ?_, Or.inr ⟨?_, by rw [A.2.2.1]; exact (zl_LA_c (g := g) (R := R)).1⟩⟩
        · rw [zg_af_m (by omega)]; exact ok.2.2.1
        · intro i a b
          have nz := (zg_NU_c (g := g) (R := R)).1
          rcases (show i = 2 ∨ i = 3 by omega) with q | q <;> subst q
          · rw [ok.2.2.2.1]; exact nz
          · rw [ok.2.2.2.2.1]; exact nz
    · rintro a b ⟨s1, r, d, hs1, r1, r2, hd, hl, h8, hn, eb, ea⟩ ih s k hs hk e
      have q := ok.2.2.2.2.2.1 r r1 r2
      have q2 := ok.2.2.2.2.2.2.1 (4 * r)
      have q3 := ok.2.2.2.2.2.2.1 (4 * r + 1 + d)
      have p := ih s1 (g (4 * r) - 8) hs1 (by omega) eb
      rw [show 8 + (g (4 * r) - 8) = g (4 * r) by omega] at p
      have h4 := zl_r4 A hs1 r1 r2 hd
      have la := zl_wk_LA ok A hs1 h4 (zl_Ps_LA (A.2.2.2.2.2 _ hs1) r1 r2 p) d (by omega)
      obtain ⟨w1, w2, _⟩ := zl_wk_i ok A hs1 h4 d (by omega)
      have es : s = zl_wk g G s1 r d := by omega
      have ek : g (4 * r + 1 + d) = 8 + k := by omega
      rw [es]
      exact ⟨4 * r + d, w2, by rw [(zg_ln_nz ok hl).2.2, ek], Or.inr ⟨hn, la⟩⟩
  · rintro ⟨e, h1, h2, h3⟩
    refine zl_inA ok A hs hk h1 h2 ?_
    rcases h3 with z | ⟨z, y⟩
    · exact Or.inl z
    · exact Or.inr ⟨z, y _ (zl_FXc ok A)⟩
/-- what lookback gives: the lookaheads of a complete item -/
theorem zl_back (ok : zg_ok g R) (A : zl_AU g R n σ G) {s r t : Nat} (hs : s < n) (h1 : 1 ≤ r) (h2 : r ≤ R) :
    (∃ p, p < n ∧ zg_Df g (σ p) (g (4 * r)) ∧ zl_wk g G p r (zg_ln g r) = s ∧ zl_R2 g R n σ G (p * 8 + (g (4 * r) - 8)) t) ↔ zl_LA g R (σ s) (4 * r + zg_ln g r) t := by
  have q := ok.2.2.2.2.2.1 r h1 h2
  have q2 := ok.2.2.2.2.2.2.1 (4 * r)
  have l3 := zg_ln_le (g := g) r
  constructor
  · rintro ⟨p, p1, p2, p3, p4⟩
    have h4 := zl_r4 A p1 h1 h2 p2
    have ps := (zl_incl ok A p1 (by omega)).mp p4
    rw [show 8 + (g (4 * r) - 8) = g (4 * r) by omega] at ps
    rw [← p3]
    exact zl_wk_LA ok A p1 h4 (zl_Ps_LA (A.2.2.2.2.2 _ p1) h1 h2 ps) _ (Nat.le_refl _)
  · intro h
    obtain ⟨p, p1, p2, p3, p4, p5⟩ := (h _ (zl_FXc ok A)).2 r (zg_ln g r) h1 rfl (by omega)
    exact ⟨p, p1, zg_RC_df ok (A.2.2.2.2.2 p p1) p2 h1, (A.2.2.2.2.1 _ _ (zl_wk_i ok A p1 p2 _ p3).1 hs p4.symm), p5⟩
theorem zl_LA0 (ok : zg_ok g R) {S : Nat → Prop} {t : Nat} : zl_LA g R S 1 t ↔ S = zg_GT g R (zg_ST g R) 8 ∧ t = 0 := by
  constructor
  · exact (zl_inv ok · |>.2.1 rfl)
  · rintro ⟨rfl, rfl⟩
    have c := zl_LA_c (g := g) (R := R)
    have a : zg_af g 0 = 8 := by rw [zg_af_m (by omega)]; exact ok.2.2.1
    have := c.2.1 _ 0 0 zg_RC_0 zg_ST_0 (by omega) c.1
    rw [a] at this
    exact this
end ZA
end
section
/-! the component search over lists of targets: its invariant and its four steps, in plain numbers -/
def zd_sub (F : Nat → Nat → Prop) (a b : Nat) : Prop := ∀ t, F a t → F b t
def zd_E (AL : Nat → List Nat) (v z : Nat) : Prop := z ∈ AL v
def zd_dom (M pd ci : Nat → Nat) (rest : Nat → List Nat) (F : Nat → Nat → Prop) (j i : Nat) : Prop :=
  (M (pd (ci j)) ≤ M (pd i) ∧ zd_sub F (pd i) (pd (ci j))) ∨ ∃ z l, rest (pd (ci j)) = z :: l ∧ M z ≠ 0 ∧ M z ≤ M (pd i) ∧ zd_sub F (pd i) z
def zd_psd (M pd ci : Nat → Nat) (pn cn : Nat) (F : Nat → Nat → Prop) (y z : Nat) : Prop :=
  M z ≠ 0 ∧ (M z = 1000 → zd_sub F z y) ∧ (∀ i, i < pn → pd i = z → M y ≠ 1000 ∧ M y ≤ i + 1) ∧ (∀ i i' j, i < pn → i' < pn → j < cn → pd i = z → pd i' = y → i' < ci j → i < ci j)
def zd_J (N : Nat) (AL : Nat → List Nat) (F0 : Nat → Nat → Prop) (M pd ci : Nat → Nat) (pn cn : Nat) (rest : Nat → List Nat) (F : Nat → Nat → Prop) : Prop :=
  (N ≤ 192 ∧ ∀ y z, z ∈ AL y → z < N) ∧
  (∀ i, i < pn → pd i < N ∧ 1 ≤ M (pd i) ∧ M (pd i) ≤ i + 1) ∧
  (∀ i j, i < pn → j < pn → pd i = pd j → i = j) ∧
  (∀ y, y < N → M y = 0 ∨ M y = 1000 ∨ ∃ i, i < pn ∧ pd i = y) ∧
  ((∀ j, j < cn → ci j < pn) ∧ ∀ j j', j < j' → j' < cn → ci j < ci j') ∧
  (∀ j, j + 1 < cn → ∃ l, rest (pd (ci j)) = pd (ci (j + 1)) :: l) ∧
  (∀ i, i < pn → zd_Re (zd_E AL) (pd i) (pd (M (pd i) - 1))) ∧
  (∀ i, i < pn → (∀ j, j < cn → ci j ≠ i) → M (pd i) ≤ i ∧ rest (pd i) = []) ∧
  (∀ i j, i < pn → j < cn → ci j < i → (j + 1 < cn → i < ci (j + 1)) → zd_dom M pd ci rest F j i) ∧
  (∀ y, y < N → M y ≠ 0 → ∃ ps, AL y = ps ++ rest y ∧ ∀ z, z ∈ ps → zd_psd M pd ci pn cn F y z) ∧
  (∀ y, y < N → M y = 1000 → rest y = []) ∧
  (∀ y, y < N → M y = 0 → rest y = AL y) ∧
  (∀ y t, y < N → F y t → ∃ w, zd_Re (zd_E AL) y w ∧ F0 w t) ∧ (∀ y t, y < N → F0 y t → F y t)
noncomputable def zd_mu (N : Nat) (M : Nat → Nat) (cn : Nat) (rest : Nat → List Nat) : Nat := 2 * zm_c (fun y => M y = 0) N + zm_s (fun y => (rest y).length) N + cn
section ZD
variable {N : Nat} {AL : Nat → List Nat} {F0 : Nat → Nat → Prop} {M pd ci M' pd' ci' : Nat → Nat} {pn cn : Nat} {rest rest' : Nat → List Nat} {F F' : Nat → Nat → Prop}
theorem zd_pn (J : zd_J N AL F0 M pd ci pn cn rest F) {z : Nat} (hz : z < N) (h0 : M z = 0) : pn < N := by
  obtain ⟨a1, a2, a3, -⟩ := J
  have := zm_inj (n := pn + 1) (m := N) (fun i => if i = pn then z else pd i) ?_ ?_
  · omega
  · intro i hi
    by_cases e : i = pn
    · simp only [e]; exact hz
    · simp only [e]; exact (a2 i (by omega)).1
  · intro i j hi hj
    by_cases e : i = pn
    · by_cases e' : j = pn
      · intro; omega
      · simp only [e, e', if_true, if_false]
        intro q
        have := (a2 j (by omega)).2.1
        rw [← q] at this; omega
    · by_cases e' : j = pn
      · simp only [e, e', if_true, if_false]
        intro q
        have := (a2 i (by omega)).2.1
        rw [q] at this; omega
      · simp only [e, e', if_false]
        exact a3 i j (by omega) (by omega)
theorem zd_pnN (J : zd_J N AL F0 M pd ci pn cn rest F) : pn ≤ N := by
  obtain ⟨a1, a2, a3, -⟩ := J
  exact zm_inj pd (fun i hi => (a2 i hi).1) a3
/-- a new node -/
theorem zd_open (J : zd_J N AL F0 M pd ci pn cn rest F) {z : Nat} (hz : z < N) (h0 : M z = 0)
    (hc : ∀ c, cn = c + 1 → ∃ l, rest (pd (ci c)) = z :: l)
    (m1 : M' z = pn + 1) (m2 : ∀ y, y ≠ z → M' y = M y) (p1 : pd' pn = z) (p2 : ∀ i, i < pn → pd' i = pd i) (c1 : ci' cn = pn) (c2 : ∀ j, j < cn → ci' j = ci j) :
    zd_J N AL F0 M' pd' ci' (pn + 1) (cn + 1) rest F ∧ zd_mu N M' (cn + 1) rest + 1 ≤ zd_mu N M cn rest := by
  have hpn := zd_pn J hz h0
  obtain ⟨⟨a0, a1⟩, a2, a3, a4, ⟨a5, a5'⟩, a6, a7, a8, a9, a10, a11, a12, a13, a14⟩ := J
  have nz : ∀ i, i < pn → pd i ≠ z := fun i hi e => by have := (a2 i hi).2.1; rw [e] at this; omega
  have mp : ∀ i, i < pn → M' (pd i) = M (pd i) := fun i hi => m2 _ (nz i hi)
  refine ⟨⟨⟨a0, a1⟩, ?_, ?_, ?_, ⟨?_, ?_⟩, ?_, ?_, ?_, ?_, ?_, ?_, ?_, a13, a14⟩, ?_⟩
  · intro i hi
    by_cases e : i = pn
    · subst e; rw [p1, m1]; omega
    · have hi' : i < pn := by omega
      rw [p2 i hi', mp i hi']; exact a2 i hi'
  · intro i j hi hj
    by_cases e : i = pn
    · by_cases e' : j = pn
      · intro; omega
      · subst e
        rw [p1, p2 j (by omega)]
        intro q; exact absurd q.symm (nz j (by omega))
    · by_cases e' : j = pn
      · subst e'
        rw [p1, p2 i (by omega)]
        intro q; exact absurd q (nz i (by omega))
      · rw [p2 i (by omega), p2 j (by omega)]; exact a3 i j (by omega) (by omega)
  · intro y hy
    by_cases e : y = z
    · exact Or.inr (Or.inr ⟨pn, by omega, by rw [p1, e]⟩)
    · rw [m2 y e]
      rcases a4 y hy with q | q | ⟨i, h1, h2⟩
      · exact Or.inl q
      · exact Or.inr (Or.inl q)
      · exact Or.inr (Or.inr ⟨i, by omega, by rw [p2 i h1, h2]⟩)
  · intro j hj
    by_cases e : j = cn
    · rw [e, c1]; omega
    · rw [c2 j (by omega)]; have := a5 j (by omega); omega
  · intro j j' h1 h2
    by_cases e : j' = cn
    · rw [e, c1, c2 j (by omega)]; exact a5 j (by omega)
    · rw [c2 j (by omega), c2 j' (by omega)]; exact a5' j j' h1 (by omega)
  · intro j hj
    have hj' : j < cn := by omega
    rw [c2 j hj', p2 _ (a5 j hj')]
    by_cases e : j + 1 = cn
    · rw [e, c1, p1]; exact hc j e.symm
    · rw [c2 (j + 1) (by omega), p2 _ (a5 (j + 1) (by omega))]; exact a6 j (by omega)
  · intro i hi
    by_cases e : i = pn
    · rw [e, p1, m1, show pn + 1 - 1 = pn by omega, p1]; exact zd_Re_0
    · have hi' : i < pn := by omega
      have := a2 i hi'
      rw [p2 i hi', mp i hi', p2 _ (by omega)]; exact a7 i hi'
  · intro i hi hn
    have e : i ≠ pn := fun e => hn cn (by omega) (by rw [c1, e])
    have hi' : i < pn := by omega
    rw [p2 i hi', mp i hi']
    exact a8 i hi' (fun j hj => by rw [← c2 j hj]; exact hn j (by omega))
  · intro i j hi hj h1 h2
    have hj' : j < cn := by
      rcases Nat.lt_or_ge j cn with q | q
      · exact q
      · have : j = cn := by omega
        rw [this, c1] at h1; omega
    have hi' : i < pn := by
      have := h2 (by omega)
      by_cases e : j + 1 = cn
      · rw [e, c1] at this; exact this
      · rw [c2 _ (by omega)] at this; have := a5 (j + 1) (by omega); omega
    rw [c2 j hj'] at h1
    have d := a9 i j hi' hj' h1 (fun q => by have := h2 (by omega); rw [c2 _ q] at this; exact this)
    unfold zd_dom
    rw [c2 j hj', p2 _ (a5 j hj'), p2 i hi', mp i hi', mp _ (a5 j hj')]
    rcases d with d | ⟨z', l, d1, d2, d3, d4⟩
    · exact Or.inl d
    · have : z' ≠ z := fun e => d2 (by rw [e, h0])
      exact Or.inr ⟨z', l, d1, by rw [m2 _ this]; exact d2, by rw [m2 _ this]; exact d3, d4⟩
  · intro y hy hM
    by_cases e : y = z
    · subst e; exact ⟨[], by rw [a12 y hy h0]; rfl, fun z h => by simp at h⟩
    · rw [m2 y e] at hM
      obtain ⟨ps, e1, e2⟩ := a10 y hy hM
      refine ⟨ps, e1, fun w hw => ?_⟩
      obtain ⟨q1, q2, q3, q4⟩ := e2 w hw
      have wz : w ≠ z := fun e => q1 (by rw [e, h0])
      refine ⟨by rw [m2 _ wz]; exact q1, by rw [m2 _ wz]; exact q2, ?_, ?_⟩
      · intro i hi hp
        have : i ≠ pn := fun e => wz (by rw [← hp, e, p1])
        rw [m2 y e]
        exact q3 i (by omega) (by rw [← p2 i (by omega)]; exact hp)
      · intro i i' j hi hi' hj hp hp' h1
        have n1 : i ≠ pn := fun e => wz (by rw [← hp, e, p1])
        have n2 : i' ≠ pn := fun e' => e (by rw [← hp', e', p1])
        by_cases ej : j = cn
        · rw [ej, c1]; omega
        · rw [c2 j (by omega)] at h1 ⊢
          exact q4 i i' j (by omega) (by omega) (by omega) (by rw [← p2 i (by omega)]; exact hp) (by rw [← p2 i' (by omega)]; exact hp') h1
  · intro y hy hM
    by_cases e : y = z
    · rw [e, m1] at hM; omega
    · rw [m2 y e] at hM; exact a11 y hy hM
  · intro y hy hM
    by_cases e : y = z
    · rw [e, m1] at hM; omega
    · rw [m2 y e] at hM; exact a12 y hy hM
  · have := zm_c_lt (P := fun y => M' y = 0) (Q := fun y => M y = 0) (a := z) (N := N) (by rw [m1]; omega) h0 (fun k hk h => by
      have : k ≠ z := fun e => by rw [e, m1] at h; omega
      rw [m2 k this] at h; exact h) hz
    unfold zd_mu; omega
/-- an edge is passed -/
theorem zd_absorb {c : Nat} (J : zd_J N AL F0 M pd ci pn (c + 1) rest F) {z : Nat} {l : List Nat} (hr : rest (pd (ci c)) = z :: l) (hz : M z ≠ 0)
    (m1 : M' (pd (ci c)) = min (M (pd (ci c))) (M z)) (m2 : ∀ y, y ≠ pd (ci c) → M' y = M y)
    (f1 : ∀ t, F' (pd (ci c)) t ↔ F (pd (ci c)) t ∨ F z t) (f2 : ∀ y, y ≠ pd (ci c) → F' y = F y)
    (r1 : rest' (pd (ci c)) = l) (r2 : ∀ y, y ≠ pd (ci c) → rest' y = rest y) :
    zd_J N AL F0 M' pd ci pn (c + 1) rest' F' ∧ zd_mu N M' (c + 1) rest' + 1 ≤ zd_mu N M (c + 1) rest := by
  have hpn := zd_pnN J
  obtain ⟨⟨a0, a1⟩, a2, a3, a4, ⟨a5, a5'⟩, a6, a7, a8, a9, a10, a11, a12, a13, a14⟩ := J
  have hx := a5 c (by omega)
  obtain ⟨xN, x1, x2⟩ := a2 _ hx
  have xi : ∀ i, i < pn → i ≠ ci c → pd i ≠ pd (ci c) := fun i hi hn e => hn (a3 i _ hi hx e)
  obtain ⟨ps0, al, hps⟩ := a10 _ xN (by omega)
  rw [hr] at al
  have ez : zd_E AL (pd (ci c)) z := by show z ∈ AL _; rw [al]; simp
  have zN := a1 _ _ ez
  generalize hX : pd (ci c) = x at *
  have mle : M' x ≤ M x := by rw [m1]; omega
  have mlz : M' x ≤ M z := by rw [m1]; omega
  have mpos : 1 ≤ M' x := by rw [m1]; omega
  have mne : ∀ y, M y ≠ 0 → M' y ≠ 0 := fun y h => by
    by_cases e : y = x
    · rw [e]; omega
    · rw [m2 y e]; exact h
  have m1000 : ∀ y, M' y = 1000 → y ≠ x ∧ M y = 1000 := fun y h => by
    by_cases e : y = x
    · rw [e] at h; omega
    · rw [m2 y e] at h; exact ⟨e, h⟩
  have Fx : ∀ y, zd_sub F y x → zd_sub F' y x := fun y h t ht => by
    rw [f1]
    by_cases e : y = x
    · rw [e, f1] at ht; exact ht
    · rw [f2 y e] at ht; exact Or.inl (h t ht)
  have Fz : ∀ y, y ≠ x → zd_sub F y z → zd_sub F' y x := fun y e h t ht => by
    rw [f1]; rw [f2 y e] at ht; exact Or.inr (h t ht)
  have Fo : ∀ y w, y ≠ x → zd_sub F y w → zd_sub F' y w := fun y w e h t ht => by
    rw [f2 y e] at ht
    by_cases e' : w = x
    · rw [e', f1]; rw [e'] at h; exact Or.inl (h t ht)
    · rw [f2 w e']; exact h t ht
  refine ⟨⟨⟨a0, a1⟩, ?_, a3, ?_, ⟨a5, a5'⟩, ?_, ?_, ?_, ?_, ?_, ?_, ?_, ?_, ?_⟩, ?_⟩
  · intro i hi
    have := a2 i hi
    by_cases e : pd i = x
    · rw [e]; rw [e] at this; omega
    · rw [m2 _ e]; exact this
  · intro y hy
    by_cases e : y = x
    · exact Or.inr (Or.inr ⟨ci c, hx, by rw [e, hX]⟩)
    · rw [m2 y e]; exact a4 y hy
  · intro j hj
    have := a5' j c (by omega) (by omega)
    rw [r2 _ (xi _ (by omega) (by omega))]
    exact a6 j hj
  · intro i hi
    by_cases e : i = ci c
    · rw [e, hX]
      rcases Nat.lt_or_ge (M z) (M x) with q | q
      · have e1 : M' x = M z := by rw [m1]; omega
        rw [e1]
        rcases a4 z zN with h | h | ⟨i', h1, h2⟩
        · exact absurd h hz
        · omega
        · refine zd_Re_s ez ?_
          have := a7 i' h1
          rw [h2] at this
          exact this
      · have e1 : M' x = M x := by rw [m1]; omega
        rw [e1]
        have := a7 _ hx
        rw [hX] at this
        exact this
    · rw [m2 _ (xi i hi e)]; exact a7 i hi
  · intro i hi hn
    have e := xi i hi (fun e => hn c (by omega) e.symm)
    rw [m2 _ e, r2 _ e]; exact a8 i hi hn
  · intro i j hi hj h1 h2
    have d := a9 i j hi hj h1 h2
    have ei : i ≠ ci c := by
      intro e
      by_cases ej : j = c
      · rw [ej] at h1; omega
      · have := h2 (by omega)
        by_cases e2 : j + 1 = c
        · rw [e2] at this; omega
        · have := a5' (j + 1) c (by omega) (by omega); omega
    have en := xi i hi ei
    unfold zd_dom
    rw [m2 _ en]
    by_cases ej : j = c
    · subst ej
      rw [hX]
      rcases d with ⟨d1, d2⟩ | ⟨z', l', d1, d2, d3, d4⟩
      · rw [hX] at d1 d2
        exact Or.inl ⟨by omega, Fx _ d2⟩
      · rw [hX, hr] at d1
        obtain ⟨rfl, rfl⟩ := List.cons.inj d1
        exact Or.inl ⟨by omega, Fz _ en d4⟩
    · have ec : pd (ci j) ≠ x := xi _ (a5 j hj) (fun e => by have := a5' j c (by omega) (by omega); omega)
      rw [m2 _ ec, r2 _ ec]
      rcases d with ⟨d1, d2⟩ | ⟨z', l', d1, d2, d3, d4⟩
      · exact Or.inl ⟨d1, Fo _ _ en d2⟩
      · refine Or.inr ⟨z', l', d1, mne _ d2, ?_, Fo _ _ en d4⟩
        by_cases e' : z' = x
        · rw [e'] at d3 ⊢; omega
        · rw [m2 _ e']; exact d3
  · intro y hy hM
    by_cases e : y = x
    · subst e
      refine ⟨ps0 ++ [z], by rw [al, r1]; simp, fun w hw => ?_⟩
      have base : zd_psd M pd ci pn (c + 1) F y w → zd_psd M' pd ci pn (c + 1) F' y w := by
        rintro ⟨q1, q2, q3, q4⟩
        refine ⟨mne _ q1, fun h => Fx _ (q2 (m1000 _ h).2), fun i hi hp => ?_, q4⟩
        have := q3 i hi hp
        omega
      rcases List.mem_append.mp hw with h | h
      · exact base (hps w h)
      · have : w = z := by simpa using h
        subst this
        refine ⟨mne _ hz, fun h => Fz _ (m1000 _ h).1 (fun _ q => q), fun i hi hp => ?_, fun i i' j hi hi' hj hp hp' h1 => ?_⟩
        · have := a2 i hi
          rw [hp] at this
          omega
        · have e1 : i' = ci c := a3 _ _ hi' hx (by rw [hp', hX])
          rw [e1] at h1
          by_cases e2 : j = c
          · rw [e2] at h1; omega
          · have := a5' j c (by omega) (by omega); omega
    · rw [m2 y e] at hM
      obtain ⟨ps, e1, e2⟩ := a10 y hy hM
      refine ⟨ps, by rw [r2 y e]; exact e1, fun w hw => ?_⟩
      obtain ⟨q1, q2, q3, q4⟩ := e2 w hw
      refine ⟨mne _ q1, fun h => Fo _ _ (m1000 _ h).1 (q2 (m1000 _ h).2), fun i hi hp => ?_, q4⟩
      rw [m2 y e]; exact q3 i hi hp
  · intro y hy hM
    obtain ⟨e, h⟩ := m1000 y hM
    rw [r2 y e]; exact a11 y hy h
  · intro y hy hM
    have e : y ≠ x := fun e => by rw [e] at hM; omega
    rw [m2 y e] at hM
    rw [r2 y e]; exact a12 y hy hM
  · intro y t hy h
    by_cases e : y = x
    · rw [e, f1] at h
      rw [e]
      rcases h with h | h
      · exact a13 x t xN h
      · obtain ⟨w, w1, w2⟩ := a13 z t zN h
        exact ⟨w, zd_Re_s ez w1, w2⟩
    · rw [f2 y e] at h; exact a13 y t hy h
  · intro y t hy h
    by_cases e : y = x
    · rw [e, f1]; rw [e] at h; exact Or.inl (a14 x t xN h)
    · rw [f2 y e]; exact a14 y t hy h
  · have h1 := zm_s_upd (f := fun y => (rest y).length) (h := fun y => (rest' y).length) (a := x) (N := N) (fun k _ hk => by show (rest' k).length = _; rw [r2 k hk]) xN
    simp only [hr, r1, List.length_cons] at h1
    have h2 : zm_c (fun y => M' y = 0) N ≤ zm_c (fun y => M y = 0) N := zm_c_mono (fun k _ h => by
      rcases Nat.eq_zero_or_pos (M k) with q | q
      · exact q
      · exact absurd h (mne k (by omega)))
    unfold zd_mu; omega
/-- the top is left and is no head -/
theorem zd_leave1 {c : Nat} (J : zd_J N AL F0 M pd ci pn (c + 1) rest F) (hr : rest (pd (ci c)) = []) (hM : M (pd (ci c)) ≠ ci c + 1) :
    zd_J N AL F0 M pd ci pn c rest F ∧ zd_mu N M c rest + 1 ≤ zd_mu N M (c + 1) rest := by
  obtain ⟨⟨a0, a1⟩, a2, a3, a4, ⟨a5, a5'⟩, a6, a7, a8, a9, a10, a11, a12, a13, a14⟩ := J
  have hx := a5 c (by omega)
  have x2 := a2 _ hx
  refine ⟨⟨⟨a0, a1⟩, a2, a3, a4, ⟨fun j hj => a5 j (by omega), fun j j' h1 h2 => a5' j j' h1 (by omega)⟩, fun j hj => a6 j (by omega), a7, ?_, ?_, ?_, a11, a12, a13, a14⟩, ?_⟩
  · intro i hi hn
    by_cases e : ci c = i
    · rw [← e]; exact ⟨by omega, hr⟩
    · exact a8 i hi (fun j hj => by
        by_cases ej : j = c
        · rw [ej]; exact e
        · exact hn j (by omega))
  · intro i j hi hj h1 h2
    by_cases ej : j + 1 = c
    · rcases Nat.lt_trichotomy i (ci c) with q | q | q
      · exact a9 i j hi (by omega) h1 (fun _ => by rw [ej]; exact q)
      · obtain ⟨l, hl⟩ := a6 j (by omega)
        rw [ej] at hl
        exact Or.inr ⟨_, l, hl, by omega, by rw [q]; omega, by rw [q]; exact fun _ h => h⟩
      · obtain ⟨l, hl⟩ := a6 j (by omega)
        rw [ej] at hl
        rcases a9 i c hi (by omega) q (fun z => by omega) with ⟨d1, d2⟩ | ⟨z, l', d1, _⟩
        · exact Or.inr ⟨_, l, hl, by omega, d1, d2⟩
        · rw [hr] at d1; exact absurd d1 (by simp)
    · exact a9 i j hi (by omega) h1 (fun _ => h2 (by omega))
  · intro y hy h
    obtain ⟨ps, e1, e2⟩ := a10 y hy h
    refine ⟨ps, e1, fun w hw => ?_⟩
    obtain ⟨q1, q2, q3, q4⟩ := e2 w hw
    exact ⟨q1, q2, q3, fun i i' j hi hi' hj => q4 i i' j hi hi' (by omega)⟩
  · unfold zd_mu; omega
/-- the top is left with its component -/
theorem zd_leave2 {c : Nat} (J : zd_J N AL F0 M pd ci pn (c + 1) rest F) (hr : rest (pd (ci c)) = []) (hM : M (pd (ci c)) = ci c + 1)
    (m1 : ∀ i, ci c ≤ i → i < pn → M' (pd i) = 1000) (m2 : ∀ y, (∀ i, ci c ≤ i → i < pn → pd i ≠ y) → M' y = M y)
    (f1 : ∀ i, ci c ≤ i → i < pn → F' (pd i) = F (pd (ci c))) (f2 : ∀ y, (∀ i, ci c ≤ i → i < pn → pd i ≠ y) → F' y = F y) :
    zd_J N AL F0 M' pd ci (ci c) c rest F' ∧ zd_mu N M' c rest + 1 ≤ zd_mu N M (c + 1) rest := by
  obtain ⟨⟨a0, a1⟩, a2, a3, a4, ⟨a5, a5'⟩, a6, a7, a8, a9, a10, a11, a12, a13, a14⟩ := J
  have hx := a5 c (by omega)
  have x2 := a2 _ hx
  have nst : ∀ i, ci c < i → ∀ j, j < c + 1 → ci j ≠ i := fun i h j hj => by
    by_cases e : j = c
    · rw [e]; omega
    · have := a5' j c (by omega) (by omega); omega
  have dm : ∀ i, ci c ≤ i → i < pn → ci c + 1 ≤ M (pd i) ∧ zd_sub F (pd i) (pd (ci c)) := fun i h1 h2 => by
    by_cases e : i = ci c
    · rw [e, hM]; exact ⟨Nat.le_refl _, fun _ h => h⟩
    · rcases a9 i c h2 (by omega) (by omega) (fun z => by omega) with ⟨d1, d2⟩ | ⟨z, l', d1, _⟩
      · rw [hM] at d1; exact ⟨d1, d2⟩
      · rw [hr] at d1; exact absurd d1 (by simp)
  have re : ∀ k i, i < k → ci c ≤ i → i < pn → zd_Re (zd_E AL) (pd i) (pd (ci c)) := by
    intro k
    induction k with
    | zero => intro i h; omega
    | succ k ih =>
      intro i hk h1 h2
      by_cases e : i = ci c
      · rw [e]; exact zd_Re_0
      · have q := (dm i h1 h2).1
        have u := (a8 i h2 (nst i (by omega))).1
        exact zd_Re_t (a7 i h2) (ih _ (by omega) (by omega) (by omega))
  have rs : ∀ i, ci c ≤ i → i < pn → rest (pd i) = [] := fun i h1 h2 => by
    by_cases e : i = ci c
    · rw [e]; exact hr
    · exact (a8 i h2 (nst i (by omega))).2
  have low : ∀ i, i < ci c → ∀ i', ci c ≤ i' → i' < pn → pd i' ≠ pd i := fun i hi i' h1 h2 e => by
    have := a3 i' i h2 (by omega) e; omega
  have ml : ∀ i, i < ci c → M' (pd i) = M (pd i) := fun i hi => m2 _ (low i hi)
  have fl : ∀ i, i < ci c → F' (pd i) = F (pd i) := fun i hi => f2 _ (low i hi)
  have em : ∀ y, (∃ i, ci c ≤ i ∧ i < pn ∧ pd i = y) ∨ (∀ i, ci c ≤ i → i < pn → pd i ≠ y) := fun y => by
    rcases Classical.em (∃ i, ci c ≤ i ∧ i < pn ∧ pd i = y) with h | h
    · exact Or.inl h
    · exact Or.inr fun i h1 h2 h3 => h ⟨i, h1, h2, h3⟩
  have mne : ∀ y, M y ≠ 0 → M' y ≠ 0 := fun y h => by
    rcases em y with ⟨i, h1, h2, rfl⟩ | h'
    · rw [m1 i h1 h2]; omega
    · rw [m2 y h']; exact h
  have mne' : ∀ y, M' y = 0 → M y = 0 := fun y h => by
    rcases Nat.eq_zero_or_pos (M y) with q | q
    · exact q
    · exact absurd h (mne y (by omega))
  refine ⟨⟨⟨a0, a1⟩, ?_, fun i j hi hj => a3 i j (by omega) (by omega), ?_, ⟨fun j hj => a5' j c hj (by omega), fun j j' h1 h2 => a5' j j' h1 (by omega)⟩, fun j hj => a6 j (by omega), ?_, ?_, ?_, ?_, ?_, ?_, ?_, ?_⟩, ?_⟩
  · intro i hi; rw [ml i hi]; exact a2 i (by omega)
  · intro y hy
    rcases em y with ⟨i, h1, h2, rfl⟩ | h'
    · exact Or.inr (Or.inl (m1 i h1 h2))
    · rw [m2 y h']
      rcases a4 y hy with q | q | ⟨i, h1, h2⟩
      · exact Or.inl q
      · exact Or.inr (Or.inl q)
      · refine Or.inr (Or.inr ⟨i, ?_, h2⟩)
        rcases Nat.lt_or_ge i (ci c) with z | z
        · exact z
        · exact absurd h2 (h' i z h1)
  · intro i hi; rw [ml i hi]; exact a7 i (by omega)
  · intro i hi hn
    rw [ml i hi]
    refine a8 i (by omega) (fun j hj => ?_)
    by_cases e : j = c
    · rw [e]; omega
    · exact hn j (by omega)
  · intro i j hi hj h1 h2
    have hcj := a5' j c hj (by omega)
    have d := a9 i j (by omega) (by omega) h1 (fun q => by
      by_cases e : j + 1 = c
      · rw [e]; exact hi
      · exact h2 (by omega))
    unfold zd_dom zd_sub
    rw [ml i hi, ml _ hcj, fl i hi, fl _ hcj]
    rcases d with d | ⟨z, l, d1, d2, d3, d4⟩
    · exact Or.inl d
    · rcases em z with ⟨i', h1', h2', rfl⟩ | h'
      · have := (dm i' h1' h2').1
        have := (a2 i (by omega)).2.2
        omega
      · exact Or.inr ⟨z, l, d1, by rw [m2 z h']; exact d2, by rw [m2 z h']; exact d3, by rw [f2 z h']; exact d4⟩
  · intro y hy hM'
    rcases em y with ⟨i, h1, h2, rfl⟩ | h'
    · have q := (a2 i h2).2.1
      obtain ⟨ps, e1, e2⟩ := a10 _ hy (by omega)
      refine ⟨ps, e1, fun w hw => ?_⟩
      obtain ⟨q1, q2, q3, q4⟩ := e2 w hw
      refine ⟨mne _ q1, fun h => ?_, fun i' hi' hp => ?_, fun i1 i2 j hi1 hi2 hj hp hp' _ => ?_⟩
      · unfold zd_sub
        rw [f1 i h1 h2]
        rcases em w with ⟨i', h1', h2', rfl⟩ | hw'
        · rw [f1 i' h1' h2']; exact fun _ h => h
        · rw [f2 w hw']; rw [m2 w hw'] at h
          exact fun t ht => (dm i h1 h2).2 t (q2 h t ht)
      · have := (q3 i' (by omega) hp).2
        have := (dm i h1 h2).1
        omega
      · exact absurd hp'.symm (low i2 hi2 i h1 h2)
    · rw [m2 y h'] at hM'
      obtain ⟨ps, e1, e2⟩ := a10 y hy hM'
      refine ⟨ps, e1, fun w hw => ?_⟩
      obtain ⟨q1, q2, q3, q4⟩ := e2 w hw
      refine ⟨mne _ q1, fun h => ?_, fun i' hi' hp => by rw [m2 y h']; exact q3 i' (by omega) hp, fun i1 i2 j hi1 hi2 hj => q4 i1 i2 j (by omega) (by omega) (by omega)⟩
      unfold zd_sub
      rw [f2 y h']
      rcases em w with ⟨i', h1', h2', rfl⟩ | hw'
      · exfalso
        rcases a4 y hy with q | q | ⟨i2, g1, g2⟩
        · exact hM' q
        · exact (q3 i' h2' rfl).1 q
        · have : i2 < ci c := by
            rcases Nat.lt_or_ge i2 (ci c) with z | z
            · exact z
            · exact absurd g2 (h' i2 z g1)
          have := q4 i' i2 c h2' g1 (by omega) rfl g2 this
          omega
      · rw [f2 w hw']; rw [m2 w hw'] at h; exact q2 h
  · intro y hy h
    rcases em y with ⟨i, h1, h2, rfl⟩ | h'
    · exact rs i h1 h2
    · rw [m2 y h'] at h; exact a11 y hy h
  · intro y hy h
    exact a12 y hy (mne' y h)
  · intro y t hy h
    rcases em y with ⟨i, h1, h2, rfl⟩ | h'
    · rw [f1 i h1 h2] at h
      obtain ⟨w, w1, w2⟩ := a13 _ t (a2 _ hx).1 h
      exact ⟨w, zd_Re_t (re (i + 1) i (by omega) h1 h2) w1, w2⟩
    · rw [f2 y h'] at h; exact a13 y t hy h
  · intro y t hy h
    rcases em y with ⟨i, h1, h2, rfl⟩ | h'
    · rw [f1 i h1 h2]; exact (dm i h1 h2).2 t (a14 _ t hy h)
    · rw [f2 y h']; exact a14 y t hy h
  · have : zm_c (fun y => M' y = 0) N ≤ zm_c (fun y => M y = 0) N := zm_c_mono (fun k _ h => mne' k h)
    unfold zd_mu; omega
theorem zd_empty (J : zd_J N AL F0 M pd ci pn 0 rest F) : pn = 0 := by
  obtain ⟨-, a2, -, -, -, -, -, a8, -⟩ := J
  rcases Nat.eq_zero_or_pos pn with q | q
  · exact q
  · have h1 := (a8 0 q (fun j hj => by omega)).1
    have h2 := (a2 0 q).2.1
    omega
/-- at the end every node has what it reaches -/
theorem zd_final (J : zd_J N AL F0 M pd ci pn 0 rest F) (hm : ∀ y, y < N → M y ≠ 0) : ∀ y t, y < N → (F y t ↔ ∃ w, zd_Re (zd_E AL) y w ∧ F0 w t) := by
  have hp := zd_empty J
  obtain ⟨⟨a0, a1⟩, a2, a3, a4, a5, a6, a7, a8, a9, a10, a11, a12, a13, a14⟩ := J
  have fin : ∀ y, y < N → M y = 1000 := fun y hy => by
    rcases a4 y hy with q | q | ⟨i, h, _⟩
    · exact absurd q (hm y hy)
    · exact q
    · omega
  intro y t hy
  constructor
  · exact a13 y t hy
  · rintro ⟨w, h1, h2⟩
    refine h1 (fun y => y < N → F y t) (fun hw => a14 w t hw h2) ?_ hy
    intro a b e ih ha
    obtain ⟨ps, e1, e2⟩ := a10 a ha (hm a ha)
    rw [a11 a ha (fin a ha), List.append_nil] at e1
    have hb := a1 a b e
    exact (e2 b (by rw [← e1]; exact e)).2.1 (fin b hb) t (ih hb)
end ZD
end
section
/-! X: the grammar as the component holds it; saturate, isBarren -/
def zx_GR (g : Nat → Nat) (R : Nat) (a_left a_length a_need a_rhs : Nat → Int32) : Prop :=
  zg_ok g R ∧ (∀ r, r ≤ R → a_left r = nI (g (4 * r))) ∧ (∀ r, r ≤ R → a_length r = nI (zg_ln g r)) ∧
  (∀ r x, r ≤ R → (zb (a_need r) x ↔ x ≠ 0 ∧ ∃ d, d < 3 ∧ g (4 * r + 1 + d) = x)) ∧ (∀ e, e < 4 * R + 4 → a_rhs e = nI (zg_af g e))
def zx_SAT (g : Nat → Nat) (R : Nat) (B : Nat → Prop) (x : Nat) : Prop :=
  ∀ N : Nat → Prop, (∀ x, B x → N x) → (∀ r, 1 ≤ r → r ≤ R → (∀ d, d < 3 → g (4 * r + 1 + d) ≠ 0 → N (g (4 * r + 1 + d))) → N (g (4 * r))) → N x
def zx_SI (g : Nat → Nat) (R : Nat) (B K0 : Nat → Prop) (i : Nat) (x2 : Int32) : Prop :=
  (∀ x, K0 x → zb x2 x) ∧ (∀ x, zb x2 x → zx_SAT g R B x) ∧ ∀ r, 1 ≤ r → r < i → (∀ d, d < 3 → g (4 * r + 1 + d) ≠ 0 → K0 (g (4 * r + 1 + d))) → zb x2 (g (4 * r))
section ZX
variable {g : Nat → Nat} {R : Nat}
theorem zx_SAT_b {B : Nat → Prop} {x : Nat} (h : B x) : zx_SAT g R B x := fun _ a _ => a x h
theorem zx_SAT_s {B : Nat → Prop} {r : Nat} (h1 : 1 ≤ r) (h2 : r ≤ R) (h : ∀ d, d < 3 → g (4 * r + 1 + d) ≠ 0 → zx_SAT g R B (g (4 * r + 1 + d))) : zx_SAT g R B (g (4 * r)) :=
  fun N a b => b r h1 h2 (fun d hd hz => h d hd hz N a b)
theorem zx_SAT_NU (ok : zg_ok g R) {x : Nat} (hx : x ≠ 0) : zx_SAT g R (fun _ => False) x ↔ zg_NU g R x := by
  constructor
  · intro h
    refine h (fun x => zg_NU g R x) (fun _ z => z.elim) (fun r h1 h2 a => ?_)
    have c := zg_NU_c (g := g) (R := R)
    have q : ∀ d, d < 3 → zg_NU g R (g (4 * r + 1 + d)) := fun d hd => by
      by_cases z : g (4 * r + 1 + d) = 0
      · rw [z]; exact c.1
      · exact a d hd z
    exact c.2 r h1 h2 (q 0 (by omega)) (q 1 (by omega)) (q 2 (by omega))
  · intro h
    refine (h (fun x => x = 0 ∨ zx_SAT g R (fun _ => False) x) ⟨Or.inl rfl, fun r h1 h2 a b c => Or.inr (zx_SAT_s h1 h2 (fun d hd hz => ?_))⟩).elim (fun z => absurd z hx) id
    rcases (show d = 0 ∨ d = 1 ∨ d = 2 by omega) with z | z | z <;> subst z
    · exact a.elim (fun z => absurd z hz) id
    · exact b.elim (fun z => absurd z hz) id
    · exact c.elim (fun z => absurd z hz) id
theorem zx_SAT_PR (ok : zg_ok g R) {x : Nat} (hx : x ≠ 0) : zx_SAT g R (fun x => 1 ≤ x ∧ x < 8) x ↔ zg_PR g R x := by
  constructor
  · intro h
    have c := zg_PR_c (g := g) (R := R)
    refine h (fun x => zg_PR g R x) (fun x z => c.1 x z.2) (fun r h1 h2 a => ?_)
    have q : ∀ d, d < 3 → zg_PR g R (g (4 * r + 1 + d)) := fun d hd => by
      by_cases z : g (4 * r + 1 + d) = 0
      · rw [z]; exact c.1 0 (by omega)
      · exact a d hd z
    exact c.2 r h1 h2 (q 0 (by omega)) (q 1 (by omega)) (q 2 (by omega))
  · intro h
    refine (h (fun x => x = 0 ∨ zx_SAT g R (fun x => 1 ≤ x ∧ x < 8) x) ⟨fun x hx => ?_, fun r h1 h2 a b c => Or.inr (zx_SAT_s h1 h2 (fun d hd hz => ?_))⟩).elim (fun z => absurd z hx) id
    · by_cases z : x = 0
      · exact Or.inl z
      · exact Or.inr (zx_SAT_b ⟨by omega, hx⟩)
    · rcases (show d = 0 ∨ d = 1 ∨ d = 2 by omega) with z | z | z <;> subst z
      · exact a.elim (fun z => absurd z hz) id
      · exact b.elim (fun z => absurd z hz) id
      · exact c.elim (fun z => absurd z hz) id
variable {f_maxRules f_maxStates f_maxNodes f_maxEdges f_maxSteps f_maxLog f_finished f_lastTerminal f_lastNonterminal f_depthLimit f_built f_ruleCount f_nullable f_stateCount f_edgeCount f_callSize f_pendingSize f_conflictCount f_height f_logSize f_low f_tip f_trialLog : Int32} {a_left a_length a_need a_rhs a_level a_side a_vanishing a_go a_follow a_head a_next a_target a_mark a_entry a_cursor a_callStack a_pending a_la a_base a_table a_check a_row a_symbols a_states a_log a_trialSymbols a_trialStates : Nat → Int32} {a_before a_corner a_sets : Nat → Int64}
theorem zx_sat13 (hG : zx_GR g R a_left a_length a_need a_rhs) (B K0 : Nat → Prop) {post : Int32 → Prop} {J4 : Int32 → Int32 → Prop} {x3 : Int32} (hJ : ∀ y, zx_SI g R B K0 (R + 1) y → J4 y (x3 + 1)) :
    ∀ f i x2, 1 ≤ i → i ≤ R + 1 → R + 1 - i < f → zx_SI g R B K0 i x2 → wX_saturate_13 post J4 x3 f_maxRules f_maxStates f_maxNodes f_maxEdges f_maxSteps f_maxLog f_finished f_lastTerminal f_lastNonterminal f_depthLimit f_built (nI R) f_nullable f_stateCount f_edgeCount f_callSize f_pendingSize f_conflictCount f_height f_logSize f_low f_tip f_trialLog a_left a_length a_need a_rhs a_level a_side a_before a_corner a_vanishing a_sets a_go a_follow a_head a_next a_target a_mark a_entry a_cursor a_callStack a_pending a_la a_base a_table a_check a_row a_symbols a_states a_log a_trialSymbols a_trialStates f x2 (nI i) := by
  obtain ⟨ok, hl, hn, hd, hr⟩ := hG
  have r12 := ok.1
  intro f
  induction f with
  | zero => intro i x2 _ _ h; omega
  | succ f ih =>
    intro i x2 h1 h2 h3 hI
    refine pk_lt R i (fun h => ?_) (fun h => ?_)
    · have e : i = R + 1 := by omega
      subst e
      intro y ey
      rw [ey]
      exact hJ x2 hI
    · obtain ⟨k1, k2, k3⟩ := hI
      refine ⟨vp_in_nI (by omega) (by omega), ?_⟩
      have g16 := ok.2.2.2.2.2.2.1 (4 * i)
      have ndi : ((a_need (nI i).toNatClampNeg &&& (x2 ^^^ (-1))) = 0) ↔ ∀ d, d < 3 → g (4 * i + 1 + d) ≠ 0 → zb x2 (g (4 * i + 1 + d)) := by
        rw [nI_clamp (by omega), zb_sub]
        constructor
        · intro a d hd3 hz
          exact a _ (by have := ok.2.2.2.2.2.2.1 (4 * i + 1 + d); omega) ((hd i _ h).mpr ⟨hz, d, hd3, rfl⟩)
        · intro a x _ hx
          obtain ⟨hz, d, hd3, e⟩ := (hd i x h).mp hx
          rw [← e]; exact a d hd3 (by rw [e]; exact hz)
      refine br_c (fun c => ?_) (fun c => ?_)
      · rw [ndi] at c
        refine ⟨vp_in_nI (by omega) (by omega), fun y ey z ez => ?_⟩
        rw [ez, nI_1]
        rw [nI_clamp (by omega), hl i h] at ey
        have yb : ∀ x, zb y x ↔ zb x2 x ∨ x = g (4 * i) := fun x => by rw [ey, zb_or, zb_sh (by omega)]
        refine ih (i + 1) y (by omega) (by omega) (by omega) ⟨fun x hx => (yb x).mpr (Or.inl (k1 x hx)), fun x hx => ?_, fun r hr1 hr2 hp => ?_⟩
        · rcases (yb x).mp hx with q | q
          · exact k2 x q
          · rw [q]; exact zx_SAT_s h1 h (fun d hd3 hz => k2 _ (c d hd3 hz))
        · by_cases e : r = i
          · rw [e]; exact (yb _).mpr (Or.inr rfl)
          · exact (yb _).mpr (Or.inl (k3 r hr1 (by omega) hp))
      · rw [ndi] at c
        intro z ez
        rw [ez, nI_1]
        refine ih (i + 1) x2 (by omega) (by omega) (by omega) ⟨k1, k2, fun r hr1 hr2 hp => ?_⟩
        by_cases e : r = i
        · subst e; exact absurd (fun d hd3 hz => k1 _ (hp d hd3 hz)) c
        · exact k3 r hr1 (by omega) hp
theorem zx_sat4 (hG : zx_GR g R a_left a_length a_need a_rhs) (B : Nat → Prop) (hB : ∀ x, zx_SAT g R B x → x < 16 ∧ (B x ∨ 8 ≤ x)) {post : Int32 → Prop} (hp : ∀ m, (∀ x, zb m x ↔ zx_SAT g R B x) → post m) :
    ∀ f i x2, i ≤ 8 → 8 - i < f → (∀ x, B x → zb x2 x) → (∀ x, zb x2 x → zx_SAT g R B x) → ((∀ x, zx_SAT g R B x → zb x2 x) ∨ i ≤ zm_c (fun k => zb x2 (8 + k)) 8) → wX_saturate_4 post f_maxRules f_maxStates f_maxNodes f_maxEdges f_maxSteps f_maxLog f_finished f_lastTerminal f_lastNonterminal f_depthLimit f_built (nI R) f_nullable f_stateCount f_edgeCount f_callSize f_pendingSize f_conflictCount f_height f_logSize f_low f_tip f_trialLog a_left a_length a_need a_rhs a_level a_side a_before a_corner a_vanishing a_sets a_go a_follow a_head a_next a_target a_mark a_entry a_cursor a_callStack a_pending a_la a_base a_table a_check a_row a_symbols a_states a_log a_trialSymbols a_trialStates f x2 (nI i) := by
  intro f
  induction f with
  | zero => intro i x2 _ h; omega
  | succ f ih =>
    intro i x2 h2 h3 kb ks kc
    refine pk_le 8 i (fun h => ?_) (fun h => ?_)
    · have e : i = 8 := by omega
      subst e
      refine hp x2 (fun x => ⟨ks x, ?_⟩)
      rcases kc with kc | kc
      · exact kc x
      · intro hx
        have q := zm_c_full kc
        obtain ⟨x16, b | b⟩ := hB x hx
        · exact kb x b
        · have := q (x - 8) (by omega)
          rw [show 8 + (x - 8) = x by omega] at this
          exact this
    · refine ⟨R + 1, zx_sat13 hG B (zb x2) (fun y hy => ?_) (R + 1) 1 x2 (by omega) (by omega) (by omega) ⟨fun _ q => q, ks, fun r a b => by omega⟩⟩
      obtain ⟨y1, y2, y3⟩ := hy
      rw [nI_1]
      refine ih (i + 1) y (by omega) (by omega) (fun x hx => y1 x (kb x hx)) y2 ?_
      rcases kc with kc | kc
      · exact Or.inl fun x hx => y1 x (kc x hx)
      · rcases zm_c_grow (P := fun k => zb x2 (8 + k)) (Q := fun k => zb y (8 + k)) (N := 8) (fun k _ => y1 _) with q | q
        · refine Or.inl fun x hx => y1 x (hx (fun x => zb x2 x) kb (fun r r1 r2 a => ?_))
          have g8 := hG.1.2.2.2.2.2.1 r r1 r2
          have g16 := hG.1.2.2.2.2.2.2.1 (4 * r)
          have := q (g (4 * r) - 8) (by omega)
          rw [show 8 + (g (4 * r) - 8) = g (4 * r) by omega] at this
          exact this (y3 r r1 (by omega) a)
        · exact Or.inr (by omega)
theorem zx_saturate (hG : zx_GR g R a_left a_length a_need a_rhs) (B : Nat → Prop) {seed : Int32} (hs : ∀ x, zb seed x ↔ B x) (hB : ∀ x, B x → x < 16) {post : Int32 → Prop} (hp : ∀ m, (∀ x, zb m x ↔ zx_SAT g R B x) → post m) :
    wpX_saturate post (f_maxRules, f_maxStates, f_maxNodes, f_maxEdges, f_maxSteps, f_maxLog, f_finished, f_lastTerminal, f_lastNonterminal, f_depthLimit, f_built, nI R, f_nullable, f_stateCount, f_edgeCount, f_callSize, f_pendingSize, f_conflictCount, f_height, f_logSize, f_low, f_tip, f_trialLog, a_left, a_length, a_need, a_rhs, a_level, a_side, a_before, a_corner, a_vanishing, a_sets, a_go, a_follow, a_head, a_next, a_target, a_mark, a_entry, a_cursor, a_callStack, a_pending, a_la, a_base, a_table, a_check, a_row, a_symbols, a_states, a_log, a_trialSymbols, a_trialStates) seed := by
  refine ⟨9, zx_sat4 hG B (fun x hx => ?_) hp 9 0 seed (by omega) (by omega) (fun x h => (hs x).mpr h) (fun x h => zx_SAT_b ((hs x).mp h)) (Or.inr (Nat.zero_le _))⟩
  refine hx (fun x => x < 16 ∧ (B x ∨ 8 ≤ x)) (fun x h => ⟨hB x h, Or.inl h⟩) (fun r r1 r2 _ => ⟨hG.1.2.2.2.2.2.2.1 _, Or.inr (hG.1.2.2.2.2.2.1 r r1 r2)⟩)
def zx_US (g : Nat → Nat) (i : Nat) (x : Nat) : Prop := x = 8 ∨ ∃ r, 1 ≤ r ∧ r < i ∧ (x = g (4 * r) ∨ (x ≠ 0 ∧ ∃ d, d < 3 ∧ g (4 * r + 1 + d) = x))
theorem zx_US_PR (ok : zg_ok g R) : (∀ x, zx_US g (R + 1) x → zx_SAT g R (fun x => 1 ≤ x ∧ x < 8) x) ↔ ∀ i, zg_PR g R (g i) := by
  have c := zg_PR_c (g := g) (R := R)
  constructor
  · intro h i
    by_cases z : g i = 0
    · rw [z]; exact c.1 0 (by omega)
    · refine (zx_SAT_PR ok z).mp (h _ ?_)
      rcases Nat.lt_or_ge i (4 * R + 4) with q | q
      · by_cases i4 : i < 4
        · rcases (show i = 0 ∨ i = 1 ∨ i = 2 ∨ i = 3 by omega) with e | e | e | e <;> subst e
          · exact absurd ok.2.1 z
          · exact Or.inl ok.2.2.1
          · exact absurd ok.2.2.2.1 z
          · exact absurd ok.2.2.2.2.1 z
        · refine Or.inr ⟨i / 4, by omega, by omega, ?_⟩
          by_cases m : i % 4 = 0
          · exact Or.inl (congrArg g (by omega))
          · exact Or.inr ⟨z, i % 4 - 1, by omega, congrArg g (by omega)⟩
      · exact absurd (ok.2.2.2.2.2.2.2.2.2 i q) z
  · rintro h x (e | ⟨r, r1, r2, e | ⟨hz, d, d3, e⟩⟩)
    · have := h 1
      rw [ok.2.2.1] at this
      rw [e]; exact (zx_SAT_PR ok (by omega)).mpr this
    · have := ok.2.2.2.2.2.1 r r1 (by omega)
      rw [e]; exact (zx_SAT_PR ok (by omega)).mpr (h _)
    · rw [← e]; exact (zx_SAT_PR ok (by omega)).mpr (h _)
theorem zx_bar14 (hG : zx_GR g R a_left a_length a_need a_rhs) {post : Int32 → Prop} {x1 : Int32} (hx : ∀ x, zb x1 x ↔ zx_SAT g R (fun x => 1 ≤ x ∧ x < 8) x) (h0 : (∀ i, zg_PR g R (g i)) → post 0) (h1 : ¬ (∀ i, zg_PR g R (g i)) → post 1) :
    ∀ f i x2, 1 ≤ i → i ≤ R + 1 → R + 1 - i < f → (∀ x, zb x2 x ↔ zx_US g i x) → wX_isBarren_14 post x1 f_maxRules f_maxStates f_maxNodes f_maxEdges f_maxSteps f_maxLog f_finished f_lastTerminal f_lastNonterminal f_depthLimit f_built (nI R) f_nullable f_stateCount f_edgeCount f_callSize f_pendingSize f_conflictCount f_height f_logSize f_low f_tip f_trialLog a_left a_length a_need a_rhs a_level a_side a_before a_corner a_vanishing a_sets a_go a_follow a_head a_next a_target a_mark a_entry a_cursor a_callStack a_pending a_la a_base a_table a_check a_row a_symbols a_states a_log a_trialSymbols a_trialStates f x2 (nI i) := by
  have hU := zx_US_PR hG.1
  obtain ⟨ok, hl, hn, hd, hr⟩ := hG
  have r12 := ok.1
  intro f
  induction f with
  | zero => intro i x2 _ _ h; omega
  | succ f ih =>
    intro i x2 i1 h2 h3 hI
    refine pk_lt R i (fun h => ?_) (fun h => ?_)
    · have e : i = R + 1 := by omega
      subst e
      have key : ((x2 &&& (x1 ^^^ (-1))) = 0) ↔ ∀ i, zg_PR g R (g i) := by
        rw [zb_sub, ← hU]
        constructor
        · intro a x hx'
          have := (hI x).mpr hx'
          exact (hx x).mp (a x (zb_lt this) this)
        · intro a x _ hx'
          exact (hx x).mpr (a x ((hI x).mp hx'))
      exact br_c (fun c => h0 (key.mp c)) (fun c => h1 (fun z => c (key.mpr z)))
    · have g16 := ok.2.2.2.2.2.2.1 (4 * i)
      refine ⟨vp_in_nI (by omega) (by omega), vp_in_nI (by omega) (by omega), fun y ey z ez => ?_⟩
      rw [ez, nI_1]
      rw [nI_clamp (by omega), hl i h] at ey
      refine ih (i + 1) y (by omega) (by omega) (by omega) (fun x => ?_)
      rw [ey, zb_or, zb_or, zb_sh (by omega), hI x, hd i x h]
      unfold zx_US
      constructor
      · rintro ((a | ⟨r, a, b, c⟩) | (a | a))
        · exact Or.inl a
        · exact Or.inr ⟨r, a, by omega, c⟩
        · exact Or.inr ⟨i, i1, by omega, Or.inr a⟩
        · exact Or.inr ⟨i, i1, by omega, Or.inl a⟩
      · rintro (a | ⟨r, a, b, c⟩)
        · exact Or.inl (Or.inl a)
        · by_cases e : r = i
          · subst e
            rcases c with c | c
            · exact Or.inr (Or.inr c)
            · exact Or.inr (Or.inl c)
          · exact Or.inl (Or.inr ⟨r, a, by omega, c⟩)
theorem zx_254 : ∀ x, x < 32 → (bt 254 x = decide (1 ≤ x ∧ x < 8)) := by decide +kernel
theorem zx_256 : ∀ x, x < 32 → (bt 256 x = decide (x = 8)) := by decide +kernel
theorem zx_isBarren (hG : zx_GR g R a_left a_length a_need a_rhs) {post : Int32 → Prop} (h0 : (∀ i, zg_PR g R (g i)) → post 0) (h1 : ¬ (∀ i, zg_PR g R (g i)) → post 1) :
    wpX_isBarren post (f_maxRules, f_maxStates, f_maxNodes, f_maxEdges, f_maxSteps, f_maxLog, f_finished, f_lastTerminal, f_lastNonterminal, f_depthLimit, f_built, nI R, f_nullable, f_stateCount, f_edgeCount, f_callSize, f_pendingSize, f_conflictCount, f_height, f_logSize, f_low, f_tip, f_trialLog, a_left, a_length, a_need, a_rhs, a_level, a_side, a_before, a_corner, a_vanishing, a_sets, a_go, a_follow, a_head, a_next, a_target, a_mark, a_entry, a_cursor, a_callStack, a_pending, a_la, a_base, a_table, a_check, a_row, a_symbols, a_states, a_log, a_trialSymbols, a_trialStates) := by
  unfold wpX_isBarren
  refine zx_saturate hG (fun x => 1 ≤ x ∧ x < 8) (fun x => ?_) (fun x h => by omega) (fun m hm => ⟨R + 1, zx_bar14 hG hm h0 h1 (R + 1) 1 256 (by omega) (by omega) (by omega) (fun x => ?_)⟩)
  · rcases Nat.lt_or_ge x 32 with q | q
    · unfold zb; rw [zx_254 x q]; exact decide_eq_true_iff
    · exact ⟨fun h => absurd (zb_lt h) (by omega), fun h => by omega⟩
  · unfold zx_US
    rcases Nat.lt_or_ge x 32 with q | q
    · unfold zb; rw [zx_256 x q]
      rw [decide_eq_true_iff]
      exact ⟨Or.inl, fun h => h.elim id (fun ⟨r, a, b, _⟩ => by omega)⟩
    · exact ⟨fun h => absurd (zb_lt h) (by omega), fun h => h.elim (fun e => by omega) (fun ⟨r, a, b, _⟩ => by omega)⟩
end ZX
end
section
/-! X: indexItems, closeCorners, close -/
theorem za_8 (k : Nat) : (8 : Int32) + nI k = nI (8 + k) := nI_add 8 k
theorem za_m4 (r d : Nat) : nI r * 4 + nI d = nI (4 * r + d) := by rw [show (4 : Int32) = nI 4 from rfl, pk_mul, nI_add, Nat.mul_comm]
theorem za_x4 (r : Nat) : nI r * 4 = nI (4 * r) := by rw [show (4 : Int32) = nI 4 from rfl, pk_mul, Nat.mul_comm]
theorem za_m16 (s x : Nat) : nI s * 16 + nI x = nI (s * 16 + x) := by rw [show (16 : Int32) = nI 16 from rfl, pk_mul, nI_add]
theorem za_m13 (s x : Nat) : nI s * 13 + nI x = nI (s * 13 + x) := by rw [show (13 : Int32) = nI 13 from rfl, pk_mul, nI_add]
theorem za_m8 (s x : Nat) : nI s * 8 + nI x = nI (s * 8 + x) := by rw [show (8 : Int32) = nI 8 from rfl, pk_mul, nI_add]
theorem za_x8 (s : Nat) : nI s * 8 = nI (s * 8) := by rw [show (8 : Int32) = nI 8 from rfl, pk_mul]
theorem za_m52 (s x : Nat) : nI s * 52 + nI x = nI (s * 52 + x) := by rw [show (52 : Int32) = nI 52 from rfl, pk_mul, nI_add]
theorem za_c (n : Nat) (h : n < 2 ^ 31) : (nI n).toNatClampNeg = n := nI_clamp h
def zx_LM (g : Nat → Nat) (R m k : Nat) : Prop := ∃ s, 1 ≤ s ∧ s ≤ R ∧ g (4 * s) = 8 + m ∧ g (4 * s + 1) = 8 + k
def zx_Pt (g : Nat → Nat) (R : Nat) : Nat → Nat → Nat → Prop
  | 0 => fun b c => b = c
  | k + 1 => fun b c => zx_Pt g R k b c ∨ ((∃ m, zx_Pt g R k b m ∧ zx_LM g R m k) ∧ zx_Pt g R k k c)
def zx_CK (g : Nat → Nat) (R k b e : Nat) : Prop := ∃ s c, e = 4 * s ∧ 1 ≤ s ∧ s ≤ R ∧ g (4 * s) = 8 + c ∧ zx_Pt g R k b c
def zx_CR (g : Nat → Nat) (R b : Nat) : Nat → Prop := zg_Cl g R (fun e => ∃ s, 1 ≤ s ∧ s ≤ R ∧ g (4 * s) = 8 + b ∧ e = 4 * s)
section ZX
variable {g : Nat → Nat} {R : Nat}
theorem zx_Pt_r (b : Nat) : ∀ k, zx_Pt g R k b b
  | 0 => rfl
  | k + 1 => Or.inl (zx_Pt_r b k)
theorem zx_Pt_c : ∀ k b m c, c < k → zx_Pt g R k b m → zx_LM g R m c → zx_Pt g R k b c
  | 0, _, _, _, h, _, _ => by omega
  | k + 1, b, m, c, h, p, l => by
    by_cases e : c = k
    · subst e
      rcases p with p | ⟨p, _⟩
      · exact Or.inr ⟨⟨m, p, l⟩, zx_Pt_r _ _⟩
      · exact Or.inr ⟨p, zx_Pt_r _ _⟩
    · rcases p with p | ⟨p, q⟩
      · exact Or.inl (zx_Pt_c k b m c (by omega) p l)
      · exact Or.inr ⟨p, zx_Pt_c k k m c (by omega) q l⟩
theorem zx_Pt_s : ∀ k b c, zx_Pt g R k b c → ∀ s, 1 ≤ s → s ≤ R → g (4 * s) = 8 + c → zx_CR g R b (4 * s)
  | 0, b, c, p, s, h1, h2, h3 => by
    have e : b = c := p
    subst e
    exact zg_Cl_base ⟨s, h1, h2, h3, rfl⟩
  | k + 1, b, c, p, s, h1, h2, h3 => by
    rcases p with p | ⟨⟨m, p, s1, a1, a2, a3, a4⟩, q⟩
    · exact zx_Pt_s k b c p s h1 h2 h3
    · have c1 := zx_Pt_s k b m p s1 a1 a2 a3
      have c2 := zx_Pt_s k k c q s h1 h2 h3
      refine zg_Cl_ind (P := fun e => zx_CR g R b e) ?_ (fun e s _ ih u1 u2 u3 => zg_Cl_step ih u1 u2 u3) c2
      rintro e ⟨s2, b1, b2, b3, rfl⟩
      refine zg_Cl_step c1 b1 b2 ?_
      rw [zg_af_m (by omega), a4, b3]
theorem zx_CK_8 (ok : zg_ok g R) {b e : Nat} : zx_CK g R 8 b e ↔ zx_CR g R b e := by
  constructor
  · rintro ⟨s, c, rfl, h1, h2, h3, h4⟩
    exact zx_Pt_s 8 b c h4 s h1 h2 h3
  · intro h
    refine zg_Cl_ind (P := fun e => zx_CK g R 8 b e) ?_ ?_ h
    · rintro e ⟨s, h1, h2, h3, rfl⟩
      exact ⟨s, b, rfl, h1, h2, h3, zx_Pt_r _ _⟩
    · rintro e s _ ⟨s1, c, rfl, a1, a2, a3, a4⟩ h1 h2 h3
      have q := ok.2.2.2.2.2.1 s h1 h2
      have q2 := ok.2.2.2.2.2.2.1 (4 * s)
      rw [zg_af_m (by omega)] at h3
      exact ⟨s, g (4 * s) - 8, rfl, h1, h2, by omega, zx_Pt_c 8 b c _ (by omega) a4 ⟨s1, a1, a2, a3, by omega⟩⟩
theorem zx_Cl_K (ok : zg_ok g R) {K : Nat → Prop} {e : Nat} : zg_Cl g R K e ↔ K e ∨ ∃ k, k < 8 ∧ (∃ f, K f ∧ zg_af g f = 8 + k) ∧ zx_CR g R k e := by
  constructor
  · intro h
    refine zg_Cl_ind (P := fun e => K e ∨ ∃ k, k < 8 ∧ (∃ f, K f ∧ zg_af g f = 8 + k) ∧ zx_CR g R k e) (fun _ => Or.inl) ?_ h
    intro e s _ ih h1 h2 h3
    have q := ok.2.2.2.2.2.1 s h1 h2
    have q2 := ok.2.2.2.2.2.2.1 (4 * s)
    rcases ih with ih | ⟨k, k8, kf, kc⟩
    · exact Or.inr ⟨g (4 * s) - 8, by omega, ⟨e, ih, by omega⟩, zg_Cl_base ⟨s, h1, h2, by omega, rfl⟩⟩
    · exact Or.inr ⟨k, k8, kf, zg_Cl_step kc h1 h2 h3⟩
  · rintro (h | ⟨k, k8, ⟨f, f1, f2⟩, kc⟩)
    · exact zg_Cl_base h
    · refine zg_Cl_ind (P := fun e => zg_Cl g R K e) ?_ (fun e s _ ih u1 u2 u3 => zg_Cl_step ih u1 u2 u3) kc
      rintro e ⟨s, h1, h2, h3, rfl⟩
      exact zg_Cl_step (zg_Cl_base f1) h1 h2 (by omega)
theorem zx_Pt_k {k c : Nat} : zx_Pt g R (k + 1) k c ↔ zx_Pt g R k k c := ⟨fun h => h.elim id (fun h => h.2), Or.inl⟩
def zx_BI (g : Nat → Nat) (lim : Nat) (a_before : Nat → Int64) : Prop := ∀ x e, x < 16 → (zB (a_before x) e ↔ e < lim ∧ zg_af g e = x ∧ x ≠ 0)
def zx_CI (g : Nat → Nat) (lim : Nat) (a_corner : Nat → Int64) : Prop := ∀ k e, k < 8 → (zB (a_corner k) e ↔ ∃ s, 1 ≤ s ∧ s < lim ∧ e = 4 * s ∧ g (4 * s) = 8 + k)
/-- the items before a symbol, the start items below a nonterminal -/
def zx_IX (g : Nat → Nat) (R : Nat) (a_before a_corner : Nat → Int64) : Prop :=
  (∀ x e, x < 16 → (zB (a_before x) e ↔ zg_af g e = x ∧ x ≠ 0)) ∧ ∀ k e, k < 8 → (zB (a_corner k) e ↔ zx_CR g R k e)
variable {f_maxRules f_maxStates f_maxNodes f_maxEdges f_maxSteps f_maxLog f_finished f_lastTerminal f_lastNonterminal f_depthLimit f_built f_ruleCount f_nullable f_stateCount f_edgeCount f_callSize f_pendingSize f_conflictCount f_height f_logSize f_low f_tip f_trialLog : Int32} {a_left a_length a_need a_rhs a_level a_side a_vanishing a_go a_follow a_head a_next a_target a_mark a_entry a_cursor a_callStack a_pending a_la a_base a_table a_check a_row a_symbols a_states a_log a_trialSymbols a_trialStates : Nat → Int32} {a_before a_corner a_sets : Nat → Int64}
theorem zx_cc10 (hB : ∀ x e, x < 16 → (zB (a_before x) e ↔ zg_af g e = x ∧ x ≠ 0)) {post : SX → Prop} {k : Nat} (hk : k < 8)
    {J2 : Int32 → (Nat → Int32) → (Nat → Int32) → (Nat → Int32) → (Nat → Int32) → (Nat → Int32) → (Nat → Int32) → (Nat → Int64) → (Nat → Int64) → (Nat → Int32) → (Nat → Int64) → (Nat → Int32) → (Nat → Int32) → (Nat → Int32) → (Nat → Int32) → (Nat → Int32) → (Nat → Int32) → (Nat → Int32) → (Nat → Int32) → (Nat → Int32) → (Nat → Int32) → (Nat → Int32) → (Nat → Int32) → (Nat → Int32) → (Nat → Int32) → (Nat → Int32) → (Nat → Int32) → (Nat → Int32) → (Nat → Int32) → (Nat → Int32) → (Nat → Int32) → Prop}
    (hJ : ∀ C : Nat → Int64, (∀ b e, b < 8 → (zB (C b) e ↔ zx_CK g R (k + 1) b e)) → J2 (nI (k + 1)) a_left a_length a_need a_rhs a_level a_side a_before C a_vanishing a_sets a_go a_follow a_head a_next a_target a_mark a_entry a_cursor a_callStack a_pending a_la a_base a_table a_check a_row a_symbols a_states a_log a_trialSymbols a_trialStates) :
    ∀ f b (C : Nat → Int64), b ≤ 8 → 8 - b < f → (∀ b' e, b' < 8 → (zB (C b') e ↔ zx_CK g R (if b' < b then k + 1 else k) b' e)) →
      wX_closeCorners_10 post J2 (nI k) f_maxRules f_maxStates f_maxNodes f_maxEdges f_maxSteps f_maxLog f_finished f_lastTerminal f_lastNonterminal f_depthLimit f_built f_ruleCount f_nullable f_stateCount f_edgeCount f_callSize f_pendingSize f_conflictCount f_height f_logSize f_low f_tip f_trialLog f (nI b) a_left a_length a_need a_rhs a_level a_side a_before C a_vanishing a_sets a_go a_follow a_head a_next a_target a_mark a_entry a_cursor a_callStack a_pending a_la a_base a_table a_check a_row a_symbols a_states a_log a_trialSymbols a_trialStates := by
  intro f
  induction f with
  | zero => intro b C _ h; omega
  | succ f ih =>
    intro b C hb h3 hC
    refine pk_le 8 b (fun h => ?_) (fun h => ?_)
    · intro y ey
      rw [ey, nI_1]
      refine hJ C (fun b' e hb' => ?_)
      have := hC b' e hb'
      rw [if_pos (by omega)] at this
      exact this
    · refine ⟨vp_in_nI (by omega) (by omega), ?_⟩
      rw [za_8]
      refine ⟨vp_in_nI (by omega) (by omega), ?_⟩
      rw [za_c b (by omega), za_c (8 + k) (by omega)]
      have cond : (C b &&& a_before (8 + k)) = 0 ↔ ¬ ∃ m, zx_Pt g R k b m ∧ zx_LM g R m k := by
        rw [zB_z]
        constructor
        · rintro a ⟨m, p, s, s1, s2, s3, s4⟩
          refine a (4 * s) (zB_and.mpr ⟨(hC b _ h).mpr ?_, (hB (8 + k) _ (by omega)).mpr ⟨?_, by omega⟩⟩)
          · rw [if_neg (by omega)]
            exact ⟨s, m, rfl, s1, s2, s3, p⟩
          · rw [zg_af_m (by omega), s4]
        · intro a i z
          obtain ⟨z1, z2⟩ := zB_and.mp z
          have z1 := (hC b _ h).mp z1
          rw [if_neg (by omega)] at z1
          obtain ⟨s, c, rfl, s1, s2, s3, p⟩ := z1
          have z2 := ((hB (8 + k) _ (by omega)).mp z2).1
          rw [zg_af_m (by omega)] at z2
          exact a ⟨c, p, s, s1, s2, s3, z2⟩
      refine br_c (fun c => ?_) (fun c => ?_)
      · rw [cond] at c
        intro y ey
        rw [ey, nI_1]
        refine ih (b + 1) C (by omega) (by omega) (fun b' e hb' => ?_)
        rw [hC b' e hb']
        by_cases q : b' = b
        · subst q
          rw [if_neg (by omega), if_pos (by omega)]
          unfold zx_CK
          constructor
          · rintro ⟨s, c', e1, s1, s2, s3, p⟩; exact ⟨s, c', e1, s1, s2, s3, Or.inl p⟩
          · rintro ⟨s, c', e1, s1, s2, s3, p | p⟩
            · exact ⟨s, c', e1, s1, s2, s3, p⟩
            · exact absurd p.1 c
        · by_cases q2 : b' < b
          · rw [if_pos q2, if_pos (by omega)]
          · rw [if_neg q2, if_neg (by omega)]
      · rw [cond] at c
        have c := Classical.not_not.mp c
        refine ⟨vp_in_nI (by omega) (by omega), vp_in_nI (by omega) (by omega), vp_in_nI (by omega) (by omega), fun C' eC y ey => ?_⟩
        rw [ey, nI_1]
        rw [za_c k (by omega)] at eC
        refine ih (b + 1) C' (by omega) (by omega) (fun b' e hb' => ?_)
        by_cases q : b' = b
        · subst q
          rw [if_pos (by omega), eC, pk_uLs, zB_or, hC b' e hb', hC k e hk, if_neg (by omega)]
          have kk : zx_CK g R (if k < b' then k + 1 else k) k e ↔ zx_CK g R k k e := by
            by_cases q : k < b'
            · rw [if_pos q]
              unfold zx_CK
              constructor
              · rintro ⟨s, c', e1, s1, s2, s3, p⟩; exact ⟨s, c', e1, s1, s2, s3, zx_Pt_k.mp p⟩
              · rintro ⟨s, c', e1, s1, s2, s3, p⟩; exact ⟨s, c', e1, s1, s2, s3, zx_Pt_k.mpr p⟩
            · rw [if_neg q]
          rw [kk]
          unfold zx_CK
          constructor
          · rintro (⟨s, c', e1, s1, s2, s3, p⟩ | ⟨s, c', e1, s1, s2, s3, p⟩)
            · exact ⟨s, c', e1, s1, s2, s3, Or.inl p⟩
            · exact ⟨s, c', e1, s1, s2, s3, Or.inr ⟨c, p⟩⟩
          · rintro ⟨s, c', e1, s1, s2, s3, p | p⟩
            · exact Or.inl ⟨s, c', e1, s1, s2, s3, p⟩
            · exact Or.inr ⟨s, c', e1, s1, s2, s3, p.2⟩
        · rw [eC, pk_uLn q, hC b' e hb']
          by_cases q2 : b' < b
          · rw [if_pos q2, if_pos (by omega)]
          · rw [if_neg q2, if_neg (by omega)]
theorem zx_cc2 (hB : ∀ x e, x < 16 → (zB (a_before x) e ↔ zg_af g e = x ∧ x ≠ 0)) {post : SX → Prop}
    (hp : ∀ C : Nat → Int64, (∀ b e, b < 8 → (zB (C b) e ↔ zx_CK g R 8 b e)) → post (f_maxRules, f_maxStates, f_maxNodes, f_maxEdges, f_maxSteps, f_maxLog, f_finished, f_lastTerminal, f_lastNonterminal, f_depthLimit, f_built, f_ruleCount, f_nullable, f_stateCount, f_edgeCount, f_callSize, f_pendingSize, f_conflictCount, f_height, f_logSize, f_low, f_tip, f_trialLog, a_left, a_length, a_need, a_rhs, a_level, a_side, a_before, C, a_vanishing, a_sets, a_go, a_follow, a_head, a_next, a_target, a_mark, a_entry, a_cursor, a_callStack, a_pending, a_la, a_base, a_table, a_check, a_row, a_symbols, a_states, a_log, a_trialSymbols, a_trialStates)) :
    ∀ f k (C : Nat → Int64), k ≤ 8 → 8 - k < f → (∀ b e, b < 8 → (zB (C b) e ↔ zx_CK g R k b e)) → wX_closeCorners_2 post f_maxRules f_maxStates f_maxNodes f_maxEdges f_maxSteps f_maxLog f_finished f_lastTerminal f_lastNonterminal f_depthLimit f_built f_ruleCount f_nullable f_stateCount f_edgeCount f_callSize f_pendingSize f_conflictCount f_height f_logSize f_low f_tip f_trialLog f (nI k) a_left a_length a_need a_rhs a_level a_side a_before C a_vanishing a_sets a_go a_follow a_head a_next a_target a_mark a_entry a_cursor a_callStack a_pending a_la a_base a_table a_check a_row a_symbols a_states a_log a_trialSymbols a_trialStates := by
  intro f
  induction f with
  | zero => intro b C _ h; omega
  | succ f ih =>
    intro k C hk h3 hC
    refine pk_le 8 k (fun h => ?_) (fun h => ?_)
    · have e : k = 8 := by omega
      subst e
      exact hp C hC
    · refine ⟨9, zx_cc10 hB h (fun C' hC' => ih (k + 1) C' (by omega) (by omega) hC') 9 0 C (by omega) (by omega) (fun b' e hb' => ?_)⟩
      rw [if_neg (by omega)]
      exact hC b' e hb'
theorem zx_closeCorners (ok : zg_ok g R) (hB : ∀ x e, x < 16 → (zB (a_before x) e ↔ zg_af g e = x ∧ x ≠ 0)) (hC : zx_CI g (R + 1) a_corner) {post : SX → Prop}
    (hp : ∀ C : Nat → Int64, zx_IX g R a_before C → post (f_maxRules, f_maxStates, f_maxNodes, f_maxEdges, f_maxSteps, f_maxLog, f_finished, f_lastTerminal, f_lastNonterminal, f_depthLimit, f_built, f_ruleCount, f_nullable, f_stateCount, f_edgeCount, f_callSize, f_pendingSize, f_conflictCount, f_height, f_logSize, f_low, f_tip, f_trialLog, a_left, a_length, a_need, a_rhs, a_level, a_side, a_before, C, a_vanishing, a_sets, a_go, a_follow, a_head, a_next, a_target, a_mark, a_entry, a_cursor, a_callStack, a_pending, a_la, a_base, a_table, a_check, a_row, a_symbols, a_states, a_log, a_trialSymbols, a_trialStates)) : wpX_closeCorners post (f_maxRules, f_maxStates, f_maxNodes, f_maxEdges, f_maxSteps, f_maxLog, f_finished, f_lastTerminal, f_lastNonterminal, f_depthLimit, f_built, f_ruleCount, f_nullable, f_stateCount, f_edgeCount, f_callSize, f_pendingSize, f_conflictCount, f_height, f_logSize, f_low, f_tip, f_trialLog, a_left, a_length, a_need, a_rhs, a_level, a_side, a_before, a_corner, a_vanishing, a_sets, a_go, a_follow, a_head, a_next, a_target, a_mark, a_entry, a_cursor, a_callStack, a_pending, a_la, a_base, a_table, a_check, a_row, a_symbols, a_states, a_log, a_trialSymbols, a_trialStates) := by
  refine ⟨9, zx_cc2 (R := R) hB (fun C hC => hp C ⟨hB, fun k e hk => (hC k e hk).trans (zx_CK_8 ok)⟩) 9 0 a_corner (by omega) (by omega) (fun b e hb => ?_)⟩
  rw [hC b e hb]
  unfold zx_CK
  constructor
  · rintro ⟨s, h1, h2, h3, h4⟩; exact ⟨s, b, h3, h1, by omega, h4, rfl⟩
  · rintro ⟨s, c, h1, h2, h3, h4, h5⟩
    have e : b = c := h5
    subst e
    exact ⟨s, h2, by omega, h1, h4⟩
theorem zx_close5 (ok : zg_ok g R) (hI : zx_IX g R a_before a_corner) {post : Int64 → Prop} {K : Int64} (hp : ∀ m, (∀ e, zB m e ↔ zg_Cl g R (zB K) e) → post m) :
    ∀ f i x3, i ≤ 8 → 8 - i < f → (∀ e, zB x3 e ↔ zB K e ∨ ∃ k, k < i ∧ (∃ f, zB K f ∧ zg_af g f = 8 + k) ∧ zx_CR g R k e) → wX_close_5 post K f_maxRules f_maxStates f_maxNodes f_maxEdges f_maxSteps f_maxLog f_finished f_lastTerminal f_lastNonterminal f_depthLimit f_built f_ruleCount f_nullable f_stateCount f_edgeCount f_callSize f_pendingSize f_conflictCount f_height f_logSize f_low f_tip f_trialLog a_left a_length a_need a_rhs a_level a_side a_before a_corner a_vanishing a_sets a_go a_follow a_head a_next a_target a_mark a_entry a_cursor a_callStack a_pending a_la a_base a_table a_check a_row a_symbols a_states a_log a_trialSymbols a_trialStates f x3 (nI i) := by
  intro f
  induction f with
  | zero => intro i x3 _ h; omega
  | succ f ih =>
    intro i x3 hi h3 hx
    refine pk_le 8 i (fun h => ?_) (fun h => ?_)
    · have e : i = 8 := by omega
      subst e
      exact hp x3 (fun e => (hx e).trans (zx_Cl_K ok).symm)
    · rw [za_8]
      refine ⟨vp_in_nI (by omega) (by omega), ?_⟩
      rw [za_c (8 + i) (by omega)]
      have cond : (K &&& a_before (8 + i)) = 0 ↔ ¬ ∃ f, zB K f ∧ zg_af g f = 8 + i := by
        rw [zB_z]
        constructor
        · rintro a ⟨e, p, q⟩
          exact a e (zB_and.mpr ⟨p, (hI.1 _ _ (by omega)).mpr ⟨q, by omega⟩⟩)
        · intro a e z
          obtain ⟨z1, z2⟩ := zB_and.mp z
          exact a ⟨e, z1, ((hI.1 _ _ (by omega)).mp z2).1⟩
      refine br_c (fun c => ?_) (fun c => ?_)
      · rw [cond] at c
        intro y ey
        rw [ey, nI_1]
        refine ih (i + 1) x3 (by omega) (by omega) (fun e => ?_)
        rw [hx e]
        constructor
        · rintro (a | ⟨k, a, b⟩)
          · exact Or.inl a
          · exact Or.inr ⟨k, by omega, b⟩
        · rintro (a | ⟨k, a, b⟩)
          · exact Or.inl a
          · by_cases q : k = i
            · subst q; exact absurd b.1 c
            · exact Or.inr ⟨k, by omega, b⟩
      · rw [cond] at c
        have c := Classical.not_not.mp c
        refine ⟨vp_in_nI (by omega) (by omega), fun z ez y ey => ?_⟩
        rw [ey, nI_1]
        rw [za_c i (by omega)] at ez
        refine ih (i + 1) z (by omega) (by omega) (fun e => ?_)
        rw [ez, zB_or, hx e, hI.2 i e h]
        constructor
        · rintro ((a | ⟨k, a, b⟩) | a)
          · exact Or.inl a
          · exact Or.inr ⟨k, by omega, b⟩
          · exact Or.inr ⟨i, by omega, c, a⟩
        · rintro (a | ⟨k, a, b⟩)
          · exact Or.inl (Or.inl a)
          · by_cases q : k = i
            · subst q; exact Or.inr b.2
            · exact Or.inl (Or.inr ⟨k, by omega, b⟩)
theorem zx_close (ok : zg_ok g R) (hI : zx_IX g R a_before a_corner) {post : Int64 → Prop} {K : Int64} (hp : ∀ m, (∀ e, zB m e ↔ zg_Cl g R (zB K) e) → post m) : wpX_close post (f_maxRules, f_maxStates, f_maxNodes, f_maxEdges, f_maxSteps, f_maxLog, f_finished, f_lastTerminal, f_lastNonterminal, f_depthLimit, f_built, f_ruleCount, f_nullable, f_stateCount, f_edgeCount, f_callSize, f_pendingSize, f_conflictCount, f_height, f_logSize, f_low, f_tip, f_trialLog, a_left, a_length, a_need, a_rhs, a_level, a_side, a_before, a_corner, a_vanishing, a_sets, a_go, a_follow, a_head, a_next, a_target, a_mark, a_entry, a_cursor, a_callStack, a_pending, a_la, a_base, a_table, a_check, a_row, a_symbols, a_states, a_log, a_trialSymbols, a_trialStates) K :=
  ⟨9, zx_close5 ok hI hp 9 0 K (by omega) (by omega) (fun e => ⟨Or.inl, fun h => h.elim id (fun ⟨k, a, _⟩ => by omega)⟩)⟩
end ZX
end
section
/-! X: indexItems -/
section ZX
variable {g : Nat → Nat} {R : Nat} {f_maxRules f_maxStates f_maxNodes f_maxEdges f_maxSteps f_maxLog f_finished f_lastTerminal f_lastNonterminal f_depthLimit f_built f_ruleCount f_nullable f_stateCount f_edgeCount f_callSize f_pendingSize f_conflictCount f_height f_logSize f_low f_tip f_trialLog : Int32} {a_left a_length a_need a_rhs a_level a_side a_vanishing a_go a_follow a_head a_next a_target a_mark a_entry a_cursor a_callStack a_pending a_la a_base a_table a_check a_row a_symbols a_states a_log a_trialSymbols a_trialStates : Nat → Int32} {a_before a_corner a_sets : Nat → Int64}
theorem zx_ix54 (hG : zx_GR g R a_left a_length a_need a_rhs) {post : SX → Prop} {r : Nat} (hr : r ≤ R) {C : Nat → Int64} (hC : zx_CI g r C)
    {J44 : Int32 → (Nat → Int32) → (Nat → Int32) → (Nat → Int32) → (Nat → Int32) → (Nat → Int32) → (Nat → Int32) → (Nat → Int64) → (Nat → Int64) → (Nat → Int32) → (Nat → Int64) → (Nat → Int32) → (Nat → Int32) → (Nat → Int32) → (Nat → Int32) → (Nat → Int32) → (Nat → Int32) → (Nat → Int32) → (Nat → Int32) → (Nat → Int32) → (Nat → Int32) → (Nat → Int32) → (Nat → Int32) → (Nat → Int32) → (Nat → Int32) → (Nat → Int32) → (Nat → Int32) → (Nat → Int32) → (Nat → Int32) → (Nat → Int32) → (Nat → Int32) → Prop}
    (hJ : ∀ B C : Nat → Int64, zx_BI g (4 * (r + 1)) B → zx_CI g (r + 1) C → J44 (nI (r + 1)) a_left a_length a_need a_rhs a_level a_side B C a_vanishing a_sets a_go a_follow a_head a_next a_target a_mark a_entry a_cursor a_callStack a_pending a_la a_base a_table a_check a_row a_symbols a_states a_log a_trialSymbols a_trialStates) :
    ∀ f d (B : Nat → Int64), d ≤ zg_ln g r → zg_ln g r - d < f → zx_BI g (4 * r + d) B →
      wX_indexItems_54 post J44 (nI r) f_maxRules f_maxStates f_maxNodes f_maxEdges f_maxSteps f_maxLog f_finished f_lastTerminal f_lastNonterminal f_depthLimit f_built f_ruleCount f_nullable f_stateCount f_edgeCount f_callSize f_pendingSize f_conflictCount f_height f_logSize f_low f_tip f_trialLog f (nI d) a_left a_length a_need a_rhs a_level a_side B C a_vanishing a_sets a_go a_follow a_head a_next a_target a_mark a_entry a_cursor a_callStack a_pending a_la a_base a_table a_check a_row a_symbols a_states a_log a_trialSymbols a_trialStates := by
  obtain ⟨ok, hl, hn, hd, hrs⟩ := hG
  have r12 := ok.1
  have l3 := zg_ln_le (g := g) r
  intro f
  induction f with
  | zero => intro d B _ h; omega
  | succ f ih =>
    intro d B hd' h3 hB
    refine ⟨vp_in_nI (by omega) (by omega), ?_⟩
    rw [za_c r (by omega), hn r hr]
    refine pk_le (zg_ln g r) d (fun h => ?_) (fun h => ?_)
    · have e : d = zg_ln g r := by omega
      have hB' : zx_BI g (4 * (r + 1)) B := by
        intro x e' hx
        rw [hB x e' hx]
        constructor
        · rintro ⟨a, b, c⟩; exact ⟨by omega, b, c⟩
        · rintro ⟨a, b, c⟩
          refine ⟨?_, b, c⟩
          rcases Nat.lt_or_ge e' (4 * r + d) with q | q
          · exact q
          · exfalso
            have m : zg_af g (4 * r + (e' - 4 * r)) ≠ 0 := by rw [show 4 * r + (e' - 4 * r) = e' by omega, b]; exact c
            have := (zg_lnI ok (by omega)).mp m
            omega
      refine pk_le r 0 (fun h0 => ?_) (fun h0 => ?_)
      · intro y ey
        rw [ey, nI_1]
        refine hJ B C hB' (fun k e' hk => ?_)
        rw [hC k e' hk]
        constructor
        · rintro ⟨s, a, b, c⟩; exact ⟨s, a, by omega, c⟩
        · rintro ⟨s, a, b, c⟩; omega
      · have g8 := ok.2.2.2.2.2.1 r (by omega) hr
        have g16 := ok.2.2.2.2.2.2.1 (4 * r)
        refine ⟨vp_in_nI (by omega) (by omega), ?_⟩
        rw [hl r hr, show nI (g (4 * r)) - 8 = nI (g (4 * r) - 8) from pk_sub (b := 8) g8]
        refine ⟨vp_in_nI (by omega) (by omega), vp_in_nI (by omega) (by omega), fun C' eC y ey => ?_⟩
        rw [ey, nI_1]
        rw [za_c _ (by omega), za_x4] at eC
        refine hJ B C' hB' (fun k e' hk => ?_)
        by_cases q : k = g (4 * r) - 8
        · subst q
          rw [eC, pk_uLs, zB_or, hC _ e' hk, zB_sh (by omega)]
          constructor
          · rintro (⟨s, a, b, c⟩ | a)
            · exact ⟨s, a, by omega, c⟩
            · exact ⟨r, by omega, by omega, a, by omega⟩
          · rintro ⟨s, a, b, c, c'⟩
            by_cases q : s = r
            · subst q; exact Or.inr c
            · exact Or.inl ⟨s, a, by omega, c, c'⟩
        · rw [eC, pk_uLn q, hC k e' hk]
          constructor
          · rintro ⟨s, a, b, c⟩; exact ⟨s, a, by omega, c⟩
          · rintro ⟨s, a, b, c, c'⟩
            have : s ≠ r := fun q' => by subst q'; omega
            exact ⟨s, a, by omega, c, c'⟩
    · obtain ⟨n1, n2, n3⟩ := zg_ln_nz ok h
      have g16 := ok.2.2.2.2.2.2.1 (4 * r + 1 + d)
      rw [za_m4]
      refine ⟨vp_in_nI (by omega) (by omega), ?_⟩
      rw [za_c _ (by omega), hrs _ (by omega), n3]
      refine ⟨vp_in_nI (by omega) (by omega), vp_in_nI (by omega) (by omega), fun B' eB y ey => ?_⟩
      rw [ey, nI_1]
      rw [za_c _ (by omega)] at eB
      refine ih (d + 1) B' (by omega) (by omega) (fun x e' hx => ?_)
      by_cases q : x = g (4 * r + 1 + d)
      · subst q
        rw [eB, pk_uLs, zB_or, hB _ e' hx, zB_sh (by omega)]
        constructor
        · rintro (⟨a, b, c⟩ | a)
          · exact ⟨by omega, b, c⟩
          · subst a; exact ⟨by omega, n3, n1⟩
        · rintro ⟨a, b, c⟩
          by_cases q : e' = 4 * r + d
          · exact Or.inr q
          · exact Or.inl ⟨by omega, b, c⟩
      · rw [eB, pk_uLn q, hB x e' hx]
        constructor
        · rintro ⟨a, b, c⟩; exact ⟨by omega, b, c⟩
        · rintro ⟨a, b, c⟩
          have : e' ≠ 4 * r + d := fun q' => by subst q'; exact q (b.symm.trans n3)
          exact ⟨by omega, b, c⟩
theorem zx_ix44 (hG : zx_GR g R a_left a_length a_need a_rhs) {post : SX → Prop} (hp : ∀ B C : Nat → Int64, zx_IX g R B C → post (f_maxRules, f_maxStates, f_maxNodes, f_maxEdges, f_maxSteps, f_maxLog, f_finished, f_lastTerminal, f_lastNonterminal, f_depthLimit, f_built, nI R, f_nullable, f_stateCount, f_edgeCount, f_callSize, f_pendingSize, f_conflictCount, f_height, f_logSize, f_low, f_tip, f_trialLog, a_left, a_length, a_need, a_rhs, a_level, a_side, B, C, a_vanishing, a_sets, a_go, a_follow, a_head, a_next, a_target, a_mark, a_entry, a_cursor, a_callStack, a_pending, a_la, a_base, a_table, a_check, a_row, a_symbols, a_states, a_log, a_trialSymbols, a_trialStates)) :
    ∀ f r (B C : Nat → Int64), r ≤ R + 1 → R + 1 - r < f → zx_BI g (4 * r) B → zx_CI g r C → wX_indexItems_44 post f_maxRules f_maxStates f_maxNodes f_maxEdges f_maxSteps f_maxLog f_finished f_lastTerminal f_lastNonterminal f_depthLimit f_built (nI R) f_nullable f_stateCount f_edgeCount f_callSize f_pendingSize f_conflictCount f_height f_logSize f_low f_tip f_trialLog f (nI r) a_left a_length a_need a_rhs a_level a_side B C a_vanishing a_sets a_go a_follow a_head a_next a_target a_mark a_entry a_cursor a_callStack a_pending a_la a_base a_table a_check a_row a_symbols a_states a_log a_trialSymbols a_trialStates := by
  have r12 := hG.1.1
  intro f
  induction f with
  | zero => intro r B C _ h; omega
  | succ f ih =>
    intro r B C hr h3 hB hC
    refine pk_lt R r (fun h => ?_) (fun h => ?_)
    · have e : r = R + 1 := by omega
      subst e
      refine zx_closeCorners hG.1 (fun x e hx => ?_) hC (fun C' h => hp B C' h)
      rw [hB x e hx]
      constructor
      · exact fun z => z.2
      · intro z
        have := zg_af_lt hG.1 (e := e) (by rw [z.1]; exact z.2)
        exact ⟨by omega, z⟩
    · exact ⟨4, zx_ix54 hG h hC (fun B' C' h1 h2 => ih (r + 1) B' C' (by omega) (by omega) h1 h2) 4 0 B (by omega) (by have := zg_ln_le (g := g) r; omega) hB⟩
theorem zx_ix23 (hG : zx_GR g R a_left a_length a_need a_rhs) {post : SX → Prop} (hp : ∀ B C : Nat → Int64, zx_IX g R B C → post (f_maxRules, f_maxStates, f_maxNodes, f_maxEdges, f_maxSteps, f_maxLog, f_finished, f_lastTerminal, f_lastNonterminal, f_depthLimit, f_built, nI R, f_nullable, f_stateCount, f_edgeCount, f_callSize, f_pendingSize, f_conflictCount, f_height, f_logSize, f_low, f_tip, f_trialLog, a_left, a_length, a_need, a_rhs, a_level, a_side, B, C, a_vanishing, a_sets, a_go, a_follow, a_head, a_next, a_target, a_mark, a_entry, a_cursor, a_callStack, a_pending, a_la, a_base, a_table, a_check, a_row, a_symbols, a_states, a_log, a_trialSymbols, a_trialStates)) {B : Nat → Int64} (hB : ∀ x, x < 16 → B x = 0) :
    ∀ f i (C : Nat → Int64), i ≤ 8 → 8 - i < f → (∀ k, k < i → C k = 0) → wX_indexItems_23 post f_maxRules f_maxStates f_maxNodes f_maxEdges f_maxSteps f_maxLog f_finished f_lastTerminal f_lastNonterminal f_depthLimit f_built (nI R) f_nullable f_stateCount f_edgeCount f_callSize f_pendingSize f_conflictCount f_height f_logSize f_low f_tip f_trialLog f (nI i) a_left a_length a_need a_rhs a_level a_side B C a_vanishing a_sets a_go a_follow a_head a_next a_target a_mark a_entry a_cursor a_callStack a_pending a_la a_base a_table a_check a_row a_symbols a_states a_log a_trialSymbols a_trialStates := by
  intro f
  induction f with
  | zero => intro r C _ h; omega
  | succ f ih =>
    intro i C hi h3 hC
    refine pk_le 8 i (fun h => ?_) (fun h => ?_)
    · refine ⟨R + 2, zx_ix44 hG hp (R + 2) 0 B C (by omega) (by omega) (fun x e hx => ?_) (fun k e hk => ?_)⟩
      · rw [hB x hx]; exact ⟨fun z => absurd z zB_0, fun z => by omega⟩
      · rw [hC k (by omega)]; exact ⟨fun z => absurd z zB_0, fun ⟨s, a, b, _⟩ => by omega⟩
    · refine ⟨vp_in_nI (by omega) (by omega), fun C' eC y ey => ?_⟩
      rw [ey, nI_1]
      rw [za_c i (by omega)] at eC
      refine ih (i + 1) C' (by omega) (by omega) (fun k hk => ?_)
      by_cases q : k = i
      · rw [eC, q, pk_uLs]
      · rw [eC, pk_uLn q]; exact hC k (by omega)
theorem zx_ix2 (hG : zx_GR g R a_left a_length a_need a_rhs) {post : SX → Prop} (hp : ∀ B C : Nat → Int64, zx_IX g R B C → post (f_maxRules, f_maxStates, f_maxNodes, f_maxEdges, f_maxSteps, f_maxLog, f_finished, f_lastTerminal, f_lastNonterminal, f_depthLimit, f_built, nI R, f_nullable, f_stateCount, f_edgeCount, f_callSize, f_pendingSize, f_conflictCount, f_height, f_logSize, f_low, f_tip, f_trialLog, a_left, a_length, a_need, a_rhs, a_level, a_side, B, C, a_vanishing, a_sets, a_go, a_follow, a_head, a_next, a_target, a_mark, a_entry, a_cursor, a_callStack, a_pending, a_la, a_base, a_table, a_check, a_row, a_symbols, a_states, a_log, a_trialSymbols, a_trialStates)) :
    ∀ f i (B : Nat → Int64), i ≤ 16 → 16 - i < f → (∀ k, k < i → B k = 0) → wX_indexItems_2 post f_maxRules f_maxStates f_maxNodes f_maxEdges f_maxSteps f_maxLog f_finished f_lastTerminal f_lastNonterminal f_depthLimit f_built (nI R) f_nullable f_stateCount f_edgeCount f_callSize f_pendingSize f_conflictCount f_height f_logSize f_low f_tip f_trialLog f (nI i) a_left a_length a_need a_rhs a_level a_side B a_corner a_vanishing a_sets a_go a_follow a_head a_next a_target a_mark a_entry a_cursor a_callStack a_pending a_la a_base a_table a_check a_row a_symbols a_states a_log a_trialSymbols a_trialStates := by
  intro f
  induction f with
  | zero => intro r C _ h; omega
  | succ f ih =>
    intro i B hi h3 hB
    refine pk_le 16 i (fun h => ?_) (fun h => ?_)
    · exact ⟨9, zx_ix23 hG hp (fun x hx => hB x (by omega)) 9 0 a_corner (by omega) (by omega) (fun k hk => by omega)⟩
    · refine ⟨vp_in_nI (by omega) (by omega), fun B' eB y ey => ?_⟩
      rw [ey, nI_1]
      rw [za_c i (by omega)] at eB
      refine ih (i + 1) B' (by omega) (by omega) (fun k hk => ?_)
      by_cases q : k = i
      · rw [eB, q, pk_uLs]
      · rw [eB, pk_uLn q]; exact hB k (by omega)
theorem zx_indexItems (hG : zx_GR g R a_left a_length a_need a_rhs) {post : SX → Prop} (hp : ∀ B C : Nat → Int64, zx_IX g R B C → post (f_maxRules, f_maxStates, f_maxNodes, f_maxEdges, f_maxSteps, f_maxLog, f_finished, f_lastTerminal, f_lastNonterminal, f_depthLimit, f_built, nI R, f_nullable, f_stateCount, f_edgeCount, f_callSize, f_pendingSize, f_conflictCount, f_height, f_logSize, f_low, f_tip, f_trialLog, a_left, a_length, a_need, a_rhs, a_level, a_side, B, C, a_vanishing, a_sets, a_go, a_follow, a_head, a_next, a_target, a_mark, a_entry, a_cursor, a_callStack, a_pending, a_la, a_base, a_table, a_check, a_row, a_symbols, a_states, a_log, a_trialSymbols, a_trialStates)) : wpX_indexItems post (f_maxRules, f_maxStates, f_maxNodes, f_maxEdges, f_maxSteps, f_maxLog, f_finished, f_lastTerminal, f_lastNonterminal, f_depthLimit, f_built, nI R, f_nullable, f_stateCount, f_edgeCount, f_callSize, f_pendingSize, f_conflictCount, f_height, f_logSize, f_low, f_tip, f_trialLog, a_left, a_length, a_need, a_rhs, a_level, a_side, a_before, a_corner, a_vanishing, a_sets, a_go, a_follow, a_head, a_next, a_target, a_mark, a_entry, a_cursor, a_callStack, a_pending, a_la, a_base, a_table, a_check, a_row, a_symbols, a_states, a_log, a_trialSymbols, a_trialStates) :=
  ⟨17, zx_ix2 hG hp 17 0 a_before (by omega) (by omega) (fun k hk => by omega)⟩
end ZX
end
section
/-! X: stateOf, makeStates -/
def zx_sg (a_sets : Nat → Int64) (s e : Nat) : Prop := zB (a_sets s) e
def zg_TM (g : Nat → Nat) (R : Nat) : Prop := ∃ τ : Nat → Nat → Prop, (∀ i, i < 25 → zg_RC g R (τ i)) ∧ ∀ i j, i < 25 → j < 25 → τ i = τ j → i = j
def zx_GO (g : Nat → Nat) (R m : Nat) (a_sets : Nat → Int64) (a_go : Nat → Int32) (s y : Nat) : Prop :=
  (zg_Df g (zx_sg a_sets s) y ∧ ∃ p, p < m ∧ a_go (s * 16 + y) = nI p ∧ zx_sg a_sets p = zg_GT g R (zx_sg a_sets s) y) ∨ (¬ zg_Df g (zx_sg a_sets s) y ∧ a_go (s * 16 + y) = -1)
def zx_PI (g : Nat → Nat) (R m q x : Nat) (a_sets : Nat → Int64) (a_go : Nat → Int32) : Prop :=
  1 ≤ m ∧ m ≤ 24 ∧ zx_sg a_sets 0 = zg_ST g R ∧ (∀ s, s < m → zg_RC g R (zx_sg a_sets s)) ∧ (∀ s s', s < m → s' < m → zx_sg a_sets s = zx_sg a_sets s' → s = s') ∧
  (∀ s y, s < m → y < 16 → s < q ∨ (s = q ∧ y < x) → zx_GO g R m a_sets a_go s y)
def zx_GOA (g : Nat → Nat) (n : Nat) (σ : Nat → Nat → Prop) (G : Nat → Nat → Nat) (a_go : Nat → Int32) : Prop :=
  ∀ s x, s < n → x < 16 → (zg_Df g (σ s) x → a_go (s * 16 + x) = nI (G s x)) ∧ (¬ zg_Df g (σ s) x → a_go (s * 16 + x) = -1)
section ZX
variable {g : Nat → Nat} {R : Nat}
theorem zx_PI_AU (ok : zg_ok g R) {m : Nat} {a_sets : Nat → Int64} {a_go : Nat → Int32} (h : zx_PI g R m m 0 a_sets a_go) :
    zl_AU g R m (zx_sg a_sets) (fun s x => (a_go (s * 16 + x)).toNatClampNeg) ∧ zx_GOA g m (zx_sg a_sets) (fun s x => (a_go (s * 16 + x)).toNatClampNeg) a_go := by
  obtain ⟨h1, h2, h3, h4, h5, h6⟩ := h
  have h16 : ∀ s x, zg_Df g (zx_sg a_sets s) x → x < 16 := fun s x ⟨_, e, _, q⟩ => by rw [← q]; exact zg_af_16 ok e
  refine ⟨⟨h1, h2, h3, fun s x hs hd => ?_, h5, h4⟩, fun s x hs hx => ⟨fun hd => ?_, fun hd => ?_⟩⟩
  · rcases h6 s x hs (h16 s x hd) (Or.inl hs) with ⟨_, p, p1, p2, p3⟩ | ⟨q, _⟩
    · show (a_go (s * 16 + x)).toNatClampNeg < m ∧ zx_sg a_sets (a_go (s * 16 + x)).toNatClampNeg = _
      rw [p2, nI_clamp (by omega)]; exact ⟨p1, p3⟩
    · exact absurd hd q
  · rcases h6 s x hs hx (Or.inl hs) with ⟨_, p, p1, p2, p3⟩ | ⟨q, _⟩
    · show a_go (s * 16 + x) = nI (a_go (s * 16 + x)).toNatClampNeg
      rw [p2, nI_clamp (by omega)]
    · exact absurd hd q
  · rcases h6 s x hs hx (Or.inl hs) with ⟨q, _⟩ | ⟨_, q⟩
    · exact absurd q hd
    · exact q
theorem zx_sg_u {a_sets : Nat → Int64} {m s : Nat} {K : Int64} (h : s < m) : zx_sg (vp_updL a_sets m K) s = zx_sg a_sets s := by
  funext e; unfold zx_sg; rw [pk_uLn (by omega)]
theorem zx_sg_s {a_sets : Nat → Int64} {m : Nat} {K : Int64} : zx_sg (vp_updL a_sets m K) m = zB K := by
  funext e; unfold zx_sg; rw [pk_uLs]
variable {f_maxRules f_maxStates f_maxNodes f_maxEdges f_maxSteps f_maxLog f_finished f_lastTerminal f_lastNonterminal f_depthLimit f_built f_ruleCount f_nullable f_stateCount f_edgeCount f_callSize f_pendingSize f_conflictCount f_height f_logSize f_low f_tip f_trialLog : Int32} {a_left a_length a_need a_rhs a_level a_side a_vanishing a_go a_follow a_head a_next a_target a_mark a_entry a_cursor a_callStack a_pending a_la a_base a_table a_check a_row a_symbols a_states a_log a_trialSymbols a_trialStates : Nat → Int32} {a_before a_corner a_sets : Nat → Int64}
theorem zx_so2 {post : Int32 → SX → Prop} {K : Int64} {m : Nat} (hm : m ≤ 24)
    (h1 : ∀ s, s < m → a_sets s = K → post (nI s) (f_maxRules, f_maxStates, f_maxNodes, f_maxEdges, f_maxSteps, f_maxLog, f_finished, f_lastTerminal, f_lastNonterminal, f_depthLimit, f_built, f_ruleCount, f_nullable, nI m, f_edgeCount, f_callSize, f_pendingSize, f_conflictCount, f_height, f_logSize, f_low, f_tip, f_trialLog, a_left, a_length, a_need, a_rhs, a_level, a_side, a_before, a_corner, a_vanishing, a_sets, a_go, a_follow, a_head, a_next, a_target, a_mark, a_entry, a_cursor, a_callStack, a_pending, a_la, a_base, a_table, a_check, a_row, a_symbols, a_states, a_log, a_trialSymbols, a_trialStates))
    (h2 : (∀ s, s < m → a_sets s ≠ K) → m < 24 → post (nI m) (f_maxRules, f_maxStates, f_maxNodes, f_maxEdges, f_maxSteps, f_maxLog, f_finished, f_lastTerminal, f_lastNonterminal, f_depthLimit, f_built, f_ruleCount, f_nullable, nI (m + 1), f_edgeCount, f_callSize, f_pendingSize, f_conflictCount, f_height, f_logSize, f_low, f_tip, f_trialLog, a_left, a_length, a_need, a_rhs, a_level, a_side, a_before, a_corner, a_vanishing, vp_updL a_sets m K, a_go, a_follow, a_head, a_next, a_target, a_mark, a_entry, a_cursor, a_callStack, a_pending, a_la, a_base, a_table, a_check, a_row, a_symbols, a_states, a_log, a_trialSymbols, a_trialStates))
    (h3 : (∀ s, s < m → a_sets s ≠ K) → m = 24 → post (-1) (f_maxRules, f_maxStates, f_maxNodes, f_maxEdges, f_maxSteps, f_maxLog, f_finished, f_lastTerminal, f_lastNonterminal, f_depthLimit, f_built, f_ruleCount, f_nullable, nI m, f_edgeCount, f_callSize, f_pendingSize, f_conflictCount, f_height, f_logSize, f_low, f_tip, f_trialLog, a_left, a_length, a_need, a_rhs, a_level, a_side, a_before, a_corner, a_vanishing, a_sets, a_go, a_follow, a_head, a_next, a_target, a_mark, a_entry, a_cursor, a_callStack, a_pending, a_la, a_base, a_table, a_check, a_row, a_symbols, a_states, a_log, a_trialSymbols, a_trialStates)) :
    ∀ f i, i ≤ m → m - i < f → (∀ s, s < i → a_sets s ≠ K) → wX_stateOf_2 post K f_maxRules f_maxStates f_maxNodes f_maxEdges f_maxSteps f_maxLog f_finished f_lastTerminal f_lastNonterminal f_depthLimit f_built f_ruleCount f_nullable (nI m) f_edgeCount f_callSize f_pendingSize f_conflictCount f_height f_logSize f_low f_tip f_trialLog a_left a_length a_need a_rhs a_level a_side a_before a_corner a_vanishing a_sets a_go a_follow a_head a_next a_target a_mark a_entry a_cursor a_callStack a_pending a_la a_base a_table a_check a_row a_symbols a_states a_log a_trialSymbols a_trialStates f (nI i) := by
  intro f
  induction f with
  | zero => intro i _ h; omega
  | succ f ih =>
    intro i hi hf hn
    refine pk_le m i (fun h => ?_) (fun h => ?_)
    · have e : i = m := by omega
      subst e
      refine pk_lt i 24 (fun h => ?_) (fun h => ?_)
      · refine ⟨vp_in_nI h (by omega), fun A eA y ey => ?_⟩
        rw [za_c i (by omega)] at eA
        rw [ey, eA, nI_1, nI_pred]
        exact h2 hn h
      · exact h3 hn (by omega)
    · refine ⟨vp_in_nI (by omega) (by omega), ?_⟩
      rw [za_c i (by omega)]
      refine br_c (fun c => h1 i h c) (fun c y ey => ?_)
      rw [ey, nI_1]
      exact ih (i + 1) (by omega) (by omega) (fun s hs => by
        by_cases e : s = i
        · rw [e]; exact c
        · exact hn s (by omega))
theorem zx_stateOf {post : Int32 → SX → Prop} {K : Int64} {m : Nat} (hm : m ≤ 24)
    (h1 : ∀ s, s < m → a_sets s = K → post (nI s) (f_maxRules, f_maxStates, f_maxNodes, f_maxEdges, f_maxSteps, f_maxLog, f_finished, f_lastTerminal, f_lastNonterminal, f_depthLimit, f_built, f_ruleCount, f_nullable, nI m, f_edgeCount, f_callSize, f_pendingSize, f_conflictCount, f_height, f_logSize, f_low, f_tip, f_trialLog, a_left, a_length, a_need, a_rhs, a_level, a_side, a_before, a_corner, a_vanishing, a_sets, a_go, a_follow, a_head, a_next, a_target, a_mark, a_entry, a_cursor, a_callStack, a_pending, a_la, a_base, a_table, a_check, a_row, a_symbols, a_states, a_log, a_trialSymbols, a_trialStates))
    (h2 : (∀ s, s < m → a_sets s ≠ K) → m < 24 → post (nI m) (f_maxRules, f_maxStates, f_maxNodes, f_maxEdges, f_maxSteps, f_maxLog, f_finished, f_lastTerminal, f_lastNonterminal, f_depthLimit, f_built, f_ruleCount, f_nullable, nI (m + 1), f_edgeCount, f_callSize, f_pendingSize, f_conflictCount, f_height, f_logSize, f_low, f_tip, f_trialLog, a_left, a_length, a_need, a_rhs, a_level, a_side, a_before, a_corner, a_vanishing, vp_updL a_sets m K, a_go, a_follow, a_head, a_next, a_target, a_mark, a_entry, a_cursor, a_callStack, a_pending, a_la, a_base, a_table, a_check, a_row, a_symbols, a_states, a_log, a_trialSymbols, a_trialStates))
    (h3 : (∀ s, s < m → a_sets s ≠ K) → m = 24 → post (-1) (f_maxRules, f_maxStates, f_maxNodes, f_maxEdges, f_maxSteps, f_maxLog, f_finished, f_lastTerminal, f_lastNonterminal, f_depthLimit, f_built, f_ruleCount, f_nullable, nI m, f_edgeCount, f_callSize, f_pendingSize, f_conflictCount, f_height, f_logSize, f_low, f_tip, f_trialLog, a_left, a_length, a_need, a_rhs, a_level, a_side, a_before, a_corner, a_vanishing, a_sets, a_go, a_follow, a_head, a_next, a_target, a_mark, a_entry, a_cursor, a_callStack, a_pending, a_la, a_base, a_table, a_check, a_row, a_symbols, a_states, a_log, a_trialSymbols, a_trialStates)) : wpX_stateOf post (f_maxRules, f_maxStates, f_maxNodes, f_maxEdges, f_maxSteps, f_maxLog, f_finished, f_lastTerminal, f_lastNonterminal, f_depthLimit, f_built, f_ruleCount, f_nullable, nI m, f_edgeCount, f_callSize, f_pendingSize, f_conflictCount, f_height, f_logSize, f_low, f_tip, f_trialLog, a_left, a_length, a_need, a_rhs, a_level, a_side, a_before, a_corner, a_vanishing, a_sets, a_go, a_follow, a_head, a_next, a_target, a_mark, a_entry, a_cursor, a_callStack, a_pending, a_la, a_base, a_table, a_check, a_row, a_symbols, a_states, a_log, a_trialSymbols, a_trialStates) K :=
  ⟨m + 1, zx_so2 hm h1 h2 h3 (m + 1) 0 (by omega) (by omega) (fun s hs => by omega)⟩
theorem zx_PI_go {m q x : Nat} {S : Nat → Int64} {A : Nat → Int32} {v : Int32} (h : zx_PI g R m q x S A) (hx : x < 16)
    (hv : zx_GO g R m S (upd A (q * 16 + x) v) q x) : zx_PI g R m q (x + 1) S (upd A (q * 16 + x) v) := by
  obtain ⟨h1, h2, h3, h4, h5, h6⟩ := h
  refine ⟨h1, h2, h3, h4, h5, fun s y hs hy hc => ?_⟩
  by_cases e : s = q ∧ y = x
  · obtain ⟨rfl, rfl⟩ := e; exact hv
  · have := h6 s y hs hy (by omega)
    unfold zx_GO at this ⊢
    rw [pk_un (by omega)]
    exact this
theorem zx_PI_new {m q x : Nat} {S : Nat → Int64} {A : Nat → Int32} {K : Int64} (h : zx_PI g R m q x S A) (hm : m < 24) (hr : zg_RC g R (zB K)) (hn : ∀ s, s < m → zx_sg S s ≠ zB K) :
    zx_PI g R (m + 1) q x (vp_updL S m K) A ∨ m ≤ q := by
  rcases Nat.lt_or_ge q m with hq | hq
  · refine Or.inl ?_
    obtain ⟨h1, h2, h3, h4, h5, h6⟩ := h
    refine ⟨by omega, by omega, by rw [zx_sg_u (by omega)]; exact h3, fun s hs => ?_, fun s s' hs hs' => ?_, fun s y hs hy hc => ?_⟩
    · by_cases e : s = m
      · rw [e, zx_sg_s]; exact hr
      · rw [zx_sg_u (by omega)]; exact h4 s (by omega)
    · by_cases e : s = m
      · by_cases e' : s' = m
        · intro; omega
        · rw [e, zx_sg_s, zx_sg_u (by omega)]; exact fun z => absurd z.symm (hn s' (by omega))
      · by_cases e' : s' = m
        · rw [e', zx_sg_s, zx_sg_u (by omega)]; exact fun z => absurd z (hn s (by omega))
        · rw [zx_sg_u (by omega), zx_sg_u (by omega)]; exact h5 s s' (by omega) (by omega)
    · have hs' : s < m := by omega
      have := h6 s y hs' hy hc
      unfold zx_GO at this ⊢
      rw [zx_sg_u hs']
      rcases this with ⟨a, p, p1, p2, p3⟩ | a
      · exact Or.inl ⟨a, p, by omega, p2, by rw [zx_sg_u p1]; exact p3⟩
      · exact Or.inr a
  · exact Or.inr hq
theorem zx_ms34 (ok : zg_ok g R) (hI : zx_IX g R a_before a_corner) {post : Int32 → SX → Prop} {q : Nat} (hq : q < 24) {J18 : Int32 → Int32 → Int32 → Int32 → Int32 → Int32 → Int32 → Int32 → Int32 → Int32 → Int32 → Int32 → Int32 → Int32 → Int32 → Int32 → Int32 → Int32 → Int32 → Int32 → Int32 → Int32 → Int32 → Int32 → (Nat → Int32) → (Nat → Int32) → (Nat → Int32) → (Nat → Int32) → (Nat → Int32) → (Nat → Int32) → (Nat → Int64) → (Nat → Int64) → (Nat → Int32) → (Nat → Int64) → (Nat → Int32) → (Nat → Int32) → (Nat → Int32) → (Nat → Int32) → (Nat → Int32) → (Nat → Int32) → (Nat → Int32) → (Nat → Int32) → (Nat → Int32) → (Nat → Int32) → (Nat → Int32) → (Nat → Int32) → (Nat → Int32) → (Nat → Int32) → (Nat → Int32) → (Nat → Int32) → (Nat → Int32) → (Nat → Int32) → (Nat → Int32) → (Nat → Int32) → Prop}
    (hJ : ∀ m (S : Nat → Int64) (A : Nat → Int32), q < m → zx_PI g R m (q + 1) 0 S A → J18 (nI (q + 1)) f_maxRules f_maxStates f_maxNodes f_maxEdges f_maxSteps f_maxLog f_finished f_lastTerminal f_lastNonterminal f_depthLimit f_built f_ruleCount f_nullable (nI m) f_edgeCount f_callSize f_pendingSize f_conflictCount f_height f_logSize f_low f_tip f_trialLog a_left a_length a_need a_rhs a_level a_side a_before a_corner a_vanishing S A a_follow a_head a_next a_target a_mark a_entry a_cursor a_callStack a_pending a_la a_base a_table a_check a_row a_symbols a_states a_log a_trialSymbols a_trialStates)
    (hF : ∀ m (S : Nat → Int64) (A : Nat → Int32), zg_TM g R → post 0 (f_maxRules, f_maxStates, f_maxNodes, f_maxEdges, f_maxSteps, f_maxLog, f_finished, f_lastTerminal, f_lastNonterminal, f_depthLimit, f_built, f_ruleCount, f_nullable, nI m, f_edgeCount, f_callSize, f_pendingSize, f_conflictCount, f_height, f_logSize, f_low, f_tip, f_trialLog, a_left, a_length, a_need, a_rhs, a_level, a_side, a_before, a_corner, a_vanishing, S, A, a_follow, a_head, a_next, a_target, a_mark, a_entry, a_cursor, a_callStack, a_pending, a_la, a_base, a_table, a_check, a_row, a_symbols, a_states, a_log, a_trialSymbols, a_trialStates)) :
    ∀ f x m (S : Nat → Int64) (A : Nat → Int32), x ≤ 16 → 16 - x < f → q < m → zx_PI g R m q x S A → wX_makeStates_34 post J18 (nI q) f (nI x) f_maxRules f_maxStates f_maxNodes f_maxEdges f_maxSteps f_maxLog f_finished f_lastTerminal f_lastNonterminal f_depthLimit f_built f_ruleCount f_nullable (nI m) f_edgeCount f_callSize f_pendingSize f_conflictCount f_height f_logSize f_low f_tip f_trialLog a_left a_length a_need a_rhs a_level a_side a_before a_corner a_vanishing S A a_follow a_head a_next a_target a_mark a_entry a_cursor a_callStack a_pending a_la a_base a_table a_check a_row a_symbols a_states a_log a_trialSymbols a_trialStates := by
  intro f
  induction f with
  | zero => intro x m S A _ h; omega
  | succ f ih =>
    intro x m S A hx hf hqm hP
    obtain ⟨h1, h2, h3, h4, h5, h6⟩ := id hP
    refine pk_le 16 x (fun h => ?_) (fun h => ?_)
    · intro y ey
      rw [ey, nI_1]
      refine hJ m S A hqm ⟨h1, h2, h3, h4, h5, fun s y hs hy hc => h6 s y hs hy (by omega)⟩
    · refine ⟨vp_in_nI (by omega) (by omega), vp_in_nI (by omega) (by omega), fun mv emv => ?_⟩
      rw [za_c q (by omega), za_c x (by omega)] at emv
      have hmv : ∀ e, zB mv e ↔ zx_sg S q e ∧ zg_af g e = x ∧ x ≠ 0 := fun e => by rw [emv, zB_and, hI.1 x e h]; rfl
      have join : ∀ m (S : Nat → Int64) (A : Nat → Int32) (v : Int32), q < m → zx_PI g R m q x S A → (zx_GO g R m S (upd A (q * 16 + x) v) q x) →
          wX_makeStates_87 post J18 (wX_makeStates_34 post J18 (nI q) f) (nI q) (nI x) v f_maxRules f_maxStates f_maxNodes f_maxEdges f_maxSteps f_maxLog f_finished f_lastTerminal f_lastNonterminal f_depthLimit f_built f_ruleCount f_nullable (nI m) f_edgeCount f_callSize f_pendingSize f_conflictCount f_height f_logSize f_low f_tip f_trialLog a_left a_length a_need a_rhs a_level a_side a_before a_corner a_vanishing S A a_follow a_head a_next a_target a_mark a_entry a_cursor a_callStack a_pending a_la a_base a_table a_check a_row a_symbols a_states a_log a_trialSymbols a_trialStates := by
        intro m S A v hqm hP hv
        unfold wX_makeStates_87
        rw [za_m16]
        refine ⟨vp_in_nI (by omega) (by omega), fun A' eA y ey => ?_⟩
        rw [ey, nI_1, eA, za_c _ (by omega)]
        exact ih (x + 1) m S _ (by omega) (by omega) hqm (zx_PI_go hP h hv)
      refine br_c (fun c => ?_) (fun c => ?_)
      · refine join m S A _ hqm hP (Or.inr ⟨fun ⟨hz, e, he, ha⟩ => ?_, by rw [pk_us]⟩)
        exact zB_z.mp c e ((hmv e).mpr ⟨he, ha, hz⟩)
      · have df : zg_Df g (zx_sg S q) x := by
          rcases Classical.em (zg_Df g (zx_sg S q) x) with z | z
          · exact z
          · exact absurd (zB_z.mpr fun e he => z (by
              obtain ⟨a, b, cc⟩ := (hmv e).mp he
              exact ⟨cc, e, a, b⟩)) c
        have rcq := h4 q hqm
        have kk : zB (mv <<< ((1 : Int32).toInt64 &&& 63)) = zg_mv g (zx_sg S q) x := by
          funext e
          apply propext
          rw [zB_shl1]
          constructor
          · rintro ⟨a, b, cc⟩
            obtain ⟨u1, u2, u3⟩ := (hmv _).mp cc
            exact ⟨e - 1, u1, u2, by omega⟩
          · rintro ⟨e', u1, u2, u3⟩
            have := (zg_RC_it ok rcq e' u1).1
            have := ok.1
            exact ⟨by omega, by omega, (hmv _).mpr ⟨by rw [show e - 1 = e' by omega]; exact u1, by rw [show e - 1 = e' by omega]; exact u2, df.1⟩⟩
        refine zx_close ok hI (fun mm hmm => ?_)
        have emm : zB mm = zg_GT g R (zx_sg S q) x := by
          funext e
          apply propext
          rw [hmm e, kk]
          exact Iff.rfl
        have rcn : zg_RC g R (zB mm) := by rw [emm]; exact zg_RC_s rcq df
        have neq : (∀ s, s < m → S s ≠ mm) → ∀ s, s < m → zx_sg S s ≠ zB mm := fun hn s hs e => hn s hs (zB_ext fun i _ => by
          have := congrFun e i
          unfold zx_sg at this
          rw [this])
        refine zx_stateOf h2 (fun s hs hS => ?_) (fun hn hm => ?_) (fun hn hm => ?_)
        · refine br_t (nI_pos' (by omega)) (join m S A _ hqm hP (Or.inl ⟨df, s, hs, by rw [pk_us], ?_⟩))
          rw [← emm, ← hS]
          rfl
        · refine br_t (nI_pos' (by omega)) ?_
          rcases zx_PI_new hP hm rcn (neq hn) with P' | z
          · refine join (m + 1) (vp_updL S m mm) A _ (by omega) P' (Or.inl ⟨by rw [zx_sg_u hqm]; exact df, m, by omega, by rw [pk_us], ?_⟩)
            rw [zx_sg_s, zx_sg_u hqm, emm]
          · omega
        · refine br_f (by decide) (hF m S A ⟨fun i => if i < 24 then zx_sg S i else zB mm, fun i hi => ?_, fun i j hi hj => ?_⟩)
          · by_cases q : i < 24
            · simp only [q, if_true]; exact h4 i (by omega)
            · simp only [q, if_false]; exact rcn
          · by_cases q : i < 24
            · by_cases q' : j < 24
              · simp only [q, q', if_true]; exact h5 i j (by omega) (by omega)
              · simp only [q, q', if_true, if_false]; exact fun z => absurd z (neq hn i (by omega))
            · by_cases q' : j < 24
              · simp only [q, q', if_true, if_false]; exact fun z => absurd z.symm (neq hn j (by omega))
              · intro _; omega
theorem zx_ms18 (ok : zg_ok g R) (hI : zx_IX g R a_before a_corner) {post : Int32 → SX → Prop}
    (hp : ∀ m (S : Nat → Int64) (A : Nat → Int32), zx_PI g R m m 0 S A → post 1 (f_maxRules, f_maxStates, f_maxNodes, f_maxEdges, f_maxSteps, f_maxLog, f_finished, f_lastTerminal, f_lastNonterminal, f_depthLimit, f_built, f_ruleCount, f_nullable, nI m, f_edgeCount, f_callSize, f_pendingSize, f_conflictCount, f_height, f_logSize, f_low, f_tip, f_trialLog, a_left, a_length, a_need, a_rhs, a_level, a_side, a_before, a_corner, a_vanishing, S, A, a_follow, a_head, a_next, a_target, a_mark, a_entry, a_cursor, a_callStack, a_pending, a_la, a_base, a_table, a_check, a_row, a_symbols, a_states, a_log, a_trialSymbols, a_trialStates))
    (hF : ∀ m (S : Nat → Int64) (A : Nat → Int32), zg_TM g R → post 0 (f_maxRules, f_maxStates, f_maxNodes, f_maxEdges, f_maxSteps, f_maxLog, f_finished, f_lastTerminal, f_lastNonterminal, f_depthLimit, f_built, f_ruleCount, f_nullable, nI m, f_edgeCount, f_callSize, f_pendingSize, f_conflictCount, f_height, f_logSize, f_low, f_tip, f_trialLog, a_left, a_length, a_need, a_rhs, a_level, a_side, a_before, a_corner, a_vanishing, S, A, a_follow, a_head, a_next, a_target, a_mark, a_entry, a_cursor, a_callStack, a_pending, a_la, a_base, a_table, a_check, a_row, a_symbols, a_states, a_log, a_trialSymbols, a_trialStates)) :
    ∀ f q m (S : Nat → Int64) (A : Nat → Int32), q ≤ m → 24 - q < f → zx_PI g R m q 0 S A → wX_makeStates_18 post f (nI q) f_maxRules f_maxStates f_maxNodes f_maxEdges f_maxSteps f_maxLog f_finished f_lastTerminal f_lastNonterminal f_depthLimit f_built f_ruleCount f_nullable (nI m) f_edgeCount f_callSize f_pendingSize f_conflictCount f_height f_logSize f_low f_tip f_trialLog a_left a_length a_need a_rhs a_level a_side a_before a_corner a_vanishing S A a_follow a_head a_next a_target a_mark a_entry a_cursor a_callStack a_pending a_la a_base a_table a_check a_row a_symbols a_states a_log a_trialSymbols a_trialStates := by
  intro f
  induction f with
  | zero => intro q m S A _ h; omega
  | succ f ih =>
    intro q m S A hq hf hP
    have m24 := hP.2.1
    refine pk_le 24 q (fun h => ?_) (fun h => ?_)
    · have e : q = m := by omega
      subst e
      exact hp q S A hP
    · refine pk_le m q (fun h' => ?_) (fun h' => ?_)
      · have e : q = m := by omega
        subst e
        exact hp q S A hP
      · exact ⟨17, zx_ms34 ok hI h (fun m' S' A' hm' hP' => ih (q + 1) m' S' A' (by omega) (by omega) hP') hF 17 0 m S A (by omega) (by omega) h' hP⟩
theorem zx_makeStates (ok : zg_ok g R) (hI : zx_IX g R a_before a_corner) {post : Int32 → SX → Prop}
    (hp : ∀ m (S : Nat → Int64) (A : Nat → Int32), zx_PI g R m m 0 S A → post 1 (f_maxRules, f_maxStates, f_maxNodes, f_maxEdges, f_maxSteps, f_maxLog, f_finished, f_lastTerminal, f_lastNonterminal, f_depthLimit, f_built, f_ruleCount, f_nullable, nI m, f_edgeCount, f_callSize, f_pendingSize, f_conflictCount, f_height, f_logSize, f_low, f_tip, f_trialLog, a_left, a_length, a_need, a_rhs, a_level, a_side, a_before, a_corner, a_vanishing, S, A, a_follow, a_head, a_next, a_target, a_mark, a_entry, a_cursor, a_callStack, a_pending, a_la, a_base, a_table, a_check, a_row, a_symbols, a_states, a_log, a_trialSymbols, a_trialStates))
    (hF : ∀ m (S : Nat → Int64) (A : Nat → Int32), zg_TM g R → post 0 (f_maxRules, f_maxStates, f_maxNodes, f_maxEdges, f_maxSteps, f_maxLog, f_finished, f_lastTerminal, f_lastNonterminal, f_depthLimit, f_built, f_ruleCount, f_nullable, nI m, f_edgeCount, f_callSize, f_pendingSize, f_conflictCount, f_height, f_logSize, f_low, f_tip, f_trialLog, a_left, a_length, a_need, a_rhs, a_level, a_side, a_before, a_corner, a_vanishing, S, A, a_follow, a_head, a_next, a_target, a_mark, a_entry, a_cursor, a_callStack, a_pending, a_la, a_base, a_table, a_check, a_row, a_symbols, a_states, a_log, a_trialSymbols, a_trialStates)) : wpX_makeStates post (f_maxRules, f_maxStates, f_maxNodes, f_maxEdges, f_maxSteps, f_maxLog, f_finished, f_lastTerminal, f_lastNonterminal, f_depthLimit, f_built, f_ruleCount, f_nullable, f_stateCount, f_edgeCount, f_callSize, f_pendingSize, f_conflictCount, f_height, f_logSize, f_low, f_tip, f_trialLog, a_left, a_length, a_need, a_rhs, a_level, a_side, a_before, a_corner, a_vanishing, a_sets, a_go, a_follow, a_head, a_next, a_target, a_mark, a_entry, a_cursor, a_callStack, a_pending, a_la, a_base, a_table, a_check, a_row, a_symbols, a_states, a_log, a_trialSymbols, a_trialStates) := by
  unfold wpX_makeStates
  refine zx_close ok hI (fun mm hmm S eS => ?_)
  have e0 : zx_sg S 0 = zg_ST g R := by
    rw [eS, zx_sg_s]
    funext e
    apply propext
    rw [hmm e]
    unfold zg_ST
    rw [show zB 1 = fun e => e = 0 from funext fun e => propext zB_1]
  refine ⟨25, zx_ms18 ok hI hp hF 25 0 1 S a_go (by omega) (by omega) ⟨by omega, by omega, e0, fun s hs => ?_, fun s s' _ _ _ => by omega, fun s y _ _ hc => by omega⟩⟩
  rw [show s = 0 by omega, e0]
  exact zg_RC_0
end ZX
end
section
/-! X: findVanishing -/
theorem za_dec (j : Nat) : nI j + (-1) = nI j - 1 := by rw [Int32.sub_eq_add_neg]
theorem za_neg : nI 0 - 1 < 0 := by decide
def zx_NM (g : Nat → Nat) (R : Nat) (m : Int32) : Prop := ∀ x, x ≠ 0 → (zb m x ↔ zg_NU g R x)
def zx_VA (g : Nat → Nat) (R : Nat) (V : Nat → Int32) (e : Nat) : Prop := (zg_NS g R e → V e = 1) ∧ (¬ zg_NS g R e → V e = 0)
def zx_VB (g : Nat → Nat) (R : Nat) (e : Nat) (z : Int32) : Prop := (zg_NS g R e → z = 1) ∧ (¬ zg_NS g R e → z = 0)
def zx_VI (g : Nat → Nat) (R r k : Nat) (V : Nat → Int32) : Prop := ∀ r' d, (r' < r ∧ d ≤ zg_ln g r') ∨ (r' = r ∧ k ≤ d ∧ d ≤ zg_ln g r) → zx_VA g R V (4 * r' + d)
section ZX
variable {g : Nat → Nat} {R : Nat} {f_maxRules f_maxStates f_maxNodes f_maxEdges f_maxSteps f_maxLog f_finished f_lastTerminal f_lastNonterminal f_depthLimit f_built f_ruleCount f_nullable f_stateCount f_edgeCount f_callSize f_pendingSize f_conflictCount f_height f_logSize f_low f_tip f_trialLog : Int32} {a_left a_length a_need a_rhs a_level a_side a_vanishing a_go a_follow a_head a_next a_target a_mark a_entry a_cursor a_callStack a_pending a_la a_base a_table a_check a_row a_symbols a_states a_log a_trialSymbols a_trialStates : Nat → Int32} {a_before a_corner a_sets : Nat → Int64}
theorem zx_isNullable {post : Int32 → Prop} {m : Int32} (hm : zx_NM g R m) {x : Nat} (hx : x ≠ 0) (h16 : x < 16) (h1 : zg_NU g R x → post 1) (h0 : ¬ zg_NU g R x → post 0) :
    wpX_isNullable post (f_maxRules, f_maxStates, f_maxNodes, f_maxEdges, f_maxSteps, f_maxLog, f_finished, f_lastTerminal, f_lastNonterminal, f_depthLimit, f_built, f_ruleCount, m, f_stateCount, f_edgeCount, f_callSize, f_pendingSize, f_conflictCount, f_height, f_logSize, f_low, f_tip, f_trialLog, a_left, a_length, a_need, a_rhs, a_level, a_side, a_before, a_corner, a_vanishing, a_sets, a_go, a_follow, a_head, a_next, a_target, a_mark, a_entry, a_cursor, a_callStack, a_pending, a_la, a_base, a_table, a_check, a_row, a_symbols, a_states, a_log, a_trialSymbols, a_trialStates) (nI x) := by
  refine br_c (fun c => h0 ?_) (fun c => h1 ?_)
  · rw [zb_get (by omega)] at c
    exact fun z => c ((hm x hx).mpr z)
  · rw [zb_get (by omega)] at c
    exact (hm x hx).mp (Classical.not_not.mp c)
theorem zx_fv46 (hG : zx_GR g R a_left a_length a_need a_rhs) {post : SX → Prop} {m : Int32} (hm : zx_NM g R m) {r : Nat} (hr : r ≤ R)
    {J11 : Int32 → (Nat → Int32) → (Nat → Int32) → (Nat → Int32) → (Nat → Int32) → (Nat → Int32) → (Nat → Int32) → (Nat → Int64) → (Nat → Int64) → (Nat → Int32) → (Nat → Int64) → (Nat → Int32) → (Nat → Int32) → (Nat → Int32) → (Nat → Int32) → (Nat → Int32) → (Nat → Int32) → (Nat → Int32) → (Nat → Int32) → (Nat → Int32) → (Nat → Int32) → (Nat → Int32) → (Nat → Int32) → (Nat → Int32) → (Nat → Int32) → (Nat → Int32) → (Nat → Int32) → (Nat → Int32) → (Nat → Int32) → (Nat → Int32) → (Nat → Int32) → Prop}
    (hJ : ∀ V : Nat → Int32, zx_VI g R r 0 V → J11 (nI (r + 1)) a_left a_length a_need a_rhs a_level a_side a_before a_corner V a_sets a_go a_follow a_head a_next a_target a_mark a_entry a_cursor a_callStack a_pending a_la a_base a_table a_check a_row a_symbols a_states a_log a_trialSymbols a_trialStates) :
    ∀ f k z (V : Nat → Int32), k ≤ zg_ln g r → k < f → zx_VB g R (4 * r + k) z → zx_VI g R r k V →
      wX_findVanishing_46 post J11 (nI r) f_maxRules f_maxStates f_maxNodes f_maxEdges f_maxSteps f_maxLog f_finished f_lastTerminal f_lastNonterminal f_depthLimit f_built f_ruleCount m f_stateCount f_edgeCount f_callSize f_pendingSize f_conflictCount f_height f_logSize f_low f_tip f_trialLog f z (nI k - 1) a_left a_length a_need a_rhs a_level a_side a_before a_corner V a_sets a_go a_follow a_head a_next a_target a_mark a_entry a_cursor a_callStack a_pending a_la a_base a_table a_check a_row a_symbols a_states a_log a_trialSymbols a_trialStates := by
  obtain ⟨ok, hl, hn, hd, hrs⟩ := hG
  have r12 := ok.1
  have l3 := zg_ln_le (g := g) r
  intro f
  induction f with
  | zero => intro k z V _ h; omega
  | succ f ih =>
    intro k z V hk hf hz hV
    rcases Nat.eq_zero_or_pos k with k0 | k0
    · subst k0
      refine br_t za_neg (fun y ey => ?_)
      rw [ey, nI_1]
      exact hJ V hV
    · obtain ⟨j, rfl⟩ : ∃ j, k = j + 1 := ⟨k - 1, by omega⟩
      rw [nI_pred]
      obtain ⟨n1, n2, n3⟩ := zg_ln_nz ok (show j < zg_ln g r by omega)
      have g16 := ok.2.2.2.2.2.2.1 (4 * r + 1 + j)
      have nsi : zg_NS g R (4 * r + j) ↔ zg_NU g R (g (4 * r + 1 + j)) ∧ zg_NS g R (4 * r + (j + 1)) := by
        constructor
        · intro h
          have := zg_NS_i h (by omega)
          rw [show 4 * r + j + 1 = 4 * r + 1 + j by omega] at this
          exact ⟨this.1, by rw [show 4 * r + (j + 1) = 4 * r + 1 + j by omega]; exact this.2⟩
        · rintro ⟨h1, h2⟩
          exact zg_NS_s (by omega) (by rw [show 4 * r + j + 1 = 4 * r + 1 + j by omega]; exact h1) h2
      have join : ∀ w : Int32, w = 0 ∨ w = 1 → zx_VB g R (4 * r + j) w → wX_findVanishing_76 post J11 (wX_findVanishing_46 post J11 (nI r) f_maxRules f_maxStates f_maxNodes f_maxEdges f_maxSteps f_maxLog f_finished f_lastTerminal f_lastNonterminal f_depthLimit f_built f_ruleCount m f_stateCount f_edgeCount f_callSize f_pendingSize f_conflictCount f_height f_logSize f_low f_tip f_trialLog f) (nI r) (nI j) w f_maxRules f_maxStates f_maxNodes f_maxEdges f_maxSteps f_maxLog f_finished f_lastTerminal f_lastNonterminal f_depthLimit f_built f_ruleCount m f_stateCount f_edgeCount f_callSize f_pendingSize f_conflictCount f_height f_logSize f_low f_tip f_trialLog a_left a_length a_need a_rhs a_level a_side a_before a_corner V a_sets a_go a_follow a_head a_next a_target a_mark a_entry a_cursor a_callStack a_pending a_la a_base a_table a_check a_row a_symbols a_states a_log a_trialSymbols a_trialStates := by
        intro w hw hw'
        unfold wX_findVanishing_76
        rw [za_m4]
        refine ⟨vp_in_nI (by omega) (by omega), fun V' eV y ey => ?_⟩
        rw [ey, za_dec]
        have wn : vp_nar .boolean w = w := by rcases hw with e | e <;> rw [e] <;> rfl
        rw [za_c _ (by omega), wn] at eV
        refine ih j w V' (by omega) (by omega) hw' (fun r' d hc => ?_)
        unfold zx_VA
        by_cases q : 4 * r' + d = 4 * r + j
        · rw [q, eV, pk_us]; exact hw'
        · rw [eV, pk_un q]
          have l3' := zg_ln_le (g := g) r'
          exact hV r' d (by omega)
      refine br_f (nI_pos (by omega)) (br_c (fun c => ?_) (fun c => ?_))
      · unfold wX_findVanishing_75
        refine join 0 (Or.inl rfl) ⟨fun h => ?_, fun _ => rfl⟩
        exfalso
        have := hz.1 (nsi.mp h).2
        rw [c] at this
        exact absurd this (by decide)
      · have ns : zg_NS g R (4 * r + (j + 1)) := by
          rcases Classical.em (zg_NS g R (4 * r + (j + 1))) with h | h
          · exact h
          · exact absurd (hz.2 h) c
        rw [za_m4]
        refine ⟨vp_in_nI (by omega) (by omega), ?_⟩
        rw [za_c _ (by omega), hrs _ (by omega), n3]
        refine zx_isNullable hm n1 g16 (fun h => ?_) (fun h => ?_)
        · refine br_f (by decide) ?_
          exact join 1 (Or.inr rfl) ⟨fun _ => rfl, fun q => absurd (nsi.mpr ⟨h, ns⟩) q⟩
        · refine br_t rfl ?_
          unfold wX_findVanishing_75
          exact join 0 (Or.inl rfl) ⟨fun q => absurd (nsi.mp q).1 h, fun _ => rfl⟩
theorem zx_fv11 (hG : zx_GR g R a_left a_length a_need a_rhs) {post : SX → Prop} {m : Int32} (hm : zx_NM g R m)
    (hp : ∀ V : Nat → Int32, (∀ r d, r ≤ R → d ≤ zg_ln g r → zx_VA g R V (4 * r + d)) → post (f_maxRules, f_maxStates, f_maxNodes, f_maxEdges, f_maxSteps, f_maxLog, f_finished, f_lastTerminal, f_lastNonterminal, f_depthLimit, f_built, nI R, m, f_stateCount, f_edgeCount, f_callSize, f_pendingSize, f_conflictCount, f_height, f_logSize, f_low, f_tip, f_trialLog, a_left, a_length, a_need, a_rhs, a_level, a_side, a_before, a_corner, V, a_sets, a_go, a_follow, a_head, a_next, a_target, a_mark, a_entry, a_cursor, a_callStack, a_pending, a_la, a_base, a_table, a_check, a_row, a_symbols, a_states, a_log, a_trialSymbols, a_trialStates)) :
    ∀ f r (V : Nat → Int32), r ≤ R + 1 → R + 1 - r < f → (∀ r' d, r' < r → d ≤ zg_ln g r' → zx_VA g R V (4 * r' + d)) → wX_findVanishing_11 post f_maxRules f_maxStates f_maxNodes f_maxEdges f_maxSteps f_maxLog f_finished f_lastTerminal f_lastNonterminal f_depthLimit f_built (nI R) m f_stateCount f_edgeCount f_callSize f_pendingSize f_conflictCount f_height f_logSize f_low f_tip f_trialLog f (nI r) a_left a_length a_need a_rhs a_level a_side a_before a_corner V a_sets a_go a_follow a_head a_next a_target a_mark a_entry a_cursor a_callStack a_pending a_la a_base a_table a_check a_row a_symbols a_states a_log a_trialSymbols a_trialStates := by
  have r12 := hG.1.1
  intro f
  induction f with
  | zero => intro k V _ h; omega
  | succ f ih =>
    intro r V hr hf hV
    refine pk_lt R r (fun h => ?_) (fun h => ?_)
    · exact hp V (fun r' d h1 h2 => hV r' d (by omega) h2)
    · have l3 := zg_ln_le (g := g) r
      refine ⟨vp_in_nI (by omega) (by omega), ?_⟩
      rw [za_c r (by omega), hG.2.2.1 r h, za_m4]
      refine ⟨vp_in_nI (by omega) (by omega), fun V' eV => ⟨vp_in_nI (by omega) (by omega), fun y ey => ⟨4, ?_⟩⟩⟩
      rw [ey]
      rw [za_c _ (by omega)] at eV
      have ns : zg_NS g R (4 * r + zg_ln g r) := by
        intro i h1 h2
        have : zg_af g (4 * r + (i - 1 - 4 * r)) = 0 := by
          rcases Nat.eq_zero_or_pos (zg_af g (4 * r + (i - 1 - 4 * r))) with q | q
          · exact q
          · have := (zg_lnI hG.1 (r := r) (d := i - 1 - 4 * r) (by omega)).mp (by omega)
            omega
        rw [zg_af_m (by omega), show 4 * r + (i - 1 - 4 * r) + 1 = i by omega] at this
        rw [this]
        exact (zg_NU_c (g := g) (R := R)).1
      refine zx_fv46 hG hm h (fun V2 hV2 => ih (r + 1) V2 (by omega) (by omega) (fun r' d h1 h2 => ?_)) 4 (zg_ln g r) 1 V' (by omega) (by omega) ⟨fun _ => rfl, fun q => absurd ns q⟩ (fun r' d hc => ?_)
      · by_cases e : r' = r
        · subst e; exact hV2 r' d (Or.inr ⟨rfl, by omega, h2⟩)
        · exact hV2 r' d (Or.inl ⟨by omega, h2⟩)
      · unfold zx_VA
        by_cases q : 4 * r' + d = 4 * r + zg_ln g r
        · rw [q, eV, pk_us]; exact ⟨fun _ => rfl, fun q => absurd ns q⟩
        · rw [eV, pk_un q]
          have l3' := zg_ln_le (g := g) r'
          rcases hc with ⟨c1, c2⟩ | ⟨c1, c2, c3⟩
          · exact hV r' d c1 c2
          · subst c1; omega
theorem zx_findVanishing (hG : zx_GR g R a_left a_length a_need a_rhs) {post : SX → Prop}
    (hp : ∀ m (V : Nat → Int32), zx_NM g R m → (∀ r d, r ≤ R → d ≤ zg_ln g r → zx_VA g R V (4 * r + d)) → post (f_maxRules, f_maxStates, f_maxNodes, f_maxEdges, f_maxSteps, f_maxLog, f_finished, f_lastTerminal, f_lastNonterminal, f_depthLimit, f_built, nI R, m, f_stateCount, f_edgeCount, f_callSize, f_pendingSize, f_conflictCount, f_height, f_logSize, f_low, f_tip, f_trialLog, a_left, a_length, a_need, a_rhs, a_level, a_side, a_before, a_corner, V, a_sets, a_go, a_follow, a_head, a_next, a_target, a_mark, a_entry, a_cursor, a_callStack, a_pending, a_la, a_base, a_table, a_check, a_row, a_symbols, a_states, a_log, a_trialSymbols, a_trialStates)) :
    wpX_findVanishing post (f_maxRules, f_maxStates, f_maxNodes, f_maxEdges, f_maxSteps, f_maxLog, f_finished, f_lastTerminal, f_lastNonterminal, f_depthLimit, f_built, nI R, f_nullable, f_stateCount, f_edgeCount, f_callSize, f_pendingSize, f_conflictCount, f_height, f_logSize, f_low, f_tip, f_trialLog, a_left, a_length, a_need, a_rhs, a_level, a_side, a_before, a_corner, a_vanishing, a_sets, a_go, a_follow, a_head, a_next, a_target, a_mark, a_entry, a_cursor, a_callStack, a_pending, a_la, a_base, a_table, a_check, a_row, a_symbols, a_states, a_log, a_trialSymbols, a_trialStates) := by
  unfold wpX_findVanishing
  refine zx_saturate hG (fun _ => False) (fun x => ⟨fun h => zb_0 h, fun h => h.elim⟩) (fun x h => h.elim) (fun m hm => ?_)
  have nm : zx_NM g R m := fun x hx => (hm x).trans (zx_SAT_NU hG.1 hx)
  exact ⟨R + 2, zx_fv11 hG nm (fun V hV => hp m V nm hV) (R + 2) 0 a_vanishing (by omega) (by omega) (fun r' d h => by omega)⟩
end ZX
end
section
/-! X: the relation as linked lists; resetRelation, successor, readable, addEdge, addReads, addIncludes -/
def zx_Lk (T Nx : Nat → Int32) (n : Nat) : Int32 → List Nat → Prop
  | c, [] => c = -1
  | c, y :: l => ∃ e, e < n ∧ c = nI e ∧ T e = nI y ∧ zx_Lk T Nx n (Nx e) l
theorem zx_Lk_f {T Nx T' Nx' : Nat → Int32} {n n' : Nat} (hn : n ≤ n') (hT : ∀ e, e < n → T' e = T e) (hN : ∀ e, e < n → Nx' e = Nx e) : ∀ {c : Int32} {l : List Nat}, zx_Lk T Nx n c l → zx_Lk T' Nx' n' c l
  | _, [], h => h
  | _, y :: l, ⟨e, h1, h2, h3, h4⟩ => ⟨e, by omega, h2, by rw [hT e h1]; exact h3, by rw [hN e h1]; exact zx_Lk_f hn hT hN h4⟩
def zx_RL (AL : Nat → List Nat) (ec : Nat) (a_head a_next a_target : Nat → Int32) : Prop :=
  (∀ y, y < 192 → zx_Lk a_target a_next ec (a_head y) (AL y)) ∧ zm_s (fun y => (AL y).length) 192 = ec
def zd_cons (AL : Nat → List Nat) (v z : Nat) : Nat → List Nat := fun y => if y = v then z :: AL y else AL y
theorem zd_cons_s {AL : Nat → List Nat} {v z : Nat} : zd_cons AL v z v = z :: AL v := if_pos rfl
theorem zd_cons_n {AL : Nat → List Nat} {v z y : Nat} (h : y ≠ v) : zd_cons AL v z y = AL y := if_neg h
theorem zd_cons_m {AL : Nat → List Nat} {v z y w : Nat} : w ∈ zd_cons AL v z y ↔ w ∈ AL y ∨ (y = v ∧ w = z) := by
  by_cases h : y = v
  · subst h; rw [zd_cons_s]; simp only [List.mem_cons]; constructor
    · rintro (a | a)
      · exact Or.inr ⟨trivial, a⟩
      · exact Or.inl a
    · rintro (a | a)
      · exact Or.inr a
      · exact Or.inl a.2
  · rw [zd_cons_n h]; exact ⟨Or.inl, fun q => q.elim id (fun z => absurd z.1 h)⟩
theorem za_sh3 {v : Nat} (h : v < 2 ^ 31) : nI v >>> ((3 : Int32) &&& 31) = nI (v / 8) := pk_shrN h _ 3 (by decide)
theorem za_and7 {v : Nat} (h : v < 2 ^ 31) : nI v &&& 7 = nI (v % 8) := pk_andN (by omega) 3 (by decide)
section ZX
variable {g : Nat → Nat} {R n : Nat} {G : Nat → Nat → Nat} {σ : Nat → Nat → Prop} {f_maxRules f_maxStates f_maxNodes f_maxEdges f_maxSteps f_maxLog f_finished f_lastTerminal f_lastNonterminal f_depthLimit f_built f_ruleCount f_nullable f_stateCount f_edgeCount f_callSize f_pendingSize f_conflictCount f_height f_logSize f_low f_tip f_trialLog : Int32} {a_left a_length a_need a_rhs a_level a_side a_vanishing a_go a_follow a_head a_next a_target a_mark a_entry a_cursor a_callStack a_pending a_la a_base a_table a_check a_row a_symbols a_states a_log a_trialSymbols a_trialStates : Nat → Int32} {a_before a_corner a_sets : Nat → Int64}
theorem zx_addEdge {post : SX → Prop} {AL : Nat → List Nat} {ec v z : Nat} (hL : zx_RL AL ec a_head a_next a_target) (hec : ec < 1536) (hv : v < 192)
    (hp : ∀ H Nx T : Nat → Int32, zx_RL (zd_cons AL v z) (ec + 1) H Nx T → post (f_maxRules, f_maxStates, f_maxNodes, f_maxEdges, f_maxSteps, f_maxLog, f_finished, f_lastTerminal, f_lastNonterminal, f_depthLimit, f_built, f_ruleCount, f_nullable, f_stateCount, nI (ec + 1), f_callSize, f_pendingSize, f_conflictCount, f_height, f_logSize, f_low, f_tip, f_trialLog, a_left, a_length, a_need, a_rhs, a_level, a_side, a_before, a_corner, a_vanishing, a_sets, a_go, a_follow, H, Nx, T, a_mark, a_entry, a_cursor, a_callStack, a_pending, a_la, a_base, a_table, a_check, a_row, a_symbols, a_states, a_log, a_trialSymbols, a_trialStates)) :
    wpX_addEdge post (f_maxRules, f_maxStates, f_maxNodes, f_maxEdges, f_maxSteps, f_maxLog, f_finished, f_lastTerminal, f_lastNonterminal, f_depthLimit, f_built, f_ruleCount, f_nullable, f_stateCount, nI ec, f_callSize, f_pendingSize, f_conflictCount, f_height, f_logSize, f_low, f_tip, f_trialLog, a_left, a_length, a_need, a_rhs, a_level, a_side, a_before, a_corner, a_vanishing, a_sets, a_go, a_follow, a_head, a_next, a_target, a_mark, a_entry, a_cursor, a_callStack, a_pending, a_la, a_base, a_table, a_check, a_row, a_symbols, a_states, a_log, a_trialSymbols, a_trialStates) (nI v) (nI z) := by
  refine br_f (nI_ge (b := 1536) hec (by decide)) ⟨vp_in_nI (by omega) (by omega), fun T eT => ⟨vp_in_nI (by omega) (by omega), vp_in_nI (by omega) (by omega), fun Nx eN => ⟨vp_in_nI (by omega) (by omega), fun H eH y ey => ?_⟩⟩⟩
  rw [ey, nI_1]
  rw [za_c _ (by omega)] at eT
  rw [za_c _ (by omega), za_c _ (by omega)] at eN
  rw [za_c _ (by omega)] at eH
  refine hp H Nx T ⟨fun y hy => ?_, ?_⟩
  · have fr : zx_Lk T Nx (ec + 1) (a_head y) (AL y) := zx_Lk_f (by omega) (fun e he => by rw [eT, pk_un (by omega)]) (fun e he => by rw [eN, pk_un (by omega)]) (hL.1 y hy)
    by_cases q : y = v
    · subst q
      rw [zd_cons_s, eH, pk_us]
      refine ⟨ec, by omega, rfl, by rw [eT, pk_us], ?_⟩
      rw [show Nx ec = a_head y by rw [eN, pk_us]]
      exact fr
    · rw [zd_cons_n q, eH, pk_un q]; exact fr
  · have := zm_s_upd (f := fun y => (AL y).length) (h := fun y => (zd_cons AL v z y).length) (a := v) (N := 192) (fun k _ hk => by show (zd_cons AL v z k).length = _; rw [zd_cons_n hk]) hv
    simp only [zd_cons_s, List.length_cons] at this
    have := hL.2
    omega
theorem zx_rr7 {post : SX → Prop} (hp : ∀ H M : Nat → Int32, (∀ y, y < 192 → H y = -1) → (∀ y, y < 192 → M y = 0) → post (f_maxRules, f_maxStates, f_maxNodes, f_maxEdges, f_maxSteps, f_maxLog, f_finished, f_lastTerminal, f_lastNonterminal, f_depthLimit, f_built, f_ruleCount, f_nullable, f_stateCount, f_edgeCount, f_callSize, f_pendingSize, f_conflictCount, f_height, f_logSize, f_low, f_tip, f_trialLog, a_left, a_length, a_need, a_rhs, a_level, a_side, a_before, a_corner, a_vanishing, a_sets, a_go, a_follow, H, a_next, a_target, M, a_entry, a_cursor, a_callStack, a_pending, a_la, a_base, a_table, a_check, a_row, a_symbols, a_states, a_log, a_trialSymbols, a_trialStates)) :
    ∀ f i (H M : Nat → Int32), i ≤ 192 → 192 - i < f → (∀ y, y < i → H y = -1) → (∀ y, y < i → M y = 0) → wX_resetRelation_7 post f_maxRules f_maxStates f_maxNodes f_maxEdges f_maxSteps f_maxLog f_finished f_lastTerminal f_lastNonterminal f_depthLimit f_built f_ruleCount f_nullable f_stateCount f_edgeCount f_callSize f_pendingSize f_conflictCount f_height f_logSize f_low f_tip f_trialLog f (nI i) a_left a_length a_need a_rhs a_level a_side a_before a_corner a_vanishing a_sets a_go a_follow H a_next a_target M a_entry a_cursor a_callStack a_pending a_la a_base a_table a_check a_row a_symbols a_states a_log a_trialSymbols a_trialStates := by
  intro f
  induction f with
  | zero => intro i H M _ h; omega
  | succ f ih =>
    intro i H M hi hf hH hM
    refine pk_le 192 i (fun h => ?_) (fun h => ?_)
    · exact hp H M (fun y hy => hH y (by omega)) (fun y hy => hM y (by omega))
    · refine ⟨vp_in_nI (by omega) (by omega), fun H' eH => ⟨vp_in_nI (by omega) (by omega), fun M' eM y ey => ?_⟩⟩
      rw [ey, nI_1]
      rw [za_c i (by omega)] at eH eM
      refine ih (i + 1) H' M' (by omega) (by omega) (fun y hy => ?_) (fun y hy => ?_)
      · by_cases q : y = i
        · rw [eH, q, pk_us]
        · rw [eH, pk_un q]; exact hH y (by omega)
      · by_cases q : y = i
        · rw [eM, q, pk_us]
        · rw [eM, pk_un q]; exact hM y (by omega)
theorem zx_resetRelation {post : SX → Prop} (hp : ∀ H M : Nat → Int32, (∀ Nx T : Nat → Int32, zx_RL (fun _ => []) 0 H Nx T) → (∀ y, y < 192 → M y = 0) → post (f_maxRules, f_maxStates, f_maxNodes, f_maxEdges, f_maxSteps, f_maxLog, f_finished, f_lastTerminal, f_lastNonterminal, f_depthLimit, f_built, f_ruleCount, f_nullable, f_stateCount, nI 0, f_callSize, f_pendingSize, f_conflictCount, f_height, f_logSize, f_low, f_tip, f_trialLog, a_left, a_length, a_need, a_rhs, a_level, a_side, a_before, a_corner, a_vanishing, a_sets, a_go, a_follow, H, a_next, a_target, M, a_entry, a_cursor, a_callStack, a_pending, a_la, a_base, a_table, a_check, a_row, a_symbols, a_states, a_log, a_trialSymbols, a_trialStates)) : wpX_resetRelation post (f_maxRules, f_maxStates, f_maxNodes, f_maxEdges, f_maxSteps, f_maxLog, f_finished, f_lastTerminal, f_lastNonterminal, f_depthLimit, f_built, f_ruleCount, f_nullable, f_stateCount, f_edgeCount, f_callSize, f_pendingSize, f_conflictCount, f_height, f_logSize, f_low, f_tip, f_trialLog, a_left, a_length, a_need, a_rhs, a_level, a_side, a_before, a_corner, a_vanishing, a_sets, a_go, a_follow, a_head, a_next, a_target, a_mark, a_entry, a_cursor, a_callStack, a_pending, a_la, a_base, a_table, a_check, a_row, a_symbols, a_states, a_log, a_trialSymbols, a_trialStates) :=
  ⟨193, zx_rr7 (fun H M h1 h2 => hp H M (fun Nx T => ⟨fun y hy => h1 y hy, zm_s_zero fun _ _ => rfl⟩) h2) 193 0 a_head a_mark (by omega) (by omega) (fun y hy => by omega) (fun y hy => by omega)⟩
theorem zx_successor {post : Int32 → Prop} {v : Nat} (hv : v < 192) (hp : post (a_go (v / 8 * 16 + (8 + v % 8)))) : wpX_successor post (f_maxRules, f_maxStates, f_maxNodes, f_maxEdges, f_maxSteps, f_maxLog, f_finished, f_lastTerminal, f_lastNonterminal, f_depthLimit, f_built, f_ruleCount, f_nullable, f_stateCount, f_edgeCount, f_callSize, f_pendingSize, f_conflictCount, f_height, f_logSize, f_low, f_tip, f_trialLog, a_left, a_length, a_need, a_rhs, a_level, a_side, a_before, a_corner, a_vanishing, a_sets, a_go, a_follow, a_head, a_next, a_target, a_mark, a_entry, a_cursor, a_callStack, a_pending, a_la, a_base, a_table, a_check, a_row, a_symbols, a_states, a_log, a_trialSymbols, a_trialStates) (nI v) := by
  unfold wpX_successor
  have e : nI v >>> ((3 : Int32) &&& 31) * 16 + 8 + (nI v &&& 7) = nI (v / 8 * 16 + (8 + v % 8)) := by
    rw [za_sh3 (by omega), za_and7 (by omega), show (8 : Int32) = nI 8 from rfl, za_m16, nI_add, Nat.add_assoc]
  dsimp only
  rw [e]
  refine ⟨vp_in_nI (by omega) (by omega), ?_⟩
  rw [za_c _ (by omega)]
  exact hp
theorem zx_rd4 (A : zl_AU g R n σ G) (hgo : zx_GOA g n σ G a_go) {post : Int32 → Prop} {s : Nat} (hs : s < n) (hp : ∀ m, (∀ t, zb m t ↔ 1 ≤ t ∧ t < 8 ∧ zg_Df g (σ s) t) → post m) :
    ∀ f i m, 1 ≤ i → i ≤ 8 → 8 - i < f → (∀ t, zb m t ↔ 1 ≤ t ∧ t < i ∧ zg_Df g (σ s) t) → wX_readable_4 post (nI s) f_maxRules f_maxStates f_maxNodes f_maxEdges f_maxSteps f_maxLog f_finished f_lastTerminal f_lastNonterminal f_depthLimit f_built f_ruleCount f_nullable f_stateCount f_edgeCount f_callSize f_pendingSize f_conflictCount f_height f_logSize f_low f_tip f_trialLog a_left a_length a_need a_rhs a_level a_side a_before a_corner a_vanishing a_sets a_go a_follow a_head a_next a_target a_mark a_entry a_cursor a_callStack a_pending a_la a_base a_table a_check a_row a_symbols a_states a_log a_trialSymbols a_trialStates f m (nI i) := by
  have n24 := A.2.1
  intro f
  induction f with
  | zero => intro i m _ _ h; omega
  | succ f ih =>
    intro i m i1 hi hf hm
    refine pk_le 8 i (fun h => ?_) (fun h => ?_)
    · have e : i = 8 := by omega
      subst e
      exact hp m hm
    · rw [za_m16]
      refine ⟨vp_in_nI (by omega) (by omega), ?_⟩
      rw [za_c _ (by omega)]
      rcases Classical.em (zg_Df g (σ s) i) with d | d
      · have q := A.2.2.2.1 s i hs d
        refine br_f (by rw [(hgo s i hs (by omega)).1 d]; exact nI_pos (by omega)) (fun y ey z ez => ?_)
        rw [ez, nI_1]
        refine ih (i + 1) y (by omega) (by omega) (by omega) (fun t => ?_)
        rw [ey, zb_or, zb_sh (by omega), hm t]
        constructor
        · rintro (⟨a, b, c⟩ | a)
          · exact ⟨a, by omega, c⟩
          · subst a; exact ⟨i1, by omega, d⟩
        · rintro ⟨a, b, c⟩
          by_cases e : t = i
          · exact Or.inr e
          · exact Or.inl ⟨a, by omega, c⟩
      · refine br_t (by rw [(hgo s i hs (by omega)).2 d]; decide) (fun z ez => ?_)
        rw [ez, nI_1]
        refine ih (i + 1) m (by omega) (by omega) (by omega) (fun t => ?_)
        rw [hm t]
        constructor
        · rintro ⟨a, b, c⟩; exact ⟨a, by omega, c⟩
        · rintro ⟨a, b, c⟩
          have : t ≠ i := fun e => by subst e; exact d c
          exact ⟨a, by omega, c⟩
theorem zx_readable (A : zl_AU g R n σ G) (hgo : zx_GOA g n σ G a_go) {post : Int32 → Prop} {s : Nat} (hs : s < n) (hp : ∀ m, (∀ t, zb m t ↔ 1 ≤ t ∧ t < 8 ∧ zg_Df g (σ s) t) → post m) : wpX_readable post (f_maxRules, f_maxStates, f_maxNodes, f_maxEdges, f_maxSteps, f_maxLog, f_finished, f_lastTerminal, f_lastNonterminal, f_depthLimit, f_built, f_ruleCount, f_nullable, f_stateCount, f_edgeCount, f_callSize, f_pendingSize, f_conflictCount, f_height, f_logSize, f_low, f_tip, f_trialLog, a_left, a_length, a_need, a_rhs, a_level, a_side, a_before, a_corner, a_vanishing, a_sets, a_go, a_follow, a_head, a_next, a_target, a_mark, a_entry, a_cursor, a_callStack, a_pending, a_la, a_base, a_table, a_check, a_row, a_symbols, a_states, a_log, a_trialSymbols, a_trialStates) (nI s) :=
  ⟨8, zx_rd4 A hgo hs hp 8 1 0 (by omega) (by omega) (by omega) (fun t => ⟨fun h => absurd h zb_0, fun h => by omega⟩)⟩
theorem zx_ar2 (A : zl_AU g R n σ G) (hgo : zx_GOA g n σ G a_go) {m : Int32} (hm : zx_NM g R m) {post : SX → Prop} {s v : Nat} (hs : s < n) (hv : v < 192) {AL0 : Nat → List Nat} {b : Nat} (hb : b + 8 ≤ 1536)
    (hp : ∀ (AL : Nat → List Nat) (ec : Nat) (H Nx T : Nat → Int32), zx_RL AL ec H Nx T → ec ≤ b + 8 → (∀ y z, z ∈ AL y ↔ z ∈ AL0 y ∨ (y = v ∧ ∃ k, k < 8 ∧ z = s * 8 + k ∧ zg_NU g R (8 + k) ∧ zg_Df g (σ s) (8 + k))) → post (f_maxRules, f_maxStates, f_maxNodes, f_maxEdges, f_maxSteps, f_maxLog, f_finished, f_lastTerminal, f_lastNonterminal, f_depthLimit, f_built, f_ruleCount, m, f_stateCount, nI ec, f_callSize, f_pendingSize, f_conflictCount, f_height, f_logSize, f_low, f_tip, f_trialLog, a_left, a_length, a_need, a_rhs, a_level, a_side, a_before, a_corner, a_vanishing, a_sets, a_go, a_follow, H, Nx, T, a_mark, a_entry, a_cursor, a_callStack, a_pending, a_la, a_base, a_table, a_check, a_row, a_symbols, a_states, a_log, a_trialSymbols, a_trialStates)) :
    ∀ f i (AL : Nat → List Nat) (ec : Nat) (H Nx T : Nat → Int32), i ≤ 8 → 8 - i < f → zx_RL AL ec H Nx T → ec ≤ b + i →
      (∀ y z, z ∈ AL y ↔ z ∈ AL0 y ∨ (y = v ∧ ∃ k, k < i ∧ z = s * 8 + k ∧ zg_NU g R (8 + k) ∧ zg_Df g (σ s) (8 + k))) →
      wX_addReads_2 post (nI v) (nI s) f (nI i) f_maxRules f_maxStates f_maxNodes f_maxEdges f_maxSteps f_maxLog f_finished f_lastTerminal f_lastNonterminal f_depthLimit f_built f_ruleCount m f_stateCount (nI ec) f_callSize f_pendingSize f_conflictCount f_height f_logSize f_low f_tip f_trialLog a_left a_length a_need a_rhs a_level a_side a_before a_corner a_vanishing a_sets a_go a_follow H Nx T a_mark a_entry a_cursor a_callStack a_pending a_la a_base a_table a_check a_row a_symbols a_states a_log a_trialSymbols a_trialStates := by
  have n24 := A.2.1
  intro f
  induction f with
  | zero => intro i AL ec H Nx T _ h; omega
  | succ f ih =>
    intro i AL ec H Nx T hi hf hL hec hm'
    refine pk_le 8 i (fun h => ?_) (fun h => ?_)
    · have e : i = 8 := by omega
      subst e
      exact hp AL ec H Nx T hL hec hm'
    · have skip : ¬ (zg_NU g R (8 + i) ∧ zg_Df g (σ s) (8 + i)) → wX_addReads_2 post (nI v) (nI s) f (nI (i + 1)) f_maxRules f_maxStates f_maxNodes f_maxEdges f_maxSteps f_maxLog f_finished f_lastTerminal f_lastNonterminal f_depthLimit f_built f_ruleCount m f_stateCount (nI ec) f_callSize f_pendingSize f_conflictCount f_height f_logSize f_low f_tip f_trialLog a_left a_length a_need a_rhs a_level a_side a_before a_corner a_vanishing a_sets a_go a_follow H Nx T a_mark a_entry a_cursor a_callStack a_pending a_la a_base a_table a_check a_row a_symbols a_states a_log a_trialSymbols a_trialStates := by
        intro c
        refine ih (i + 1) AL ec H Nx T (by omega) (by omega) hL (by omega) (fun y z => ?_)
        rw [hm' y z]
        constructor
        · rintro (a | ⟨a, k, k1, k2⟩)
          · exact Or.inl a
          · exact Or.inr ⟨a, k, by omega, k2⟩
        · rintro (a | ⟨a, k, k1, k2⟩)
          · exact Or.inl a
          · have : k ≠ i := fun e => by subst e; exact c k2.2
            exact Or.inr ⟨a, k, by omega, k2⟩
      rw [za_8]
      refine zx_isNullable hm (by omega) (by omega) (fun c => ?_) (fun c => ?_)
      · refine br_f (by decide) ?_
        have e : nI s * 16 + 8 + nI i = nI (s * 16 + (8 + i)) := by rw [show (8 : Int32) = nI 8 from rfl, za_m16, nI_add, Nat.add_assoc]
        rw [e]
        refine ⟨vp_in_nI (by omega) (by omega), ?_⟩
        rw [za_c _ (by omega)]
        rcases Classical.em (zg_Df g (σ s) (8 + i)) with d | d
        · have q := A.2.2.2.1 s _ hs d
          refine br_f (by rw [(hgo s _ hs (by omega)).1 d]; exact nI_pos (by omega)) ?_
          rw [za_m8]
          refine zx_addEdge hL (by omega) hv (fun H' N' T' hL' => ?_)
          intro y ey
          rw [ey, nI_1]
          refine ih (i + 1) _ (ec + 1) H' N' T' (by omega) (by omega) hL' (by omega) (fun y z => ?_)
          rw [zd_cons_m, hm' y z]
          constructor
          · rintro ((a | ⟨a, k, k1, k2⟩) | ⟨a, b⟩)
            · exact Or.inl a
            · exact Or.inr ⟨a, k, by omega, k2⟩
            · exact Or.inr ⟨a, i, by omega, b, c, d⟩
          · rintro (a | ⟨a, k, k1, k2, k3⟩)
            · exact Or.inl (Or.inl a)
            · by_cases e : k = i
              · subst e; exact Or.inr ⟨a, k2⟩
              · exact Or.inl (Or.inr ⟨a, k, by omega, k2, k3⟩)
        · refine br_t (by rw [(hgo s _ hs (by omega)).2 d]; decide) (fun y ey => ?_)
          rw [ey, nI_1]
          exact skip (fun z => d z.2)
      · refine br_t rfl (fun y ey => ?_)
        rw [ey, nI_1]
        exact skip (fun z => c z.1)
theorem zx_addReads (A : zl_AU g R n σ G) (hgo : zx_GOA g n σ G a_go) {m : Int32} (hm : zx_NM g R m) {post : SX → Prop} {s v : Nat} (hs : s < n) (hv : v < 192) {AL0 : Nat → List Nat} {b : Nat} (hb : b + 8 ≤ 1536) (hL : zx_RL AL0 b a_head a_next a_target)
    (hp : ∀ (AL : Nat → List Nat) (ec : Nat) (H Nx T : Nat → Int32), zx_RL AL ec H Nx T → ec ≤ b + 8 → (∀ y z, z ∈ AL y ↔ z ∈ AL0 y ∨ (y = v ∧ ∃ k, k < 8 ∧ z = s * 8 + k ∧ zg_NU g R (8 + k) ∧ zg_Df g (σ s) (8 + k))) → post (f_maxRules, f_maxStates, f_maxNodes, f_maxEdges, f_maxSteps, f_maxLog, f_finished, f_lastTerminal, f_lastNonterminal, f_depthLimit, f_built, f_ruleCount, m, f_stateCount, nI ec, f_callSize, f_pendingSize, f_conflictCount, f_height, f_logSize, f_low, f_tip, f_trialLog, a_left, a_length, a_need, a_rhs, a_level, a_side, a_before, a_corner, a_vanishing, a_sets, a_go, a_follow, H, Nx, T, a_mark, a_entry, a_cursor, a_callStack, a_pending, a_la, a_base, a_table, a_check, a_row, a_symbols, a_states, a_log, a_trialSymbols, a_trialStates)) :
    wpX_addReads post (f_maxRules, f_maxStates, f_maxNodes, f_maxEdges, f_maxSteps, f_maxLog, f_finished, f_lastTerminal, f_lastNonterminal, f_depthLimit, f_built, f_ruleCount, m, f_stateCount, nI b, f_callSize, f_pendingSize, f_conflictCount, f_height, f_logSize, f_low, f_tip, f_trialLog, a_left, a_length, a_need, a_rhs, a_level, a_side, a_before, a_corner, a_vanishing, a_sets, a_go, a_follow, a_head, a_next, a_target, a_mark, a_entry, a_cursor, a_callStack, a_pending, a_la, a_base, a_table, a_check, a_row, a_symbols, a_states, a_log, a_trialSymbols, a_trialStates) (nI v) (nI s) :=
  ⟨9, zx_ar2 A hgo hm hs hv hb hp 9 0 AL0 b a_head a_next a_target (by omega) (by omega) hL (by omega) (fun y z => ⟨Or.inl, fun h => h.elim id (fun ⟨_, k, h, _⟩ => by omega)⟩)⟩
/-! includes -/
def zx_in (g : Nat → Nat) (R : Nat) (G : Nat → Nat → Nat) (s r d y : Nat) : Prop :=
  8 ≤ g (4 * r + 1 + d) ∧ zg_NS g R (4 * r + d + 1) ∧ y = zl_wk g G s r d * 8 + (g (4 * r + 1 + d) - 8)
noncomputable def zx_ct (g : Nat → Nat) (k r : Nat) : Nat := zm_c (fun r' => 1 ≤ r' ∧ g (4 * r') = 8 + k) r
theorem zx_ai33 (ok : zg_ok g R) (A : zl_AU g R n σ G) (hG : zx_GR g R a_left a_length a_need a_rhs) (hgo : zx_GOA g n σ G a_go) (hV : ∀ r d, r ≤ R → d ≤ zg_ln g r → zx_VA g R a_vanishing (4 * r + d))
    {post : SX → Prop} {s v r : Nat} (hs : s < n) (hv : v < 192) (r1 : 1 ≤ r) (hr : r ≤ R) (h4 : σ s (4 * r)) {AL0 : Nat → List Nat} {b : Nat} (hb : b + 3 ≤ 1536) {J2 : Int32 → Int32 → Int32 → Int32 → Int32 → Int32 → Int32 → Int32 → Int32 → Int32 → Int32 → Int32 → Int32 → Int32 → Int32 → Int32 → Int32 → Int32 → Int32 → Int32 → Int32 → Int32 → Int32 → Int32 → (Nat → Int32) → (Nat → Int32) → (Nat → Int32) → (Nat → Int32) → (Nat → Int32) → (Nat → Int32) → (Nat → Int64) → (Nat → Int64) → (Nat → Int32) → (Nat → Int64) → (Nat → Int32) → (Nat → Int32) → (Nat → Int32) → (Nat → Int32) → (Nat → Int32) → (Nat → Int32) → (Nat → Int32) → (Nat → Int32) → (Nat → Int32) → (Nat → Int32) → (Nat → Int32) → (Nat → Int32) → (Nat → Int32) → (Nat → Int32) → (Nat → Int32) → (Nat → Int32) → (Nat → Int32) → (Nat → Int32) → (Nat → Int32) → (Nat → Int32) → Prop}
    (hJ : ∀ (AL : Nat → List Nat) (ec : Nat) (H Nx T : Nat → Int32), zx_RL AL ec H Nx T → ec ≤ b + 3 → (∀ y z, z ∈ AL y ↔ z ∈ AL0 y ∨ (z = v ∧ ∃ d, d < zg_ln g r ∧ zx_in g R G s r d y)) → J2 (nI (r + 1)) f_maxRules f_maxStates f_maxNodes f_maxEdges f_maxSteps f_maxLog f_finished f_lastTerminal f_lastNonterminal f_depthLimit f_built f_ruleCount f_nullable f_stateCount (nI ec) f_callSize f_pendingSize f_conflictCount f_height f_logSize f_low f_tip f_trialLog a_left a_length a_need a_rhs a_level a_side a_before a_corner a_vanishing a_sets a_go a_follow H Nx T a_mark a_entry a_cursor a_callStack a_pending a_la a_base a_table a_check a_row a_symbols a_states a_log a_trialSymbols a_trialStates) :
    ∀ f d (AL : Nat → List Nat) (ec : Nat) (H Nx T : Nat → Int32), d ≤ zg_ln g r → zg_ln g r - d < f → zx_RL AL ec H Nx T → ec ≤ b + d →
      (∀ y z, z ∈ AL y ↔ z ∈ AL0 y ∨ (z = v ∧ ∃ d', d' < d ∧ zx_in g R G s r d' y)) →
      wX_addIncludes_33 post J2 (nI v) (nI r) f (nI (zl_wk g G s r d)) (nI d) f_maxRules f_maxStates f_maxNodes f_maxEdges f_maxSteps f_maxLog f_finished f_lastTerminal f_lastNonterminal f_depthLimit f_built f_ruleCount f_nullable f_stateCount (nI ec) f_callSize f_pendingSize f_conflictCount f_height f_logSize f_low f_tip f_trialLog a_left a_length a_need a_rhs a_level a_side a_before a_corner a_vanishing a_sets a_go a_follow H Nx T a_mark a_entry a_cursor a_callStack a_pending a_la a_base a_table a_check a_row a_symbols a_states a_log a_trialSymbols a_trialStates := by
  have r12 := ok.1
  have n24 := A.2.1
  have l3 := zg_ln_le (g := g) r
  intro f
  induction f with
  | zero => intro i AL ec H Nx T _ h; omega
  | succ f ih =>
    intro d AL ec H Nx T hd hf hL hec hm'
    refine ⟨vp_in_nI (by omega) (by omega), ?_⟩
    rw [za_c r (by omega), hG.2.2.1 r hr]
    refine pk_le (zg_ln g r) d (fun h => ?_) (fun h => ?_)
    · have e : d = zg_ln g r := by omega
      subst e
      intro y ey
      rw [ey, nI_1]
      exact hJ AL ec H Nx T hL (by omega) hm'
    · obtain ⟨n1, n2, n3⟩ := zg_ln_nz ok h
      have g16 := ok.2.2.2.2.2.2.1 (4 * r + 1 + d)
      obtain ⟨w1, w2, _⟩ := zl_wk_i ok A hs h4 d (by omega)
      have df := zl_wk_df ok A hs h4 h
      have st := A.2.2.2.1 _ _ w1 df
      have join : ∀ (AL : Nat → List Nat) (ec : Nat) (H Nx T : Nat → Int32), zx_RL AL ec H Nx T → ec ≤ b + (d + 1) → (∀ y z, z ∈ AL y ↔ z ∈ AL0 y ∨ (z = v ∧ ∃ d', d' < d + 1 ∧ zx_in g R G s r d' y)) →
          wX_addIncludes_95 post J2 (wX_addIncludes_33 post J2 (nI v) (nI r) f) (nI v) (nI r) (nI (zl_wk g G s r d)) (nI d) (nI (g (4 * r + 1 + d))) f_maxRules f_maxStates f_maxNodes f_maxEdges f_maxSteps f_maxLog f_finished f_lastTerminal f_lastNonterminal f_depthLimit f_built f_ruleCount f_nullable f_stateCount (nI ec) f_callSize f_pendingSize f_conflictCount f_height f_logSize f_low f_tip f_trialLog a_left a_length a_need a_rhs a_level a_side a_before a_corner a_vanishing a_sets a_go a_follow H Nx T a_mark a_entry a_cursor a_callStack a_pending a_la a_base a_table a_check a_row a_symbols a_states a_log a_trialSymbols a_trialStates := by
        intro AL ec H Nx T hL hec hm'
        unfold wX_addIncludes_95
        rw [za_m16]
        refine ⟨vp_in_nI (by omega) (by omega), fun y ey z ez => ?_⟩
        rw [za_c _ (by omega), (hgo _ _ w1 g16).1 df] at ey
        rw [ez, ey, nI_1]
        exact ih (d + 1) AL ec H Nx T (by omega) (by omega) hL hec hm'
      have skip : ¬ zx_in g R G s r d (zl_wk g G s r d * 8 + (g (4 * r + 1 + d) - 8)) → wX_addIncludes_95 post J2 (wX_addIncludes_33 post J2 (nI v) (nI r) f) (nI v) (nI r) (nI (zl_wk g G s r d)) (nI d) (nI (g (4 * r + 1 + d))) f_maxRules f_maxStates f_maxNodes f_maxEdges f_maxSteps f_maxLog f_finished f_lastTerminal f_lastNonterminal f_depthLimit f_built f_ruleCount f_nullable f_stateCount (nI ec) f_callSize f_pendingSize f_conflictCount f_height f_logSize f_low f_tip f_trialLog a_left a_length a_need a_rhs a_level a_side a_before a_corner a_vanishing a_sets a_go a_follow H Nx T a_mark a_entry a_cursor a_callStack a_pending a_la a_base a_table a_check a_row a_symbols a_states a_log a_trialSymbols a_trialStates := by
        intro c
        refine join AL ec H Nx T hL (by omega) (fun y z => ?_)
        rw [hm' y z]
        constructor
        · rintro (a | ⟨a, k, k1, k2⟩)
          · exact Or.inl a
          · exact Or.inr ⟨a, k, by omega, k2⟩
        · rintro (a | ⟨a, k, k1, k2⟩)
          · exact Or.inl a
          · have : k ≠ d := fun e => by subst e; exact c ⟨k2.1, k2.2.1, rfl⟩
            exact Or.inr ⟨a, k, by omega, k2⟩
      rw [za_m4]
      refine ⟨vp_in_nI (by omega) (by omega), fun x5 e5 => ?_⟩
      rw [za_c _ (by omega), hG.2.2.2.2 _ (by omega), n3] at e5
      subst e5
      refine pk_lt (g (4 * r + 1 + d)) 8 (fun c => skip (fun z => by have := z.1; omega)) (fun c => ?_)
      have e : nI (4 * r + d) + 1 = nI (4 * r + (d + 1)) := by rw [nI_1]; rfl
      rw [e]
      refine ⟨vp_in_nI (by omega) (by omega), ?_⟩
      rw [za_c _ (by omega)]
      have va := hV r (d + 1) hr (by omega)
      refine br_c (fun c' => skip (fun z => ?_)) (fun c' => ?_)
      · have := va.1 z.2.1
        rw [c'] at this
        exact absurd this (by decide)
      · have ns : zg_NS g R (4 * r + (d + 1)) := by
          rcases Classical.em (zg_NS g R (4 * r + (d + 1))) with q | q
          · exact q
          · exact absurd (va.2 q) c'
        have e8 : nI (zl_wk g G s r d) * 8 + nI (g (4 * r + 1 + d)) - 8 = nI (zl_wk g G s r d * 8 + (g (4 * r + 1 + d) - 8)) := by
          rw [za_m8, show (8 : Int32) = nI 8 from rfl, pk_sub (by omega), Nat.add_sub_assoc c]
        rw [e8]
        refine zx_addEdge hL (by omega) (by omega) (fun H' N' T' hL' => ?_)
        refine join _ (ec + 1) H' N' T' hL' (by omega) (fun y z => ?_)
        rw [zd_cons_m, hm' y z]
        constructor
        · rintro ((a | ⟨a, k, k1, k2⟩) | ⟨a, b⟩)
          · exact Or.inl a
          · exact Or.inr ⟨a, k, by omega, k2⟩
          · exact Or.inr ⟨b, d, by omega, c, ns, a⟩
        · rintro (a | ⟨a, k, k1, k2⟩)
          · exact Or.inl (Or.inl a)
          · by_cases e : k = d
            · subst e; exact Or.inr ⟨k2.2.2, a⟩
            · exact Or.inl (Or.inr ⟨a, k, by omega, k2⟩)
theorem zx_ai2 (ok : zg_ok g R) (A : zl_AU g R n σ G) (hG : zx_GR g R a_left a_length a_need a_rhs) (hgo : zx_GOA g n σ G a_go) (hV : ∀ r d, r ≤ R → d ≤ zg_ln g r → zx_VA g R a_vanishing (4 * r + d))
    {post : SX → Prop} {v : Nat} (hs : v / 8 < n) (hv : v < 192) (hd : zg_Df g (σ (v / 8)) (8 + v % 8)) {AL0 : Nat → List Nat} {b : Nat} (hb : b + 3 * zx_ct g (v % 8) (R + 1) ≤ 1536)
    (hp : ∀ (AL : Nat → List Nat) (ec : Nat) (H Nx T : Nat → Int32), zx_RL AL ec H Nx T → ec ≤ b + 3 * zx_ct g (v % 8) (R + 1) → (∀ y z, z ∈ AL y ↔ z ∈ AL0 y ∨ (z = v ∧ ∃ r d, 1 ≤ r ∧ r < R + 1 ∧ g (4 * r) = 8 + v % 8 ∧ d < zg_ln g r ∧ zx_in g R G (v / 8) r d y)) → post (f_maxRules, f_maxStates, f_maxNodes, f_maxEdges, f_maxSteps, f_maxLog, f_finished, f_lastTerminal, f_lastNonterminal, f_depthLimit, f_built, nI R, f_nullable, f_stateCount, nI ec, f_callSize, f_pendingSize, f_conflictCount, f_height, f_logSize, f_low, f_tip, f_trialLog, a_left, a_length, a_need, a_rhs, a_level, a_side, a_before, a_corner, a_vanishing, a_sets, a_go, a_follow, H, Nx, T, a_mark, a_entry, a_cursor, a_callStack, a_pending, a_la, a_base, a_table, a_check, a_row, a_symbols, a_states, a_log, a_trialSymbols, a_trialStates)) :
    ∀ f i (AL : Nat → List Nat) (ec : Nat) (H Nx T : Nat → Int32), 1 ≤ i → i ≤ R + 1 → R + 1 - i < f → zx_RL AL ec H Nx T → ec ≤ b + 3 * zx_ct g (v % 8) i →
      (∀ y z, z ∈ AL y ↔ z ∈ AL0 y ∨ (z = v ∧ ∃ r d, 1 ≤ r ∧ r < i ∧ g (4 * r) = 8 + v % 8 ∧ d < zg_ln g r ∧ zx_in g R G (v / 8) r d y)) →
      wX_addIncludes_2 post (nI v) f (nI i) f_maxRules f_maxStates f_maxNodes f_maxEdges f_maxSteps f_maxLog f_finished f_lastTerminal f_lastNonterminal f_depthLimit f_built (nI R) f_nullable f_stateCount (nI ec) f_callSize f_pendingSize f_conflictCount f_height f_logSize f_low f_tip f_trialLog a_left a_length a_need a_rhs a_level a_side a_before a_corner a_vanishing a_sets a_go a_follow H Nx T a_mark a_entry a_cursor a_callStack a_pending a_la a_base a_table a_check a_row a_symbols a_states a_log a_trialSymbols a_trialStates := by
  have r12 := ok.1
  intro f
  induction f with
  | zero => intro i AL ec H Nx T _ _ h; omega
  | succ f ih =>
    intro i AL ec H Nx T i1 hi hf hL hec hm'
    refine pk_lt R i (fun h => ?_) (fun h => ?_)
    · have e : i = R + 1 := by omega
      subst e
      exact hp AL ec H Nx T hL hec hm'
    · refine ⟨vp_in_nI (by omega) (by omega), ?_⟩
      have g16 := ok.2.2.2.2.2.2.1 (4 * i)
      rw [za_c i (by omega), hG.2.1 i h, za_and7 (by omega), za_8]
      have mono : zx_ct g (v % 8) (i + 1) ≤ zx_ct g (v % 8) (R + 1) := by
        have : ∀ j, i + 1 ≤ j → zx_ct g (v % 8) (i + 1) ≤ zx_ct g (v % 8) j := by
          intro j hj
          induction j with
          | zero => omega
          | succ j ihj =>
            by_cases e : i + 1 = j + 1
            · rw [e]; exact Nat.le_refl _
            · exact Nat.le_trans (ihj (by omega)) (Nat.le_add_right _ _)
        exact this _ (by omega)
      refine pk_eq (g (4 * i)) (8 + v % 8) (fun c => ?_) (fun c => ?_)
      · have cs : zx_ct g (v % 8) (i + 1) = zx_ct g (v % 8) i + 1 := by
          show zm_s _ i + zm_b _ = zm_s _ i + 1
          rw [zm_b_t ⟨i1, c⟩]
        intro y ey
        rw [za_sh3 (by omega)] at ey
        rw [ey]
        refine ⟨4, zx_ai33 ok A hG hgo hV hs hv i1 h (zl_r4 A hs i1 h (by rw [c]; exact hd)) (AL0 := AL) (b := b + 3 * zx_ct g (v % 8) i) (by omega) (fun AL' ec' H' N' T' hL' hec' hm2 => ?_) 4 0 AL ec H Nx T (by omega) (by have := zg_ln_le (g := g) i; omega) hL (by omega) (fun y z => ⟨Or.inl, fun q => q.elim id (fun ⟨_, d, q, _⟩ => by omega)⟩)⟩
        refine ih (i + 1) AL' ec' H' N' T' (by omega) (by omega) (by omega) hL' (by omega) (fun y z => ?_)
        rw [hm2 y z, hm' y z]
        constructor
        · rintro ((a | ⟨a, r, d, k1, k2, k3⟩) | ⟨a, d, k⟩)
          · exact Or.inl a
          · exact Or.inr ⟨a, r, d, k1, by omega, k3⟩
          · exact Or.inr ⟨a, i, d, i1, by omega, c, k⟩
        · rintro (a | ⟨a, r, d, k1, k2, k3, k4⟩)
          · exact Or.inl (Or.inl a)
          · by_cases e : r = i
            · subst e; exact Or.inr ⟨a, d, k4⟩
            · exact Or.inl (Or.inr ⟨a, r, d, k1, by omega, k3, k4⟩)
      · intro y ey
        rw [ey, nI_1]
        have cs : zx_ct g (v % 8) i ≤ zx_ct g (v % 8) (i + 1) := Nat.le_add_right _ _
        refine ih (i + 1) AL ec H Nx T (by omega) (by omega) (by omega) hL (by omega) (fun y z => ?_)
        rw [hm' y z]
        constructor
        · rintro (a | ⟨a, r, d, k1, k2, k3⟩)
          · exact Or.inl a
          · exact Or.inr ⟨a, r, d, k1, by omega, k3⟩
        · rintro (a | ⟨a, r, d, k1, k2, k3, k4⟩)
          · exact Or.inl a
          · have : r ≠ i := fun e => by subst e; exact c k3
            exact Or.inr ⟨a, r, d, k1, by omega, k3, k4⟩
theorem zx_addIncludes (ok : zg_ok g R) (A : zl_AU g R n σ G) (hG : zx_GR g R a_left a_length a_need a_rhs) (hgo : zx_GOA g n σ G a_go) (hV : ∀ r d, r ≤ R → d ≤ zg_ln g r → zx_VA g R a_vanishing (4 * r + d))
    {post : SX → Prop} {v : Nat} (hs : v / 8 < n) (hv : v < 192) (hd : zg_Df g (σ (v / 8)) (8 + v % 8)) {AL0 : Nat → List Nat} {b : Nat} (hb : b + 3 * zx_ct g (v % 8) (R + 1) ≤ 1536) (hL : zx_RL AL0 b a_head a_next a_target)
    (hp : ∀ (AL : Nat → List Nat) (ec : Nat) (H Nx T : Nat → Int32), zx_RL AL ec H Nx T → ec ≤ b + 3 * zx_ct g (v % 8) (R + 1) → (∀ y z, z ∈ AL y ↔ z ∈ AL0 y ∨ (z = v ∧ ∃ r d, 1 ≤ r ∧ r < R + 1 ∧ g (4 * r) = 8 + v % 8 ∧ d < zg_ln g r ∧ zx_in g R G (v / 8) r d y)) → post (f_maxRules, f_maxStates, f_maxNodes, f_maxEdges, f_maxSteps, f_maxLog, f_finished, f_lastTerminal, f_lastNonterminal, f_depthLimit, f_built, nI R, f_nullable, f_stateCount, nI ec, f_callSize, f_pendingSize, f_conflictCount, f_height, f_logSize, f_low, f_tip, f_trialLog, a_left, a_length, a_need, a_rhs, a_level, a_side, a_before, a_corner, a_vanishing, a_sets, a_go, a_follow, H, Nx, T, a_mark, a_entry, a_cursor, a_callStack, a_pending, a_la, a_base, a_table, a_check, a_row, a_symbols, a_states, a_log, a_trialSymbols, a_trialStates)) :
    wpX_addIncludes post (f_maxRules, f_maxStates, f_maxNodes, f_maxEdges, f_maxSteps, f_maxLog, f_finished, f_lastTerminal, f_lastNonterminal, f_depthLimit, f_built, nI R, f_nullable, f_stateCount, nI b, f_callSize, f_pendingSize, f_conflictCount, f_height, f_logSize, f_low, f_tip, f_trialLog, a_left, a_length, a_need, a_rhs, a_level, a_side, a_before, a_corner, a_vanishing, a_sets, a_go, a_follow, a_head, a_next, a_target, a_mark, a_entry, a_cursor, a_callStack, a_pending, a_la, a_base, a_table, a_check, a_row, a_symbols, a_states, a_log, a_trialSymbols, a_trialStates) (nI v) :=
  ⟨R + 1, zx_ai2 ok A hG hgo hV hs hv hd hb hp (R + 1) 1 AL0 b a_head a_next a_target (by omega) (by omega) (by omega) hL (by omega) (fun y z => ⟨Or.inl, fun q => q.elim id (fun ⟨_, r, d, a, b, _⟩ => by omega)⟩)⟩
end ZX
end
section
/-! X: open, absorb, leave, traverse, spread -/
theorem zm_s_mono {f : Nat → Nat} {a : Nat} : ∀ {b : Nat}, a ≤ b → zm_s f a ≤ zm_s f b
  | 0, h => by rw [show a = 0 by omega]; exact Nat.le_refl _
  | b + 1, h => by
    by_cases e : a = b + 1
    · rw [e]; exact Nat.le_refl _
    · exact Nat.le_trans (zm_s_mono (b := b) (by omega)) (Nat.le_add_right _ _)
theorem zd_cn {N : Nat} {AL : Nat → List Nat} {F0 F : Nat → Nat → Prop} {M pd ci : Nat → Nat} {pn cn : Nat} {rest : Nat → List Nat} (J : zd_J N AL F0 M pd ci pn cn rest F) : cn ≤ pn := by
  obtain ⟨-, -, -, -, ⟨a5, a5'⟩, -⟩ := J
  refine zm_inj ci a5 (fun i j hi hj e => ?_)
  rcases Nat.lt_trichotomy i j with q | q | q
  · have := a5' i j q hj; omega
  · exact q
  · have := a5' j i q hi; omega
theorem zd_Mb {N : Nat} {AL : Nat → List Nat} {F0 F : Nat → Nat → Prop} {M pd ci : Nat → Nat} {pn cn : Nat} {rest : Nat → List Nat} (J : zd_J N AL F0 M pd ci pn cn rest F) {y : Nat} (hy : y < N) : M y ≤ 1000 := by
  have h := zd_pnN J
  obtain ⟨⟨a0, _⟩, a2, -, a4, -⟩ := J
  rcases a4 y hy with q | q | ⟨i, h1, rfl⟩
  · omega
  · omega
  · have := (a2 i h1).2.2; omega
theorem zd_mu_le {N : Nat} {AL : Nat → List Nat} {F0 F : Nat → Nat → Prop} {M pd ci : Nat → Nat} {pn cn : Nat} {rest : Nat → List Nat} (J : zd_J N AL F0 M pd ci pn cn rest F) (h : zm_s (fun y => (AL y).length) 192 ≤ 1536) : zd_mu N M cn rest ≤ 1920 + cn := by
  obtain ⟨⟨a0, _⟩, -, -, -, -, -, -, -, -, a10, -, a12, -⟩ := J
  have h1 : zm_s (fun y => (rest y).length) N ≤ zm_s (fun y => (AL y).length) N := zm_s_le (fun y hy => by
    by_cases e : M y = 0
    · rw [a12 y hy e]; exact Nat.le_refl _
    · obtain ⟨ps, e1, _⟩ := a10 y hy e
      rw [e1, List.length_append]; omega)
  have h2 := zm_s_mono (f := fun y => (AL y).length) a0
  have h3 := zm_c_le (fun y => M y = 0) N
  unfold zd_mu; omega
theorem zd_init {N : Nat} {AL : Nat → List Nat} {F0 : Nat → Nat → Prop} (hN : N ≤ 192) (hA : ∀ y z, z ∈ AL y → z < N) : zd_J N AL F0 (fun _ => 0) (fun _ => 0) (fun _ => 0) 0 0 AL F0 := by
  refine ⟨⟨hN, hA⟩, fun i h => by omega, fun i j h => by omega, fun y _ => Or.inl rfl, ⟨fun j h => by omega, fun j j' _ h => by omega⟩, fun j h => by omega, fun i h => by omega, fun i h => by omega, fun i j h => by omega, fun y _ h => absurd rfl h, fun y _ h => absurd (show (0 : Nat) = 1000 from h) (by omega), fun y _ _ => rfl, fun y t _ h => ⟨y, zd_Re_0, h⟩, fun y t _ h => h⟩
def zx_tie (N : Nat) (M pd ci : Nat → Nat) (pn cn : Nat) (rest : Nat → List Nat) (ec : Nat) (T Nx mk en cu cs pe : Nat → Int32) : Prop :=
  (∀ y, y < 192 → mk y = nI (M y)) ∧ (∀ i, i < pn → pe i = nI (pd i)) ∧ (∀ i, i < pn → en (pd i) = nI (i + 1)) ∧ (∀ j, j < cn → cs j = nI (pd (ci j))) ∧
  (∀ y, y < N → M y ≠ 0 → zx_Lk T Nx ec (cu y) (rest y))
def zd_up {α : Type} (f : Nat → α) (k : Nat) (v : α) : Nat → α := fun j => if j = k then v else f j
theorem zd_us {α : Type} {f : Nat → α} {k : Nat} {v : α} : zd_up f k v k = v := if_pos rfl
theorem zd_un {α : Type} {f : Nat → α} {k j : Nat} {v : α} (h : j ≠ k) : zd_up f k v j = f j := if_neg h
def zx_F (fo : Nat → Int32) (y t : Nat) : Prop := zb (fo y) t
section ZX
variable {f_maxRules f_maxStates f_maxNodes f_maxEdges f_maxSteps f_maxLog f_finished f_lastTerminal f_lastNonterminal f_depthLimit f_built f_ruleCount f_nullable f_stateCount f_edgeCount f_callSize f_pendingSize f_conflictCount f_height f_logSize f_low f_tip f_trialLog : Int32} {a_left a_length a_need a_rhs a_level a_side a_vanishing a_go a_follow a_head a_next a_target a_mark a_entry a_cursor a_callStack a_pending a_la a_base a_table a_check a_row a_symbols a_states a_log a_trialSymbols a_trialStates : Nat → Int32} {a_before a_corner a_sets : Nat → Int64}
theorem zx_open {post : SX → Prop} {cn pn z : Nat} (hc : cn < 192) (hp : pn < 192) (hz : z < 192)
    (h : post (f_maxRules, f_maxStates, f_maxNodes, f_maxEdges, f_maxSteps, f_maxLog, f_finished, f_lastTerminal, f_lastNonterminal, f_depthLimit, f_built, f_ruleCount, f_nullable, f_stateCount, f_edgeCount, nI (cn + 1), nI (pn + 1), f_conflictCount, f_height, f_logSize, f_low, f_tip, f_trialLog, a_left, a_length, a_need, a_rhs, a_level, a_side, a_before, a_corner, a_vanishing, a_sets, a_go, a_follow, a_head, a_next, a_target, upd a_mark z (nI (pn + 1)), upd a_entry z (nI (pn + 1)), upd a_cursor z (a_head z), upd a_callStack cn (nI z), upd a_pending pn (nI z), a_la, a_base, a_table, a_check, a_row, a_symbols, a_states, a_log, a_trialSymbols, a_trialStates)) :
    wpX_open post (f_maxRules, f_maxStates, f_maxNodes, f_maxEdges, f_maxSteps, f_maxLog, f_finished, f_lastTerminal, f_lastNonterminal, f_depthLimit, f_built, f_ruleCount, f_nullable, f_stateCount, f_edgeCount, nI cn, nI pn, f_conflictCount, f_height, f_logSize, f_low, f_tip, f_trialLog, a_left, a_length, a_need, a_rhs, a_level, a_side, a_before, a_corner, a_vanishing, a_sets, a_go, a_follow, a_head, a_next, a_target, a_mark, a_entry, a_cursor, a_callStack, a_pending, a_la, a_base, a_table, a_check, a_row, a_symbols, a_states, a_log, a_trialSymbols, a_trialStates) (nI z) := by
  refine ⟨vp_in_nI hp (by omega), fun P eP p2 e2 => ⟨vp_in_nI hc (by omega), fun C eC c2 e3 => ⟨vp_in_nI hz (by omega), fun M eM => ⟨vp_in_nI hz (by omega), fun E eE => ⟨vp_in_nI hz (by omega), vp_in_nI hz (by omega), fun U eU => ?_⟩⟩⟩⟩⟩
  rw [za_c _ (by omega)] at eP eC eM eE eU
  rw [nI_1] at e2 e3
  subst e2; subst e3; subst eP; subst eC; subst eM; subst eE; subst eU
  exact h
theorem zx_absorb {post : SX → Prop} {x z mx mz : Nat} (hx : x < 192) (hz : z < 192) (h1 : a_mark x = nI mx) (h2 : a_mark z = nI mz) (b1 : mx ≤ 1000) (b2 : mz ≤ 1000)
    (hp : ∀ mk : Nat → Int32, mk x = nI (min mx mz) → (∀ y, y ≠ x → mk y = a_mark y) → post (f_maxRules, f_maxStates, f_maxNodes, f_maxEdges, f_maxSteps, f_maxLog, f_finished, f_lastTerminal, f_lastNonterminal, f_depthLimit, f_built, f_ruleCount, f_nullable, f_stateCount, f_edgeCount, f_callSize, f_pendingSize, f_conflictCount, f_height, f_logSize, f_low, f_tip, f_trialLog, a_left, a_length, a_need, a_rhs, a_level, a_side, a_before, a_corner, a_vanishing, a_sets, a_go, upd a_follow x (a_follow x ||| a_follow z), a_head, a_next, a_target, mk, a_entry, a_cursor, a_callStack, a_pending, a_la, a_base, a_table, a_check, a_row, a_symbols, a_states, a_log, a_trialSymbols, a_trialStates)) :
    wpX_absorb post (f_maxRules, f_maxStates, f_maxNodes, f_maxEdges, f_maxSteps, f_maxLog, f_finished, f_lastTerminal, f_lastNonterminal, f_depthLimit, f_built, f_ruleCount, f_nullable, f_stateCount, f_edgeCount, f_callSize, f_pendingSize, f_conflictCount, f_height, f_logSize, f_low, f_tip, f_trialLog, a_left, a_length, a_need, a_rhs, a_level, a_side, a_before, a_corner, a_vanishing, a_sets, a_go, a_follow, a_head, a_next, a_target, a_mark, a_entry, a_cursor, a_callStack, a_pending, a_la, a_base, a_table, a_check, a_row, a_symbols, a_states, a_log, a_trialSymbols, a_trialStates) (nI x) (nI z) := by
  have join : ∀ mk : Nat → Int32, mk x = nI (min mx mz) → (∀ y, y ≠ x → mk y = a_mark y) → wX_absorb_27 post (nI x) (nI z) f_maxRules f_maxStates f_maxNodes f_maxEdges f_maxSteps f_maxLog f_finished f_lastTerminal f_lastNonterminal f_depthLimit f_built f_ruleCount f_nullable f_stateCount f_edgeCount f_callSize f_pendingSize f_conflictCount f_height f_logSize f_low f_tip f_trialLog a_left a_length a_need a_rhs a_level a_side a_before a_corner a_vanishing a_sets a_go a_follow a_head a_next a_target mk a_entry a_cursor a_callStack a_pending a_la a_base a_table a_check a_row a_symbols a_states a_log a_trialSymbols a_trialStates := by
    intro mk m1 m2
    refine ⟨vp_in_nI hx (by omega), vp_in_nI hz (by omega), vp_in_nI hx (by omega), fun F eF => ?_⟩
    rw [za_c _ (by omega), za_c _ (by omega)] at eF
    subst eF
    exact hp mk m1 m2
  refine ⟨vp_in_nI hz (by omega), vp_in_nI hx (by omega), ?_⟩
  rw [za_c x (by omega), za_c z (by omega), h1, h2]
  refine pk_le mx mz (fun c => ?_) (fun c => ?_)
  · exact join a_mark (by rw [h1]; exact congrArg nI (by omega)) (fun _ _ => rfl)
  · refine ⟨vp_in_nI hz (by omega), vp_in_nI hx (by omega), fun mk em => ?_⟩
    exact join mk (by rw [em, pk_us]; exact congrArg nI (by omega)) (fun y hy => by rw [em, pk_un hy])
theorem zx_lv33 {post : SX → Prop} {pd : Nat → Nat} {pn ix : Nat} (hpn : pn ≤ 192) (hb : ∀ i, i < pn → pd i < 192) (inj : ∀ i j, i < pn → j < pn → pd i = pd j → i = j) (hix : ix < pn) (hpe : ∀ i, i < pn → a_pending i = nI (pd i))
    (hp : ∀ mk fo : Nat → Int32, (∀ i, ix ≤ i → i < pn → mk (pd i) = nI 1000 ∧ fo (pd i) = a_follow (pd ix)) → (∀ y, (∀ i, ix ≤ i → i < pn → pd i ≠ y) → mk y = a_mark y ∧ fo y = a_follow y) → post (f_maxRules, f_maxStates, f_maxNodes, f_maxEdges, f_maxSteps, f_maxLog, f_finished, f_lastTerminal, f_lastNonterminal, f_depthLimit, f_built, f_ruleCount, f_nullable, f_stateCount, f_edgeCount, f_callSize, nI ix, f_conflictCount, f_height, f_logSize, f_low, f_tip, f_trialLog, a_left, a_length, a_need, a_rhs, a_level, a_side, a_before, a_corner, a_vanishing, a_sets, a_go, fo, a_head, a_next, a_target, mk, a_entry, a_cursor, a_callStack, a_pending, a_la, a_base, a_table, a_check, a_row, a_symbols, a_states, a_log, a_trialSymbols, a_trialStates)) :
    ∀ f i p (mk fo : Nat → Int32), ix ≤ i → i < pn → i - ix < f → (∀ i', i < i' → i' < pn → mk (pd i') = nI 1000 ∧ fo (pd i') = a_follow (pd ix)) → (∀ y, (∀ i', i < i' → i' < pn → pd i' ≠ y) → mk y = a_mark y ∧ fo y = a_follow y) →
      wX_leave_33 post (nI (pd ix)) f_maxRules f_maxStates f_maxNodes f_maxEdges f_maxSteps f_maxLog f_finished f_lastTerminal f_lastNonterminal f_depthLimit f_built f_ruleCount f_nullable f_stateCount f_edgeCount f_callSize f_conflictCount f_height f_logSize f_low f_tip f_trialLog f (nI i) p a_left a_length a_need a_rhs a_level a_side a_before a_corner a_vanishing a_sets a_go fo a_head a_next a_target mk a_entry a_cursor a_callStack a_pending a_la a_base a_table a_check a_row a_symbols a_states a_log a_trialSymbols a_trialStates := by
  intro f
  induction f with
  | zero => intro i p mk fo _ _ h; omega
  | succ f ih =>
    intro i p mk fo h1 h2 hf hd hu
    have hi := hb i h2
    have hx := hb ix hix
    refine br_f (nI_pos (by omega)) ⟨vp_in_nI (by omega) (by omega), fun y ey => ?_⟩
    rw [za_c i (by omega), hpe i h2] at ey
    subst ey
    refine ⟨vp_in_nI hi (by omega), fun mk' em => ⟨vp_in_nI hx (by omega), vp_in_nI hi (by omega), fun fo' ef => ?_⟩⟩
    rw [za_c _ (by omega)] at em ef
    rw [za_c _ (by omega)] at ef
    have fx : fo (pd ix) = a_follow (pd ix) := (hu _ (fun i' a b e => by have := inj i' ix b hix e; omega)).2
    rw [fx] at ef
    have d' : ∀ i', i ≤ i' → i' < pn → mk' (pd i') = nI 1000 ∧ fo' (pd i') = a_follow (pd ix) := fun i' a b => by
      by_cases e : pd i' = pd i
      · rw [e, em, ef, pk_us, pk_us]; exact ⟨rfl, rfl⟩
      · rw [em, ef, pk_un e, pk_un e]
        have : i' ≠ i := fun q => e (by rw [q])
        exact hd i' (by omega) b
    have u' : ∀ y, (∀ i', i ≤ i' → i' < pn → pd i' ≠ y) → mk' y = a_mark y ∧ fo' y = a_follow y := fun y hy => by
      have e : y ≠ pd i := fun q => hy i (Nat.le_refl _) h2 q.symm
      rw [em, ef, pk_un e, pk_un e]
      exact hu y (fun i' a b => hy i' (by omega) b)
    refine pk_eq (pd i) (pd ix) (fun c => ?_) (fun c => ?_)
    · have e : i = ix := inj i ix h2 hix c
      subst e
      exact hp mk' fo' d' u'
    · have ne : i ≠ ix := fun q => c (by rw [q])
      obtain ⟨j, rfl⟩ : ∃ j, i = j + 1 := ⟨i - 1, by omega⟩
      intro y ey
      rw [ey, pk_m1]
      exact ih j _ mk' fo' (by omega) (by omega) (by omega) (fun i' a b => d' i' (by omega) b) (fun y hy => u' y (fun i' a b => hy i' (by omega) b))
theorem zx_leave {post : SX → Prop} {pd : Nat → Nat} {pn ix c mx : Nat} (hpn : pn ≤ 192) (hb : ∀ i, i < pn → pd i < 192) (inj : ∀ i j, i < pn → j < pn → pd i = pd j → i = j) (hix : ix < pn) (hpe : ∀ i, i < pn → a_pending i = nI (pd i))
    (h1 : a_mark (pd ix) = nI mx) (b1 : mx ≤ 1000) (h2 : a_entry (pd ix) = nI (ix + 1))
    (hn : mx ≠ ix + 1 → post (f_maxRules, f_maxStates, f_maxNodes, f_maxEdges, f_maxSteps, f_maxLog, f_finished, f_lastTerminal, f_lastNonterminal, f_depthLimit, f_built, f_ruleCount, f_nullable, f_stateCount, f_edgeCount, nI c, nI pn, f_conflictCount, f_height, f_logSize, f_low, f_tip, f_trialLog, a_left, a_length, a_need, a_rhs, a_level, a_side, a_before, a_corner, a_vanishing, a_sets, a_go, a_follow, a_head, a_next, a_target, a_mark, a_entry, a_cursor, a_callStack, a_pending, a_la, a_base, a_table, a_check, a_row, a_symbols, a_states, a_log, a_trialSymbols, a_trialStates))
    (hp : ∀ mk fo : Nat → Int32, mx = ix + 1 → (∀ i, ix ≤ i → i < pn → mk (pd i) = nI 1000 ∧ fo (pd i) = a_follow (pd ix)) → (∀ y, (∀ i, ix ≤ i → i < pn → pd i ≠ y) → mk y = a_mark y ∧ fo y = a_follow y) → post (f_maxRules, f_maxStates, f_maxNodes, f_maxEdges, f_maxSteps, f_maxLog, f_finished, f_lastTerminal, f_lastNonterminal, f_depthLimit, f_built, f_ruleCount, f_nullable, f_stateCount, f_edgeCount, nI c, nI ix, f_conflictCount, f_height, f_logSize, f_low, f_tip, f_trialLog, a_left, a_length, a_need, a_rhs, a_level, a_side, a_before, a_corner, a_vanishing, a_sets, a_go, fo, a_head, a_next, a_target, mk, a_entry, a_cursor, a_callStack, a_pending, a_la, a_base, a_table, a_check, a_row, a_symbols, a_states, a_log, a_trialSymbols, a_trialStates)) :
    wpX_leave post (f_maxRules, f_maxStates, f_maxNodes, f_maxEdges, f_maxSteps, f_maxLog, f_finished, f_lastTerminal, f_lastNonterminal, f_depthLimit, f_built, f_ruleCount, f_nullable, f_stateCount, f_edgeCount, nI (c + 1), nI pn, f_conflictCount, f_height, f_logSize, f_low, f_tip, f_trialLog, a_left, a_length, a_need, a_rhs, a_level, a_side, a_before, a_corner, a_vanishing, a_sets, a_go, a_follow, a_head, a_next, a_target, a_mark, a_entry, a_cursor, a_callStack, a_pending, a_la, a_base, a_table, a_check, a_row, a_symbols, a_states, a_log, a_trialSymbols, a_trialStates) (nI (pd ix)) := by
  have hx := hb ix hix
  intro y ey
  rw [nI_pred] at ey
  subst ey
  refine ⟨vp_in_nI hx (by omega), vp_in_nI hx (by omega), ?_⟩
  rw [za_c _ (by omega), h1, h2]
  refine pk_eq mx (ix + 1) (fun e => ?_) (fun e => hn e)
  intro y ey
  obtain ⟨p, rfl⟩ : ∃ p, pn = p + 1 := ⟨pn - 1, by omega⟩
  rw [nI_pred] at ey
  subst ey
  exact ⟨p + 1, zx_lv33 hpn hb inj hix hpe (fun mk fo a b => hp mk fo e a b) (p + 1) p _ a_mark a_follow (by omega) (by omega) (by omega) (fun i' a b => by omega) (fun y _ => ⟨rfl, rfl⟩)⟩
theorem zx_tr7 {post : SX → Prop} {N ec : Nat} {AL : Nat → List Nat} {F0 : Nat → Nat → Prop} {K : Nat → Prop} (hec : ec ≤ 1536) (hL : zx_RL AL ec a_head a_next a_target)
    (hp : ∀ (fo mk en cu cs pe : Nat → Int32) (M pd ci : Nat → Nat) (rest : Nat → List Nat), zd_J N AL F0 M pd ci 0 0 rest (zx_F fo) → zx_tie N M pd ci 0 0 rest ec a_target a_next mk en cu cs pe → (∀ y, K y → M y ≠ 0) →
      post (f_maxRules, f_maxStates, f_maxNodes, f_maxEdges, f_maxSteps, f_maxLog, f_finished, f_lastTerminal, f_lastNonterminal, f_depthLimit, f_built, f_ruleCount, f_nullable, f_stateCount, f_edgeCount, nI 0, nI 0, f_conflictCount, f_height, f_logSize, f_low, f_tip, f_trialLog, a_left, a_length, a_need, a_rhs, a_level, a_side, a_before, a_corner, a_vanishing, a_sets, a_go, fo, a_head, a_next, a_target, mk, en, cu, cs, pe, a_la, a_base, a_table, a_check, a_row, a_symbols, a_states, a_log, a_trialSymbols, a_trialStates)) :
    ∀ f st (fo mk en cu cs pe : Nat → Int32) (M pd ci : Nat → Nat) (pn cn : Nat) (rest : Nat → List Nat), 4096 - st < f → st + zd_mu N M cn rest ≤ 4095 → zd_J N AL F0 M pd ci pn cn rest (zx_F fo) → zx_tie N M pd ci pn cn rest ec a_target a_next mk en cu cs pe → (∀ y, K y → M y ≠ 0) →
      wX_traverse_7 post f (nI st) f_maxRules f_maxStates f_maxNodes f_maxEdges f_maxSteps f_maxLog f_finished f_lastTerminal f_lastNonterminal f_depthLimit f_built f_ruleCount f_nullable f_stateCount f_edgeCount (nI cn) (nI pn) f_conflictCount f_height f_logSize f_low f_tip f_trialLog a_left a_length a_need a_rhs a_level a_side a_before a_corner a_vanishing a_sets a_go fo a_head a_next a_target mk en cu cs pe a_la a_base a_table a_check a_row a_symbols a_states a_log a_trialSymbols a_trialStates := by
  intro f
  induction f with
  | zero => intro st fo mk en cu cs pe M pd ci pn cn rest h; omega
  | succ f ih =>
    intro st fo mk en cu cs pe M pd ci pn cn rest hf hst J tie hK
    have hN := J.1.1
    have hpn := zd_pnN J
    have hcn := zd_cn J
    refine br_f (nI_ge (b := 4096) (by omega) (by decide)) ?_
    rcases Nat.eq_zero_or_pos cn with c0 | c0
    · subst c0
      have := zd_empty J
      subst this
      exact br_t (by decide) (hp fo mk en cu cs pe M pd ci rest J tie hK)
    · obtain ⟨c, rfl⟩ : ∃ c, cn = c + 1 := ⟨cn - 1, by omega⟩
      refine br_f (nI_nle (by omega) (by omega)) ?_
      rw [nI_pred]
      obtain ⟨t1, t2, t3, t4, t5⟩ := id tie
      obtain ⟨⟨a0, a1⟩, a2, a3, a4, ⟨a5, a5'⟩, a6, a7, a8, a9, a10, a11, a12, a13, a14⟩ := id J
      have hx := a5 c (by omega)
      obtain ⟨xN, x1, x2⟩ := a2 _ hx
      refine ⟨vp_in_nI (by omega) (by omega), fun x3 e3 => ?_⟩
      rw [za_c c (by omega), t4 c (by omega)] at e3
      subst e3
      refine ⟨vp_in_nI (by omega) (by omega), fun x4 e4 => ?_⟩
      rw [za_c _ (by omega)] at e4
      have lk := t5 _ xN (by omega)
      rw [← e4] at lk
      cases hr : rest (pd (ci c)) with
      | nil =>
        rw [hr] at lk
        have lk : x4 = -1 := lk
        refine br_f (by rw [lk]; decide) ?_
        refine zx_leave (pd := pd) (pn := pn) (ix := ci c) (c := c) (mx := M (pd (ci c))) (by omega) (fun i hi => by have := (a2 i hi).1; omega) a3 hx t2 (t1 _ (by omega)) (by have := zd_Mb J xN; omega) (t3 _ hx) (fun hn => ?_) (fun mk' fo' he m1 m2 => ?_)
        · obtain ⟨J', mu⟩ := zd_leave1 J hr hn
          intro y ey
          rw [ey, nI_1]
          exact ih (st + 1) fo mk en cu cs pe M pd ci pn c rest (by omega) (by omega) J' ⟨t1, t2, t3, fun j hj => t4 j (by omega), t5⟩ hK
        · have em : ∀ y, (∃ i, ci c ≤ i ∧ i < pn ∧ pd i = y) ∨ (∀ i, ci c ≤ i → i < pn → pd i ≠ y) := fun y => by
            rcases Classical.em (∃ i, ci c ≤ i ∧ i < pn ∧ pd i = y) with h | h
            · exact Or.inl h
            · exact Or.inr fun i h1 h2 h3 => h ⟨i, h1, h2, h3⟩
          have dec : ∀ y, Decidable (∃ i, ci c ≤ i ∧ i < pn ∧ pd i = y) := fun y => Classical.propDecidable _
          have hM1 : ∀ i, ci c ≤ i → i < pn → (fun y => @ite Nat (∃ i, ci c ≤ i ∧ i < pn ∧ pd i = y) (dec y) 1000 (M y)) (pd i) = 1000 := fun i h1 h2 => by
            show @ite Nat _ (dec (pd i)) 1000 _ = 1000
            rw [if_pos ⟨i, h1, h2, rfl⟩]
          have hM2 : ∀ y, (∀ i, ci c ≤ i → i < pn → pd i ≠ y) → (fun y => @ite Nat (∃ i, ci c ≤ i ∧ i < pn ∧ pd i = y) (dec y) 1000 (M y)) y = M y := fun y h => by
            show @ite Nat _ (dec y) 1000 _ = _
            rw [if_neg (fun ⟨i, h1, h2, h3⟩ => h i h1 h2 h3)]
          generalize hMM : (fun y => @ite Nat (∃ i, ci c ≤ i ∧ i < pn ∧ pd i = y) (dec y) 1000 (M y)) = M' at hM1 hM2
          obtain ⟨J', mu⟩ := zd_leave2 (F' := zx_F fo') J hr he hM1 hM2 (fun i h1 h2 => by funext t; unfold zx_F; rw [(m1 i h1 h2).2]) (fun y hy => by funext t; unfold zx_F; rw [(m2 y hy).2])
          intro y ey
          rw [ey, nI_1]
          refine ih (st + 1) fo' mk' en cu cs pe M' pd ci (ci c) c rest (by omega) (by omega) J' ⟨fun y hy => ?_, fun i hi => t2 i (by omega), fun i hi => t3 i (by omega), fun j hj => t4 j (by omega), fun y hy hM => t5 y hy ?_⟩ (fun y hy => ?_)
          · rcases em y with ⟨i, h1, h2, rfl⟩ | h
            · rw [hM1 i h1 h2]; exact (m1 i h1 h2).1
            · rw [hM2 y h, (m2 y h).1]; exact t1 y hy
          · rcases em y with ⟨i, h1, h2, rfl⟩ | h
            · have := (a2 i h2).2.1; omega
            · rw [hM2 y h] at hM; exact hM
          · rcases em y with ⟨i, h1, h2, rfl⟩ | h
            · rw [hM1 i h1 h2]; omega
            · rw [hM2 y h]; exact hK y hy
      | cons z l =>
        rw [hr] at lk
        obtain ⟨e, he, ex4, hT, lk'⟩ := lk
        subst ex4
        have zN : z < N := by
          obtain ⟨ps, e1, _⟩ := a10 _ xN (by omega)
          exact a1 (pd (ci c)) z (by rw [e1, hr]; simp)
        refine br_t (nI_pos' (by omega)) ⟨vp_in_nI (by omega) (by omega), ?_⟩
        rw [za_c e (by omega), hT]
        refine ⟨vp_in_nI (by omega) (by omega), ?_⟩
        rw [za_c z (by omega), t1 z (by omega)]
        have Mz := zd_Mb J zN
        refine pk_eq (M z) 0 (fun m0 => ?_) (fun m0 => ?_)
        · refine ⟨vp_in_nI (by omega) (by omega), ?_⟩
          have hpn' := zd_pn J zN m0
          refine zx_open (cn := c + 1) (pn := pn) (by omega) (by omega) (by omega) ?_
          have hc' : ∀ c', c + 1 = c' + 1 → ∃ l, rest (pd (ci c')) = z :: l := fun c' e' => ⟨l, by rw [show c' = c by omega]; exact hr⟩
          obtain ⟨J', mu⟩ := zd_open J zN m0 (M' := zd_up M z (pn + 1)) (pd' := zd_up pd pn z) (ci' := zd_up ci (c + 1) pn) hc' zd_us (fun y hy => zd_un hy) zd_us (fun i hi => zd_un (by omega)) zd_us (fun j hj => zd_un (by omega))
          intro y ey
          rw [ey, nI_1]
          refine ih (st + 1) _ _ _ _ _ _ _ _ _ (pn + 1) (c + 1 + 1) rest (by omega) (by omega) J' ⟨fun y hy => ?_, fun i hi => ?_, fun i hi => ?_, fun j hj => ?_, fun y hy hM => ?_⟩ (fun y hy => ?_)
          · by_cases q : y = z
            · rw [q, pk_us, zd_us]
            · rw [pk_un q, zd_un q]; exact t1 y hy
          · by_cases q : i = pn
            · rw [q, pk_us, zd_us]
            · rw [pk_un q, zd_un q]; exact t2 i (by omega)
          · by_cases q : i = pn
            · rw [q, zd_us, pk_us]
            · rw [zd_un q]
              have : pd i ≠ z := fun e' => by have := (a2 i (by omega)).2.1; rw [e'] at this; omega
              rw [pk_un this]; exact t3 i (by omega)
          · by_cases q : j = c + 1
            · rw [q, zd_us, zd_us, pk_us]
            · have := a5 j (by omega)
              rw [zd_un q, zd_un (by omega), pk_un q]; exact t4 j (by omega)
          · by_cases q : y = z
            · rw [q, pk_us, a12 z zN m0]; exact hL.1 z (by omega)
            · rw [pk_un q]; rw [zd_un q] at hM; exact t5 y hy hM
          · by_cases q : y = z
            · rw [q, zd_us]; omega
            · rw [zd_un q]; exact hK y hy
        · refine ⟨vp_in_nI (by omega) (by omega), ?_⟩
          refine zx_absorb (x := pd (ci c)) (z := z) (mx := M (pd (ci c))) (mz := M z) (by omega) (by omega) (t1 _ (by omega)) (t1 z (by omega)) (by have := zd_Mb J xN; omega) (by omega) (fun mk' m1 m2 => ?_)
          refine ⟨vp_in_nI (by omega) (by omega), vp_in_nI (by omega) (by omega), fun cu' ec' y ey => ?_⟩
          rw [za_c _ (by omega)] at ec'
          rw [ey, nI_1]
          obtain ⟨J', mu⟩ := zd_absorb J hr m0 (M' := zd_up M (pd (ci c)) (min (M (pd (ci c))) (M z))) (F' := zx_F (upd fo (pd (ci c)) (fo (pd (ci c)) ||| fo z))) (rest' := zd_up rest (pd (ci c)) l) zd_us (fun y hy => zd_un hy) (fun t => by unfold zx_F; rw [pk_us, zb_or]) (fun y hy => by funext t; unfold zx_F; rw [pk_un hy]) zd_us (fun y hy => zd_un hy)
          refine ih (st + 1) _ mk' en cu' cs pe _ pd ci pn (c + 1) _ (by omega) (by omega) J' ⟨fun y hy => ?_, t2, t3, t4, fun y hy hM => ?_⟩ (fun y hy => ?_)
          · by_cases q : y = pd (ci c)
            · rw [q, m1, zd_us]
            · rw [m2 y q, zd_un q]; exact t1 y hy
          · by_cases q : y = pd (ci c)
            · rw [q, ec', pk_us, zd_us]; exact lk'
            · rw [ec', pk_un q, zd_un q]; rw [zd_un q] at hM; exact t5 y hy hM
          · by_cases q : y = pd (ci c)
            · rw [q, zd_us]; omega
            · rw [zd_un q]; exact hK y hy
theorem zx_traverse {post : SX → Prop} {N ec : Nat} {AL : Nat → List Nat} {F0 : Nat → Nat → Prop} {K : Nat → Prop} (hec : ec ≤ 1536) (hL : zx_RL AL ec a_head a_next a_target)
    {M pd ci : Nat → Nat} {rest : Nat → List Nat} (J : zd_J N AL F0 M pd ci 0 0 rest (zx_F a_follow)) (tie : zx_tie N M pd ci 0 0 rest ec a_target a_next a_mark a_entry a_cursor a_callStack a_pending) (hK : ∀ y, K y → M y ≠ 0) {z : Nat} (hz : z < N) (h0 : M z = 0)
    (hp : ∀ (fo mk en cu cs pe : Nat → Int32) (M pd ci : Nat → Nat) (rest : Nat → List Nat), zd_J N AL F0 M pd ci 0 0 rest (zx_F fo) → zx_tie N M pd ci 0 0 rest ec a_target a_next mk en cu cs pe → (∀ y, K y ∨ y = z → M y ≠ 0) →
      post (f_maxRules, f_maxStates, f_maxNodes, f_maxEdges, f_maxSteps, f_maxLog, f_finished, f_lastTerminal, f_lastNonterminal, f_depthLimit, f_built, f_ruleCount, f_nullable, f_stateCount, f_edgeCount, nI 0, nI 0, f_conflictCount, f_height, f_logSize, f_low, f_tip, f_trialLog, a_left, a_length, a_need, a_rhs, a_level, a_side, a_before, a_corner, a_vanishing, a_sets, a_go, fo, a_head, a_next, a_target, mk, en, cu, cs, pe, a_la, a_base, a_table, a_check, a_row, a_symbols, a_states, a_log, a_trialSymbols, a_trialStates)) :
    wpX_traverse post (f_maxRules, f_maxStates, f_maxNodes, f_maxEdges, f_maxSteps, f_maxLog, f_finished, f_lastTerminal, f_lastNonterminal, f_depthLimit, f_built, f_ruleCount, f_nullable, f_stateCount, f_edgeCount, nI 0, nI 0, f_conflictCount, f_height, f_logSize, f_low, f_tip, f_trialLog, a_left, a_length, a_need, a_rhs, a_level, a_side, a_before, a_corner, a_vanishing, a_sets, a_go, a_follow, a_head, a_next, a_target, a_mark, a_entry, a_cursor, a_callStack, a_pending, a_la, a_base, a_table, a_check, a_row, a_symbols, a_states, a_log, a_trialSymbols, a_trialStates) (nI z) := by
  have hN := J.1.1
  unfold wpX_traverse
  refine zx_open (cn := 0) (pn := 0) (by omega) (by omega) (by omega) ?_
  have mul := zd_mu_le J (by have := hL.2; omega)
  obtain ⟨J', mu⟩ := zd_open J hz h0 (M' := zd_up M z (0 + 1)) (pd' := zd_up pd 0 z) (ci' := zd_up ci 0 0) (fun c' ec' => by omega) zd_us (fun y hy => zd_un hy) zd_us (fun i hi => zd_un (by omega)) zd_us (fun j hj => zd_un (by omega))
  obtain ⟨t1, t2, t3, t4, t5⟩ := tie
  refine ⟨4097, zx_tr7 (K := fun y => K y ∨ y = z) hec hL hp 4097 0 _ _ _ _ _ _ _ _ _ (0 + 1) (0 + 1) rest (by omega) (by omega) J' ⟨fun y hy => ?_, fun i hi => ?_, fun i hi => ?_, fun j hj => ?_, fun y hy hM => ?_⟩ (fun y hy => ?_)⟩
  · by_cases q : y = z
    · rw [q, pk_us, zd_us]
    · rw [pk_un q, zd_un q]; exact t1 y hy
  · have q : i = 0 := by omega
    rw [q, pk_us, zd_us]
  · have q : i = 0 := by omega
    rw [q, zd_us, pk_us]
  · have q : j = 0 := by omega
    rw [q, zd_us, zd_us, pk_us]
  · by_cases q : y = z
    · obtain ⟨_, _, _, _, _, _, _, _, _, _, _, a12, _⟩ := J
      rw [q, pk_us, a12 z hz h0]; exact hL.1 z (by omega)
    · rw [pk_un q]; rw [zd_un q] at hM; exact t5 y hy hM
  · by_cases q : y = z
    · rw [q, zd_us]; omega
    · rw [zd_un q]
      exact hy.elim (hK y) (fun e => absurd e q)
theorem zx_sp12 {post : SX → Prop} {n ec : Nat} {AL : Nat → List Nat} {F0 : Nat → Nat → Prop} (hec : ec ≤ 1536) (hL : zx_RL AL ec a_head a_next a_target) (hn : n ≤ 24)
    (hp : ∀ (fo mk en cu cs pe : Nat → Int32), (∀ y t, y < n * 8 → (zb (fo y) t ↔ ∃ w, zd_Re (zd_E AL) y w ∧ F0 w t)) →
      post (f_maxRules, f_maxStates, f_maxNodes, f_maxEdges, f_maxSteps, f_maxLog, f_finished, f_lastTerminal, f_lastNonterminal, f_depthLimit, f_built, f_ruleCount, f_nullable, nI n, f_edgeCount, nI 0, nI 0, f_conflictCount, f_height, f_logSize, f_low, f_tip, f_trialLog, a_left, a_length, a_need, a_rhs, a_level, a_side, a_before, a_corner, a_vanishing, a_sets, a_go, fo, a_head, a_next, a_target, mk, en, cu, cs, pe, a_la, a_base, a_table, a_check, a_row, a_symbols, a_states, a_log, a_trialSymbols, a_trialStates)) :
    ∀ f v (fo mk en cu cs pe : Nat → Int32) (M pd ci : Nat → Nat) (rest : Nat → List Nat), v ≤ n * 8 → n * 8 - v < f → zd_J (n * 8) AL F0 M pd ci 0 0 rest (zx_F fo) → zx_tie (n * 8) M pd ci 0 0 rest ec a_target a_next mk en cu cs pe → (∀ y, y < v → M y ≠ 0) →
      wX_spread_12 post f (nI v) f_maxRules f_maxStates f_maxNodes f_maxEdges f_maxSteps f_maxLog f_finished f_lastTerminal f_lastNonterminal f_depthLimit f_built f_ruleCount f_nullable (nI n) f_edgeCount (nI 0) (nI 0) f_conflictCount f_height f_logSize f_low f_tip f_trialLog a_left a_length a_need a_rhs a_level a_side a_before a_corner a_vanishing a_sets a_go fo a_head a_next a_target mk en cu cs pe a_la a_base a_table a_check a_row a_symbols a_states a_log a_trialSymbols a_trialStates := by
  intro f
  induction f with
  | zero => intro v fo mk en cu cs pe M pd ci rest _ h; omega
  | succ f ih =>
    intro v fo mk en cu cs pe M pd ci rest hv hf J tie hK
    refine pk_le (n * 8) v (fun h => ?_) (fun h => ?_) (za_x8 n)
    · exact hp fo mk en cu cs pe (zd_final J (fun y hy => hK y (by omega)))
    · refine ⟨vp_in_nI (by omega) (by omega), ?_⟩
      rw [za_c v (by omega), tie.1 v (by omega)]
      have := zd_Mb J h
      refine pk_eq (M v) 0 (fun m0 => ?_) (fun m0 => ?_)
      · refine zx_traverse (K := fun y => y < v) hec hL J tie hK h m0 (fun fo' mk' en' cu' cs' pe' M' pd' ci' rest' J' tie' hK' => ?_)
        intro y ey
        rw [ey, nI_1]
        exact ih (v + 1) fo' mk' en' cu' cs' pe' M' pd' ci' rest' (by omega) (by omega) J' tie' (fun y hy => hK' y (by omega))
      · intro y ey
        rw [ey, nI_1]
        exact ih (v + 1) fo mk en cu cs pe M pd ci rest (by omega) (by omega) J tie (fun y hy => by
          by_cases q : y = v
          · rw [q]; exact m0
          · exact hK y (by omega))
theorem zx_spread {post : SX → Prop} {n ec : Nat} {AL : Nat → List Nat} (hec : ec ≤ 1536) (hL : zx_RL AL ec a_head a_next a_target) (hn : n ≤ 24) (hA : ∀ y z, z ∈ AL y → z < n * 8) (hM : ∀ y, y < 192 → a_mark y = 0)
    (hp : ∀ (fo mk en cu cs pe : Nat → Int32), (∀ y t, y < n * 8 → (zb (fo y) t ↔ ∃ w, zd_Re (zd_E AL) y w ∧ zb (a_follow w) t)) →
      post (f_maxRules, f_maxStates, f_maxNodes, f_maxEdges, f_maxSteps, f_maxLog, f_finished, f_lastTerminal, f_lastNonterminal, f_depthLimit, f_built, f_ruleCount, f_nullable, nI n, f_edgeCount, nI 0, nI 0, f_conflictCount, f_height, f_logSize, f_low, f_tip, f_trialLog, a_left, a_length, a_need, a_rhs, a_level, a_side, a_before, a_corner, a_vanishing, a_sets, a_go, fo, a_head, a_next, a_target, mk, en, cu, cs, pe, a_la, a_base, a_table, a_check, a_row, a_symbols, a_states, a_log, a_trialSymbols, a_trialStates)) :
    wpX_spread post (f_maxRules, f_maxStates, f_maxNodes, f_maxEdges, f_maxSteps, f_maxLog, f_finished, f_lastTerminal, f_lastNonterminal, f_depthLimit, f_built, f_ruleCount, f_nullable, nI n, f_edgeCount, f_callSize, f_pendingSize, f_conflictCount, f_height, f_logSize, f_low, f_tip, f_trialLog, a_left, a_length, a_need, a_rhs, a_level, a_side, a_before, a_corner, a_vanishing, a_sets, a_go, a_follow, a_head, a_next, a_target, a_mark, a_entry, a_cursor, a_callStack, a_pending, a_la, a_base, a_table, a_check, a_row, a_symbols, a_states, a_log, a_trialSymbols, a_trialStates) :=
  ⟨n * 8 + 1, zx_sp12 (F0 := zx_F a_follow) hec hL hn hp (n * 8 + 1) 0 a_follow a_mark a_entry a_cursor a_callStack a_pending _ _ _ AL (by omega) (by omega) (zd_init (by omega) hA)
    ⟨fun y hy => hM y hy, fun i h => by omega, fun i h => by omega, fun j h => by omega, fun y _ h => absurd rfl h⟩ (fun y h => by omega)⟩
end ZX
end
section
/-! X: findFollow -/
theorem zd_Re_N {E : Nat → Nat → Prop} {N y w : Nat} (h : zd_Re E y w) (hE : ∀ a b, E a b → b < N) (hy : y < N) : w < N :=
  h (fun a => a < N → w < N) (fun h => h) (fun a b e ih _ => ih (hE a b e)) hy
theorem zx_W8 {g : Nat → Nat} {R : Nat} (ok : zg_ok g R) : zm_s (fun k => zx_ct g k (R + 1)) 8 ≤ 12 := by
  have h1 : zm_s (fun k => zx_ct g k (R + 1)) 8 = zm_s (fun r => zm_s (fun k => zm_b (1 ≤ r ∧ g (4 * r) = 8 + k)) 8) (R + 1) := zm_s_swap (fun k r => zm_b (1 ≤ r ∧ g (4 * r) = 8 + k)) (R + 1) 8
  have h2 : zm_s (fun r => zm_s (fun k => zm_b (1 ≤ r ∧ g (4 * r) = 8 + k)) 8) (R + 1) ≤ zm_s (fun r => if r = 0 then 0 else 1) (R + 1) := by
    refine zm_s_le (fun r hr => ?_)
    by_cases e : r = 0
    · rw [if_pos e]
      exact Nat.le_of_eq (zm_s_zero fun k _ => zm_b_f (fun h => by omega))
    · rw [if_neg e]
      refine zm_s_le1 (fun k _ => zm_b_le _) (fun i j _ _ a b => ?_)
      have ha : 1 ≤ r ∧ g (4 * r) = 8 + i := by
        rcases Classical.em (1 ≤ r ∧ g (4 * r) = 8 + i) with q | q
        · exact q
        · exact absurd (zm_b_f q) a
      have hb : 1 ≤ r ∧ g (4 * r) = 8 + j := by
        rcases Classical.em (1 ≤ r ∧ g (4 * r) = 8 + j) with q | q
        · exact q
        · exact absurd (zm_b_f q) b
      omega
  have h3 : zm_s (fun r => if r = 0 then 0 else 1) (R + 1) ≤ R := by
    have : ∀ n, zm_s (fun r => if r = 0 then 0 else 1) (n + 1) = n := by
      intro n
      induction n with
      | zero => rfl
      | succ n ih =>
        show zm_s _ (n + 1) + (if n + 1 = 0 then 0 else 1) = n + 1
        rw [ih, if_neg (by omega)]
    rw [this]; exact Nat.le_refl _
  have := ok.1
  omega
theorem zx_Wv {g : Nat → Nat} {R : Nat} (ok : zg_ok g R) : ∀ j, zm_s (fun v => zx_ct g (v % 8) (R + 1)) (8 * j) ≤ 12 * j
  | 0 => Nat.le_refl _
  | j + 1 => by
    have ih := zx_Wv ok j
    have h8 := zx_W8 ok
    have e : zm_s (fun v => zx_ct g (v % 8) (R + 1)) (8 * (j + 1)) = zm_s (fun v => zx_ct g (v % 8) (R + 1)) (8 * j) + zm_s (fun k => zx_ct g k (R + 1)) 8 := by
      rw [show 8 * (j + 1) = 8 * j + 7 + 1 by omega]
      simp only [zm_s]
      rw [show 8 * j % 8 = 0 by omega, show (8 * j + 1) % 8 = 1 by omega, show (8 * j + 2) % 8 = 2 by omega, show (8 * j + 3) % 8 = 3 by omega, show (8 * j + 4) % 8 = 4 by omega, show (8 * j + 5) % 8 = 5 by omega, show (8 * j + 6) % 8 = 6 by omega, show (8 * j + 7) % 8 = 7 by omega]
      omega
    omega
def zx_D0 (g : Nat → Nat) (n : Nat) (σ : Nat → Nat → Prop) (G : Nat → Nat → Nat) (v t : Nat) : Prop :=
  ∃ s k, v = s * 8 + k ∧ s < n ∧ k < 8 ∧ zg_Df g (σ s) (8 + k) ∧ 1 ≤ t ∧ t < 8 ∧ zg_Df g (σ (G s (8 + k))) t
section ZX
variable {g : Nat → Nat} {R n : Nat} {G : Nat → Nat → Nat} {σ : Nat → Nat → Prop} {f_maxRules f_maxStates f_maxNodes f_maxEdges f_maxSteps f_maxLog f_finished f_lastTerminal f_lastNonterminal f_depthLimit f_built f_ruleCount f_nullable f_stateCount f_edgeCount f_callSize f_pendingSize f_conflictCount f_height f_logSize f_low f_tip f_trialLog : Int32} {a_left a_length a_need a_rhs a_level a_side a_vanishing a_go a_follow a_head a_next a_target a_mark a_entry a_cursor a_callStack a_pending a_la a_base a_table a_check a_row a_symbols a_states a_log a_trialSymbols a_trialStates : Nat → Int32} {a_before a_corner a_sets : Nat → Int64}
theorem zx_ff77 (ok : zg_ok g R) (A : zl_AU g R n σ G) (hG : zx_GR g R a_left a_length a_need a_rhs) (hgo : zx_GOA g n σ G a_go) (hV : ∀ r d, r ≤ R → d ≤ zg_ln g r → zx_VA g R a_vanishing (4 * r + d))
    (hM : ∀ y, y < 192 → a_mark y = 0) (hF : ∀ y t, y < n * 8 → (zb (a_follow y) t ↔ zl_F1 g R n σ y t)) {post : SX → Prop}
    (hp : ∀ (ec c1 p1 : Int32) (fo hd nx tg mk en cu cs pe : Nat → Int32), (∀ y t, y < n * 8 → (zb (fo y) t ↔ zl_R2 g R n σ G y t)) →
      post (f_maxRules, f_maxStates, f_maxNodes, f_maxEdges, f_maxSteps, f_maxLog, f_finished, f_lastTerminal, f_lastNonterminal, f_depthLimit, f_built, nI R, f_nullable, nI n, ec, c1, p1, f_conflictCount, f_height, f_logSize, f_low, f_tip, f_trialLog, a_left, a_length, a_need, a_rhs, a_level, a_side, a_before, a_corner, a_vanishing, a_sets, a_go, fo, hd, nx, tg, mk, en, cu, cs, pe, a_la, a_base, a_table, a_check, a_row, a_symbols, a_states, a_log, a_trialSymbols, a_trialStates)) :
    ∀ f v (AL : Nat → List Nat) (ec : Nat) (H Nx T : Nat → Int32), v ≤ n * 8 → n * 8 - v < f → zx_RL AL ec H Nx T → ec ≤ 3 * zm_s (fun v => zx_ct g (v % 8) (R + 1)) v → (∀ y z, z ∈ AL y ↔ z < v ∧ zl_E2 g R n σ G y z) →
      wX_findFollow_77 post f (nI v) f_maxRules f_maxStates f_maxNodes f_maxEdges f_maxSteps f_maxLog f_finished f_lastTerminal f_lastNonterminal f_depthLimit f_built (nI R) f_nullable (nI n) (nI ec) f_callSize f_pendingSize f_conflictCount f_height f_logSize f_low f_tip f_trialLog a_left a_length a_need a_rhs a_level a_side a_before a_corner a_vanishing a_sets a_go a_follow H Nx T a_mark a_entry a_cursor a_callStack a_pending a_la a_base a_table a_check a_row a_symbols a_states a_log a_trialSymbols a_trialStates := by
  have n24 := A.2.1
  intro f
  induction f with
  | zero => intro v AL ec H Nx T _ h; omega
  | succ f ih =>
    intro v AL ec H Nx T hv hf hL hec hA
    have bW : ∀ v, v ≤ 192 → zm_s (fun v => zx_ct g (v % 8) (R + 1)) v ≤ 288 := fun v hv => by
      have h1 := zm_s_mono (f := fun v => zx_ct g (v % 8) (R + 1)) hv
      have h2 : zm_s (fun v => zx_ct g (v % 8) (R + 1)) 192 ≤ 288 := zx_Wv ok 24
      omega
    refine pk_le (n * 8) v (fun h => ?_) (fun h => ?_) (za_x8 n)
    · have e : v = n * 8 := by omega
      subst e
      have lt : ∀ a b, zl_E2 g R n σ G a b → b < n * 8 := by
        rintro a b ⟨s, r, d, hs, r1, r2, _, _, _, _, eb, _⟩
        have := ok.2.2.2.2.2.2.1 (4 * r)
        have := ok.2.2.2.2.2.1 r r1 r2
        omega
      have hE : zd_E AL = zl_E2 g R n σ G := by
        funext y z
        apply propext
        exact (hA y z).trans ⟨fun q => q.2, fun q => ⟨lt y z q, q⟩⟩
      have b1 := bW (n * 8) (by omega)
      refine zx_spread (AL := AL) (ec := ec) (by omega) hL n24 (fun y z hz => ((hA y z).mp hz).1) hM (fun fo mk en cu cs pe hfo => hp _ _ _ fo _ _ _ mk en cu cs pe (fun y t hy => ?_))
      rw [hfo y t hy, hE]
      constructor
      · rintro ⟨w, w1, w2⟩; exact ⟨w, w1, (hF w t (zd_Re_N w1 lt hy)).mp w2⟩
      · rintro ⟨w, w1, w2⟩; exact ⟨w, w1, (hF w t (zd_Re_N w1 lt hy)).mpr w2⟩
    · refine zx_successor (by omega) ?_
      have hs : v / 8 < n := by omega
      rcases Classical.em (zg_Df g (σ (v / 8)) (8 + v % 8)) with d | d
      · have q := A.2.2.2.1 _ _ hs d
        refine br_f (by rw [(hgo _ _ hs (by omega)).1 d]; exact nI_pos (by omega)) ?_
        have b1 : zm_s (fun v => zx_ct g (v % 8) (R + 1)) v + zx_ct g (v % 8) (R + 1) ≤ 288 := bW (v + 1) (by omega)
        refine zx_addIncludes ok A hG hgo hV hs (by omega) d (AL0 := AL) (b := ec) (by omega) hL (fun AL' ec' H' N' T' hL' hec' hA' => ?_)
        intro y ey
        rw [ey, nI_1]
        refine ih (v + 1) AL' ec' H' N' T' (by omega) (by omega) hL' ?_ (fun y z => ?_)
        · show ec' ≤ 3 * (zm_s (fun v => zx_ct g (v % 8) (R + 1)) v + zx_ct g (v % 8) (R + 1))
          omega
        · rw [hA' y z, hA y z]
          constructor
          · rintro (⟨a, b⟩ | ⟨a, r, dd, k1, k2, k3, k4, k5, k6, k7⟩)
            · exact ⟨by omega, b⟩
            · exact ⟨by omega, v / 8, r, dd, hs, k1, by omega, by rw [k3]; exact d, k4, k5, k6, by omega, k7⟩
          · rintro ⟨a, b⟩
            by_cases e : z = v
            · refine Or.inr ⟨e, ?_⟩
              obtain ⟨s, r, dd, u1, u2, u3, u4, u5, u6, u7, u8, u9⟩ := b
              have := ok.2.2.2.2.2.2.1 (4 * r)
              have := ok.2.2.2.2.2.1 r u2 u3
              have es : s = v / 8 := by omega
              subst es
              exact ⟨r, dd, u2, by omega, by omega, u5, u6, u7, u9⟩
            · exact Or.inl ⟨by omega, b⟩
      · refine br_t (by rw [(hgo _ _ hs (by omega)).2 d]; decide) (fun y ey => ?_)
        rw [ey, nI_1]
        refine ih (v + 1) AL ec H Nx T (by omega) (by omega) hL (Nat.le_trans hec (Nat.mul_le_mul_left 3 (Nat.le_add_right _ _))) (fun y z => ?_)
        rw [hA y z]
        constructor
        · rintro ⟨a, b⟩; exact ⟨by omega, b⟩
        · rintro ⟨a, b⟩
          refine ⟨?_, b⟩
          have : z ≠ v := fun e => by
            obtain ⟨s, r, dd, u1, u2, u3, u4, u5, u6, u7, u8, u9⟩ := b
            have := ok.2.2.2.2.2.2.1 (4 * r)
            have := ok.2.2.2.2.2.1 r u2 u3
            have es : s = v / 8 := by omega
            subst es
            exact d (by rw [show 8 + v % 8 = g (4 * r) by omega]; exact u4)
          omega
theorem zx_ff6 (ok : zg_ok g R) (A : zl_AU g R n σ G) (hG : zx_GR g R a_left a_length a_need a_rhs) (hgo : zx_GOA g n σ G a_go) (hV : ∀ r d, r ≤ R → d ≤ zg_ln g r → zx_VA g R a_vanishing (4 * r + d)) {m : Int32} (hm : zx_NM g R m)
    (hM : ∀ y, y < 192 → a_mark y = 0) {post : SX → Prop}
    (hp : ∀ (ec c1 p1 : Int32) (fo hd nx tg mk en cu cs pe : Nat → Int32), (∀ y t, y < n * 8 → (zb (fo y) t ↔ zl_R2 g R n σ G y t)) →
      post (f_maxRules, f_maxStates, f_maxNodes, f_maxEdges, f_maxSteps, f_maxLog, f_finished, f_lastTerminal, f_lastNonterminal, f_depthLimit, f_built, nI R, m, nI n, ec, c1, p1, f_conflictCount, f_height, f_logSize, f_low, f_tip, f_trialLog, a_left, a_length, a_need, a_rhs, a_level, a_side, a_before, a_corner, a_vanishing, a_sets, a_go, fo, hd, nx, tg, mk, en, cu, cs, pe, a_la, a_base, a_table, a_check, a_row, a_symbols, a_states, a_log, a_trialSymbols, a_trialStates)) :
    ∀ f v (AL : Nat → List Nat) (ec : Nat) (fo H Nx T : Nat → Int32), v ≤ n * 8 → n * 8 - v < f → zx_RL AL ec H Nx T → ec ≤ 8 * v → (∀ y z, z ∈ AL y ↔ y < v ∧ zl_E1 g R n σ G y z) → (∀ y t, y < v → (zb (fo y) t ↔ zx_D0 g n σ G y t)) →
      wX_findFollow_6 post f (nI v) f_maxRules f_maxStates f_maxNodes f_maxEdges f_maxSteps f_maxLog f_finished f_lastTerminal f_lastNonterminal f_depthLimit f_built (nI R) m (nI n) (nI ec) f_callSize f_pendingSize f_conflictCount f_height f_logSize f_low f_tip f_trialLog a_left a_length a_need a_rhs a_level a_side a_before a_corner a_vanishing a_sets a_go fo H Nx T a_mark a_entry a_cursor a_callStack a_pending a_la a_base a_table a_check a_row a_symbols a_states a_log a_trialSymbols a_trialStates := by
  have n24 := A.2.1
  have n1 := A.1
  intro f
  induction f with
  | zero => intro v AL ec fo H Nx T _ h; omega
  | succ f ih =>
    intro v AL ec fo H Nx T hv hf hL hec hA hfo
    refine pk_le (n * 8) v (fun h => ?_) (fun h => ?_) (za_x8 n)
    · have e : v = n * 8 := by omega
      subst e
      have lt : ∀ a b, zl_E1 g R n σ G a b → b < n * 8 ∧ a < n * 8 := by
        rintro a b ⟨s, k, k', ea, hs, hk, hk', hd, eb, _⟩
        have := (A.2.2.2.1 s _ hs hd).1
        omega
      have hE : zd_E AL = zl_E1 g R n σ G := by
        funext y z
        apply propext
        exact (hA y z).trans ⟨fun q => q.2, fun q => ⟨(lt y z q).2, q⟩⟩
      intro fo' ef
      have hf0 : ∀ y t, y < n * 8 → (zb (fo' y) t ↔ zl_F0 g n σ G y t) := fun y t hy => by
        unfold zl_F0
        by_cases q : y = 0
        · subst q
          rw [ef, pk_us, zb_or, hfo 0 t hy, zb_1]
          constructor
          · rintro (a | a)
            · exact Or.inl a
            · exact Or.inr ⟨rfl, a⟩
          · rintro (a | a)
            · exact Or.inl a
            · exact Or.inr a.2
        · rw [ef, pk_un q, hfo y t hy]
          exact ⟨Or.inl, fun a => a.elim id (fun z => absurd z.1 q)⟩
      refine zx_spread (AL := AL) (ec := ec) (by omega) hL n24 (fun y z hz => (lt y z ((hA y z).mp hz).2).1) hM (fun fo2 mk en cu cs pe hfo2 => ?_)
      have hf1 : ∀ y t, y < n * 8 → (zb (fo2 y) t ↔ zl_F1 g R n σ y t) := fun y t hy => by
        rw [hfo2 y t hy, hE, ← zl_reads ok A]
        constructor
        · rintro ⟨w, w1, w2⟩; exact ⟨w, w1, (hf0 w t (zd_Re_N w1 (fun a b e => (lt a b e).1) hy)).mp w2⟩
        · rintro ⟨w, w1, w2⟩; exact ⟨w, w1, (hf0 w t (zd_Re_N w1 (fun a b e => (lt a b e).1) hy)).mpr w2⟩
      refine zx_resetRelation (fun H' M' hL' hM' => ⟨n * 8 + 1, ?_⟩)
      refine zx_ff77 ok A hG hgo hV hM' hf1 (fun ec c1 p1 fo hd nx tg mk en cu cs pe h => hp ec c1 p1 fo hd nx tg mk en cu cs pe h) (n * 8 + 1) 0 (fun _ => []) 0 H' Nx T (by omega) (by omega) (hL' Nx T) (by omega) (fun y z => ⟨fun q => by simp at q, fun q => by omega⟩)
    · refine ⟨vp_in_nI (by omega) (by omega), fun fo1 ef1 => ?_⟩
      rw [za_c v (by omega)] at ef1
      refine zx_successor (by omega) ?_
      have hs : v / 8 < n := by omega
      have ev : v = v / 8 * 8 + v % 8 := by omega
      rcases Classical.em (zg_Df g (σ (v / 8)) (8 + v % 8)) with d | d
      · have q := A.2.2.2.1 _ _ hs d
        rw [(hgo _ _ hs (by omega)).1 d]
        refine br_f (nI_pos (by omega)) ?_
        refine zx_readable A hgo q.1 (fun mk hmk => ?_)
        refine ⟨vp_in_nI (by omega) (by omega), fun fo2 ef2 => ?_⟩
        rw [za_c v (by omega)] at ef2
        refine zx_addReads A hgo hm q.1 (by omega) (AL0 := AL) (b := ec) (by omega) hL (fun AL' ec' H' N' T' hL' hec' hA' => ?_)
        intro y ey
        rw [ey, nI_1]
        refine ih (v + 1) AL' ec' fo2 H' N' T' (by omega) (by omega) hL' (by omega) (fun y z => ?_) (fun y t hy => ?_)
        · rw [hA' y z, hA y z]
          constructor
          · rintro (⟨a, b⟩ | ⟨a, k, k1, k2, k3, k4⟩)
            · exact ⟨by omega, b⟩
            · exact ⟨by omega, v / 8, v % 8, k, by omega, hs, by omega, k1, d, k2, k3, k4⟩
          · rintro ⟨a, b⟩
            by_cases e : y = v
            · refine Or.inr ⟨e, ?_⟩
              obtain ⟨s, k, k', u1, u2, u3, u4, u5, u6, u7, u8⟩ := b
              have es : s = v / 8 := by omega
              have ek : k = v % 8 := by omega
              subst es; subst ek
              exact ⟨k', u4, u6, u7, u8⟩
            · exact Or.inl ⟨by omega, b⟩
        · by_cases e : y = v
          · rw [e, ef2, pk_us, hmk t]
            constructor
            · rintro ⟨a, b, c⟩; exact ⟨v / 8, v % 8, ev, hs, by omega, d, a, b, c⟩
            · rintro ⟨s, k, u1, u2, u3, u4, u5, u6, u7⟩
              have es : s = v / 8 := by omega
              have ek : k = v % 8 := by omega
              subst es; subst ek
              exact ⟨u5, u6, u7⟩
          · rw [ef2, pk_un e, ef1, pk_un e]; exact hfo y t (by omega)
      · refine br_t (by rw [(hgo _ _ hs (by omega)).2 d]; decide) (fun y ey => ?_)
        rw [ey, nI_1]
        refine ih (v + 1) AL ec fo1 H Nx T (by omega) (by omega) hL (by omega) (fun y z => ?_) (fun y t hy => ?_)
        · rw [hA y z]
          constructor
          · rintro ⟨a, b⟩; exact ⟨by omega, b⟩
          · rintro ⟨a, b⟩
            refine ⟨?_, b⟩
            have : y ≠ v := fun e => by
              obtain ⟨s, k, k', u1, u2, u3, u4, u5, u6, u7, u8⟩ := b
              have es : s = v / 8 := by omega
              have ek : k = v % 8 := by omega
              subst es; subst ek
              exact d u5
            omega
        · by_cases e : y = v
          · rw [e, ef1, pk_us]
            constructor
            · intro z; exact absurd z zb_0
            · rintro ⟨s, k, u1, u2, u3, u4, u5, u6, u7⟩
              have es : s = v / 8 := by omega
              have ek : k = v % 8 := by omega
              subst es; subst ek
              exact absurd u4 d
          · rw [ef1, pk_un e]; exact hfo y t (by omega)
theorem zx_findFollow (ok : zg_ok g R) (A : zl_AU g R n σ G) (hG : zx_GR g R a_left a_length a_need a_rhs) (hgo : zx_GOA g n σ G a_go) (hV : ∀ r d, r ≤ R → d ≤ zg_ln g r → zx_VA g R a_vanishing (4 * r + d)) {m : Int32} (hm : zx_NM g R m) {post : SX → Prop}
    (hp : ∀ (ec c1 p1 : Int32) (fo hd nx tg mk en cu cs pe : Nat → Int32), (∀ y t, y < n * 8 → (zb (fo y) t ↔ zl_R2 g R n σ G y t)) →
      post (f_maxRules, f_maxStates, f_maxNodes, f_maxEdges, f_maxSteps, f_maxLog, f_finished, f_lastTerminal, f_lastNonterminal, f_depthLimit, f_built, nI R, m, nI n, ec, c1, p1, f_conflictCount, f_height, f_logSize, f_low, f_tip, f_trialLog, a_left, a_length, a_need, a_rhs, a_level, a_side, a_before, a_corner, a_vanishing, a_sets, a_go, fo, hd, nx, tg, mk, en, cu, cs, pe, a_la, a_base, a_table, a_check, a_row, a_symbols, a_states, a_log, a_trialSymbols, a_trialStates)) :
    wpX_findFollow post (f_maxRules, f_maxStates, f_maxNodes, f_maxEdges, f_maxSteps, f_maxLog, f_finished, f_lastTerminal, f_lastNonterminal, f_depthLimit, f_built, nI R, m, nI n, f_edgeCount, f_callSize, f_pendingSize, f_conflictCount, f_height, f_logSize, f_low, f_tip, f_trialLog, a_left, a_length, a_need, a_rhs, a_level, a_side, a_before, a_corner, a_vanishing, a_sets, a_go, a_follow, a_head, a_next, a_target, a_mark, a_entry, a_cursor, a_callStack, a_pending, a_la, a_base, a_table, a_check, a_row, a_symbols, a_states, a_log, a_trialSymbols, a_trialStates) := by
  unfold wpX_findFollow
  refine zx_resetRelation (fun H M hL hM => ⟨n * 8 + 1, ?_⟩)
  exact zx_ff6 ok A hG hgo hV hm hM hp (n * 8 + 1) 0 (fun _ => []) 0 a_follow H a_next a_target (by omega) (by omega) (hL a_next a_target) (by omega) (fun y z => ⟨fun q => by simp at q, fun q => by omega⟩) (fun y t h => by omega)
end ZX
end
section
/-! X: lookBack, findLookaheads -/
def zx_LB (g : Nat → Nat) (R n : Nat) (σ : Nat → Nat → Prop) (G : Nat → Nat → Nat) (v s r t : Nat) : Prop :=
  (r = 0 ∧ s = G 0 8 ∧ t = 0) ∨ (1 ≤ r ∧ ∃ p, p * 8 + (g (4 * r) - 8) < v ∧ p < n ∧ zg_Df g (σ p) (g (4 * r)) ∧ zl_wk g G p r (zg_ln g r) = s ∧ zl_R2 g R n σ G (p * 8 + (g (4 * r) - 8)) t)
def zx_LV (g : Nat → Nat) (R n : Nat) (σ : Nat → Nat → Prop) (G : Nat → Nat → Nat) (v i s r t : Nat) : Prop :=
  zx_LB g R n σ G v s r t ∨ (1 ≤ r ∧ r < i ∧ g (4 * r) = 8 + v % 8 ∧ zl_wk g G (v / 8) r (zg_ln g r) = s ∧ zl_R2 g R n σ G v t)
section ZX
variable {g : Nat → Nat} {R n : Nat} {G : Nat → Nat → Nat} {σ : Nat → Nat → Prop}
theorem zx_LB_end (ok : zg_ok g R) (A : zl_AU g R n σ G) {s r t : Nat} (hs : s < n) (hr : r ≤ R) : zx_LB g R n σ G (n * 8) s r t ↔ zl_LA g R (σ s) (4 * r + zg_ln g r) t := by
  unfold zx_LB
  rcases Nat.eq_zero_or_pos r with r0 | r0
  · subst r0
    have d0 : zg_Df g (σ 0) 8 := by
      rw [A.2.2.1]
      exact ⟨by omega, 0, zg_ST_0, by rw [zg_af_m (by omega)]; exact ok.2.2.1⟩
    have q := A.2.2.2.1 0 8 A.1 d0
    rw [zg_ln_0 ok, show 4 * 0 + 1 = 1 from rfl, zl_LA0 ok]
    constructor
    · rintro (⟨_, a, b⟩ | ⟨a, _⟩)
      · rw [a, q.2, A.2.2.1]; exact ⟨rfl, b⟩
      · omega
    · rintro ⟨a, b⟩
      exact Or.inl ⟨rfl, A.2.2.2.2.1 _ _ hs q.1 (by rw [a, q.2, A.2.2.1]), b⟩
  · have g8 := ok.2.2.2.2.2.1 r r0 hr
    have g16 := ok.2.2.2.2.2.2.1 (4 * r)
    rw [← zl_back ok A hs r0 hr]
    constructor
    · rintro (⟨a, _⟩ | ⟨_, p, _, h⟩)
      · omega
      · exact ⟨p, h⟩
    · rintro ⟨p, h1, h⟩
      exact Or.inr ⟨r0, p, by omega, h1, h⟩
variable {f_maxRules f_maxStates f_maxNodes f_maxEdges f_maxSteps f_maxLog f_finished f_lastTerminal f_lastNonterminal f_depthLimit f_built f_ruleCount f_nullable f_stateCount f_edgeCount f_callSize f_pendingSize f_conflictCount f_height f_logSize f_low f_tip f_trialLog : Int32} {a_left a_length a_need a_rhs a_level a_side a_vanishing a_go a_follow a_head a_next a_target a_mark a_entry a_cursor a_callStack a_pending a_la a_base a_table a_check a_row a_symbols a_states a_log a_trialSymbols a_trialStates : Nat → Int32} {a_before a_corner a_sets : Nat → Int64}
theorem zx_lb33 (ok : zg_ok g R) (A : zl_AU g R n σ G) (hG : zx_GR g R a_left a_length a_need a_rhs) (hgo : zx_GOA g n σ G a_go) {post : SX → Prop} {s v r : Nat} (hs : s < n) (hv : v < 192) (hr : r ≤ R) (h4 : σ s (4 * r)) {J2 : Int32 → (Nat → Int32) → (Nat → Int32) → (Nat → Int32) → (Nat → Int32) → (Nat → Int32) → (Nat → Int32) → (Nat → Int64) → (Nat → Int64) → (Nat → Int32) → (Nat → Int64) → (Nat → Int32) → (Nat → Int32) → (Nat → Int32) → (Nat → Int32) → (Nat → Int32) → (Nat → Int32) → (Nat → Int32) → (Nat → Int32) → (Nat → Int32) → (Nat → Int32) → (Nat → Int32) → (Nat → Int32) → (Nat → Int32) → (Nat → Int32) → (Nat → Int32) → (Nat → Int32) → (Nat → Int32) → (Nat → Int32) → (Nat → Int32) → (Nat → Int32) → Prop}
    (hJ : ∀ L : Nat → Int32, L = upd a_la (zl_wk g G s r (zg_ln g r) * 13 + r) (a_la (zl_wk g G s r (zg_ln g r) * 13 + r) ||| a_follow v) → J2 (nI (r + 1)) a_left a_length a_need a_rhs a_level a_side a_before a_corner a_vanishing a_sets a_go a_follow a_head a_next a_target a_mark a_entry a_cursor a_callStack a_pending L a_base a_table a_check a_row a_symbols a_states a_log a_trialSymbols a_trialStates) :
    ∀ f d, d ≤ zg_ln g r → zg_ln g r - d < f → wX_lookBack_33 post J2 (nI v) (nI r) f_maxRules f_maxStates f_maxNodes f_maxEdges f_maxSteps f_maxLog f_finished f_lastTerminal f_lastNonterminal f_depthLimit f_built f_ruleCount f_nullable f_stateCount f_edgeCount f_callSize f_pendingSize f_conflictCount f_height f_logSize f_low f_tip f_trialLog a_left a_length a_need a_rhs a_level a_side a_before a_corner a_vanishing a_sets a_go a_follow a_head a_next a_target a_mark a_entry a_cursor a_callStack a_pending a_la a_base a_table a_check a_row a_symbols a_states a_log a_trialSymbols a_trialStates f (nI (zl_wk g G s r d)) (nI d) := by
  have r12 := ok.1
  have n24 := A.2.1
  have l3 := zg_ln_le (g := g) r
  intro f
  induction f with
  | zero => intro d _ h; omega
  | succ f ih =>
    intro d hd hf
    obtain ⟨w1, w2, _⟩ := zl_wk_i ok A hs h4 d hd
    refine ⟨vp_in_nI (by omega) (by omega), ?_⟩
    rw [za_c r (by omega), hG.2.2.1 r hr]
    refine pk_le (zg_ln g r) d (fun h => ?_) (fun h => ?_)
    · have e : d = zg_ln g r := by omega
      rw [e] at w1
      rw [e, za_m13]
      refine ⟨vp_in_nI (by omega) (by omega), vp_in_nI (by omega) (by omega), vp_in_nI (by omega) (by omega), fun L eL y ey => ?_⟩
      rw [ey, nI_1]
      rw [za_c _ (by omega), za_c _ (by omega)] at eL
      exact hJ L eL
    · obtain ⟨n1, n2, n3⟩ := zg_ln_nz ok h
      have g16 := ok.2.2.2.2.2.2.1 (4 * r + 1 + d)
      have df := zl_wk_df ok A hs h4 h
      rw [za_m4]
      refine ⟨vp_in_nI (by omega) (by omega), ?_⟩
      rw [za_c _ (by omega), hG.2.2.2.2 _ (by omega), n3, za_m16]
      refine ⟨vp_in_nI (by omega) (by omega), fun y ey z ez => ?_⟩
      rw [za_c _ (by omega), (hgo _ _ w1 g16).1 df] at ey
      rw [ez, ey, nI_1]
      exact ih (d + 1) (by omega) (by omega)
theorem zx_lb2 (ok : zg_ok g R) (A : zl_AU g R n σ G) (hG : zx_GR g R a_left a_length a_need a_rhs) (hgo : zx_GOA g n σ G a_go) (hF : ∀ y t, y < n * 8 → (zb (a_follow y) t ↔ zl_R2 g R n σ G y t)) {post : SX → Prop} {v : Nat} (hv : v < n * 8) (hd : zg_Df g (σ (v / 8)) (8 + v % 8))
    (hp : ∀ L : Nat → Int32, (∀ s r t, s < n → r ≤ R → (zb (L (s * 13 + r)) t ↔ zx_LV g R n σ G v (R + 1) s r t)) → post (f_maxRules, f_maxStates, f_maxNodes, f_maxEdges, f_maxSteps, f_maxLog, f_finished, f_lastTerminal, f_lastNonterminal, f_depthLimit, f_built, nI R, f_nullable, f_stateCount, f_edgeCount, f_callSize, f_pendingSize, f_conflictCount, f_height, f_logSize, f_low, f_tip, f_trialLog, a_left, a_length, a_need, a_rhs, a_level, a_side, a_before, a_corner, a_vanishing, a_sets, a_go, a_follow, a_head, a_next, a_target, a_mark, a_entry, a_cursor, a_callStack, a_pending, L, a_base, a_table, a_check, a_row, a_symbols, a_states, a_log, a_trialSymbols, a_trialStates)) :
    ∀ f i (L : Nat → Int32), 1 ≤ i → i ≤ R + 1 → R + 1 - i < f → (∀ s r t, s < n → r ≤ R → (zb (L (s * 13 + r)) t ↔ zx_LV g R n σ G v i s r t)) → wX_lookBack_2 post (nI v) f_maxRules f_maxStates f_maxNodes f_maxEdges f_maxSteps f_maxLog f_finished f_lastTerminal f_lastNonterminal f_depthLimit f_built (nI R) f_nullable f_stateCount f_edgeCount f_callSize f_pendingSize f_conflictCount f_height f_logSize f_low f_tip f_trialLog f (nI i) a_left a_length a_need a_rhs a_level a_side a_before a_corner a_vanishing a_sets a_go a_follow a_head a_next a_target a_mark a_entry a_cursor a_callStack a_pending L a_base a_table a_check a_row a_symbols a_states a_log a_trialSymbols a_trialStates := by
  have r12 := ok.1
  have n24 := A.2.1
  intro f
  induction f with
  | zero => intro i L _ _ h; omega
  | succ f ih =>
    intro i L i1 hi hf hL
    refine pk_lt R i (fun h => ?_) (fun h => ?_)
    · have e : i = R + 1 := by omega
      subst e
      exact hp L hL
    · refine ⟨vp_in_nI (by omega) (by omega), ?_⟩
      have g16 := ok.2.2.2.2.2.2.1 (4 * i)
      have hs : v / 8 < n := by omega
      rw [za_c i (by omega), hG.2.1 i h, za_and7 (by omega), za_8]
      refine pk_eq (g (4 * i)) (8 + v % 8) (fun c => ?_) (fun c => ?_)
      · intro y ey
        rw [za_sh3 (by omega)] at ey
        rw [ey]
        have h4 := zl_r4 A hs i1 h (by rw [c]; exact hd)
        refine ⟨4, zx_lb33 ok A hG hgo hs (by omega) h h4 (fun L' eL => ?_) 4 0 (by omega) (by have := zg_ln_le (g := g) i; omega)⟩
        refine ih (i + 1) L' (by omega) (by omega) (by omega) (fun s r t hs' hr => ?_)
        by_cases q : s * 13 + r = zl_wk g G (v / 8) i (zg_ln g i) * 13 + i
        · have er : r = i := by omega
          have es : s = zl_wk g G (v / 8) i (zg_ln g i) := by omega
          rw [eL, q, pk_us, zb_or, ← q, hL s r t hs' hr, hF v t hv]
          unfold zx_LV
          constructor
          · rintro ((a | ⟨a, b, cc⟩) | a)
            · exact Or.inl a
            · exact Or.inr ⟨a, by omega, cc⟩
            · exact Or.inr ⟨by omega, by omega, by rw [er]; exact c, by rw [er]; exact es.symm, a⟩
          · rintro (a | ⟨a, b, cc, dd, ee⟩)
            · exact Or.inl (Or.inl a)
            · exact Or.inr ee
        · rw [eL, pk_un q, hL s r t hs' hr]
          unfold zx_LV
          constructor
          · rintro (a | ⟨a, b, cc⟩)
            · exact Or.inl a
            · exact Or.inr ⟨a, by omega, cc⟩
          · rintro (a | ⟨a, b, cc, dd, ee⟩)
            · exact Or.inl a
            · have : r ≠ i := fun e => by subst e; exact q (by rw [dd])
              exact Or.inr ⟨a, by omega, cc, dd, ee⟩
      · intro y ey
        rw [ey, nI_1]
        refine ih (i + 1) L (by omega) (by omega) (by omega) (fun s r t hs' hr => ?_)
        rw [hL s r t hs' hr]
        unfold zx_LV
        constructor
        · rintro (a | ⟨a, b, cc⟩)
          · exact Or.inl a
          · exact Or.inr ⟨a, by omega, cc⟩
        · rintro (a | ⟨a, b, cc, dd⟩)
          · exact Or.inl a
          · have : r ≠ i := fun e => by subst e; exact c cc
            exact Or.inr ⟨a, by omega, cc, dd⟩
theorem zx_fl40 (ok : zg_ok g R) (A : zl_AU g R n σ G) (hG : zx_GR g R a_left a_length a_need a_rhs) (hgo : zx_GOA g n σ G a_go) (hF : ∀ y t, y < n * 8 → (zb (a_follow y) t ↔ zl_R2 g R n σ G y t)) {post : SX → Prop}
    (hp : ∀ L : Nat → Int32, (∀ s r t, s < n → r ≤ R → (zb (L (s * 13 + r)) t ↔ zl_LA g R (σ s) (4 * r + zg_ln g r) t)) → post (f_maxRules, f_maxStates, f_maxNodes, f_maxEdges, f_maxSteps, f_maxLog, f_finished, f_lastTerminal, f_lastNonterminal, f_depthLimit, f_built, nI R, f_nullable, nI n, f_edgeCount, f_callSize, f_pendingSize, f_conflictCount, f_height, f_logSize, f_low, f_tip, f_trialLog, a_left, a_length, a_need, a_rhs, a_level, a_side, a_before, a_corner, a_vanishing, a_sets, a_go, a_follow, a_head, a_next, a_target, a_mark, a_entry, a_cursor, a_callStack, a_pending, L, a_base, a_table, a_check, a_row, a_symbols, a_states, a_log, a_trialSymbols, a_trialStates)) :
    ∀ f v (L : Nat → Int32), v ≤ n * 8 → n * 8 - v < f → (∀ s r t, s < n → r ≤ R → (zb (L (s * 13 + r)) t ↔ zx_LB g R n σ G v s r t)) → wX_findLookaheads_40 post f (nI v) f_maxRules f_maxStates f_maxNodes f_maxEdges f_maxSteps f_maxLog f_finished f_lastTerminal f_lastNonterminal f_depthLimit f_built (nI R) f_nullable (nI n) f_edgeCount f_callSize f_pendingSize f_conflictCount f_height f_logSize f_low f_tip f_trialLog a_left a_length a_need a_rhs a_level a_side a_before a_corner a_vanishing a_sets a_go a_follow a_head a_next a_target a_mark a_entry a_cursor a_callStack a_pending L a_base a_table a_check a_row a_symbols a_states a_log a_trialSymbols a_trialStates := by
  have n24 := A.2.1
  intro f
  induction f with
  | zero => intro v L _ h; omega
  | succ f ih =>
    intro v L hv hf hL
    refine pk_le (n * 8) v (fun h => ?_) (fun h => ?_) (za_x8 n)
    · have e : v = n * 8 := by omega
      subst e
      exact hp L (fun s r t hs hr => (hL s r t hs hr).trans (zx_LB_end ok A hs hr))
    · have hs : v / 8 < n := by omega
      have nx : ∀ s r t, r ≤ R → (zx_LB g R n σ G (v + 1) s r t ↔ zx_LB g R n σ G v s r t ∨ (1 ≤ r ∧ g (4 * r) = 8 + v % 8 ∧ zg_Df g (σ (v / 8)) (8 + v % 8) ∧ zl_wk g G (v / 8) r (zg_ln g r) = s ∧ zl_R2 g R n σ G v t)) := by
        intro s r t hr
        unfold zx_LB
        constructor
        · rintro (a | ⟨a, p, b, c, d, e, k⟩)
          · exact Or.inl (Or.inl a)
          · by_cases q : p * 8 + (g (4 * r) - 8) = v
            · have g8 := ok.2.2.2.2.2.1 r a hr
              have g16 := ok.2.2.2.2.2.2.1 (4 * r)
              have ep : p = v / 8 := by omega
              have eg : g (4 * r) = 8 + v % 8 := by omega
              rw [q] at k
              rw [ep, eg] at d
              rw [ep] at e
              exact Or.inr ⟨a, eg, d, e, k⟩
            · exact Or.inl (Or.inr ⟨a, p, by omega, c, d, e, k⟩)
        · rintro ((a | ⟨a, p, b, c⟩) | ⟨a, b, c, d, e⟩)
          · exact Or.inl a
          · exact Or.inr ⟨a, p, by omega, c⟩
          · have ev : v / 8 * 8 + (g (4 * r) - 8) = v := by omega
            exact Or.inr ⟨a, v / 8, by omega, hs, by rw [b]; exact c, d, by rw [ev]; exact e⟩
      refine zx_successor (by omega) ?_
      rcases Classical.em (zg_Df g (σ (v / 8)) (8 + v % 8)) with d | d
      · have q := A.2.2.2.1 _ _ hs d
        refine br_f (by rw [(hgo _ _ hs (by omega)).1 d]; exact nI_pos (by omega)) ?_
        refine ⟨R + 1, zx_lb2 ok A hG hgo hF h d (fun L' hL' => ?_) (R + 1) 1 L (by omega) (by omega) (by omega) (fun s r t hs' hr => ?_)⟩
        · intro y ey
          rw [ey, nI_1]
          refine ih (v + 1) L' (by omega) (by omega) (fun s r t hs' hr => ?_)
          rw [hL' s r t hs' hr, nx s r t hr]
          unfold zx_LV
          constructor
          · rintro (a | ⟨a, b, c, e⟩)
            · exact Or.inl a
            · exact Or.inr ⟨a, c, d, e⟩
          · rintro (a | ⟨a, c, _, e⟩)
            · exact Or.inl a
            · exact Or.inr ⟨a, by omega, c, e⟩
        · rw [hL s r t hs' hr]
          unfold zx_LV
          exact ⟨Or.inl, fun q => q.elim id (fun z => by omega)⟩
      · refine br_t (by rw [(hgo _ _ hs (by omega)).2 d]; decide) (fun y ey => ?_)
        rw [ey, nI_1]
        refine ih (v + 1) L (by omega) (by omega) (fun s r t hs' hr => ?_)
        rw [hL s r t hs' hr, nx s r t hr]
        exact ⟨Or.inl, fun q => q.elim id (fun z => absurd z.2.2.1 d)⟩
theorem zx_fl2 (ok : zg_ok g R) (A : zl_AU g R n σ G) (hG : zx_GR g R a_left a_length a_need a_rhs) (hgo : zx_GOA g n σ G a_go) (hF : ∀ y t, y < n * 8 → (zb (a_follow y) t ↔ zl_R2 g R n σ G y t)) {post : SX → Prop}
    (hp : ∀ L : Nat → Int32, (∀ s r t, s < n → r ≤ R → (zb (L (s * 13 + r)) t ↔ zl_LA g R (σ s) (4 * r + zg_ln g r) t)) → post (f_maxRules, f_maxStates, f_maxNodes, f_maxEdges, f_maxSteps, f_maxLog, f_finished, f_lastTerminal, f_lastNonterminal, f_depthLimit, f_built, nI R, f_nullable, nI n, f_edgeCount, f_callSize, f_pendingSize, f_conflictCount, f_height, f_logSize, f_low, f_tip, f_trialLog, a_left, a_length, a_need, a_rhs, a_level, a_side, a_before, a_corner, a_vanishing, a_sets, a_go, a_follow, a_head, a_next, a_target, a_mark, a_entry, a_cursor, a_callStack, a_pending, L, a_base, a_table, a_check, a_row, a_symbols, a_states, a_log, a_trialSymbols, a_trialStates)) :
    ∀ f i (L : Nat → Int32), i ≤ 312 → 312 - i < f → (∀ k, k < i → L k = 0) → wX_findLookaheads_2 post f_maxRules f_maxStates f_maxNodes f_maxEdges f_maxSteps f_maxLog f_finished f_lastTerminal f_lastNonterminal f_depthLimit f_built (nI R) f_nullable (nI n) f_edgeCount f_callSize f_pendingSize f_conflictCount f_height f_logSize f_low f_tip f_trialLog f (nI i) a_left a_length a_need a_rhs a_level a_side a_before a_corner a_vanishing a_sets a_go a_follow a_head a_next a_target a_mark a_entry a_cursor a_callStack a_pending L a_base a_table a_check a_row a_symbols a_states a_log a_trialSymbols a_trialStates := by
  have n24 := A.2.1
  have r12 := ok.1
  have d0 : zg_Df g (σ 0) 8 := by
    rw [A.2.2.1]
    exact ⟨by omega, 0, zg_ST_0, by rw [zg_af_m (by omega)]; exact ok.2.2.1⟩
  have q0 := A.2.2.2.1 0 8 A.1 d0
  have e8 : a_go 8 = nI (G 0 8) := (hgo 0 8 A.1 (by omega)).1 d0
  intro f
  induction f with
  | zero => intro i L _ h; omega
  | succ f ih =>
    intro i L hi hf hL
    refine pk_le 312 i (fun h => ?_) (fun h => ?_)
    · have e13 : nI (G 0 8) * 13 = nI (G 0 8 * 13) := by rw [show (13 : Int32) = nI 13 from rfl, pk_mul]
      rw [e8, e13]
      refine ⟨vp_in_nI (by omega) (by omega), fun L' eL => ⟨n * 8 + 1, zx_fl40 ok A hG hgo hF hp (n * 8 + 1) 0 L' (by omega) (by omega) (fun s r t hs hr => ?_)⟩⟩
      rw [za_c _ (by omega)] at eL
      unfold zx_LB
      by_cases q : s * 13 + r = G 0 8 * 13
      · rw [eL, q, pk_us, zb_1]
        constructor
        · intro a; exact Or.inl ⟨by omega, by omega, a⟩
        · rintro (⟨_, _, a⟩ | ⟨_, p, a, _⟩)
          · exact a
          · omega
      · rw [eL, pk_un q, hL _ (by omega)]
        constructor
        · intro z; exact absurd z zb_0
        · rintro (⟨a, b, _⟩ | ⟨_, p, a, _⟩)
          · exact absurd (by rw [a, b]; rfl) q
          · omega
    · refine ⟨vp_in_nI (by omega) (by omega), fun L' eL y ey => ?_⟩
      rw [ey, nI_1]
      rw [za_c i (by omega)] at eL
      refine ih (i + 1) L' (by omega) (by omega) (fun k hk => ?_)
      by_cases q : k = i
      · rw [eL, q, pk_us]
      · rw [eL, pk_un q]; exact hL k (by omega)
theorem zx_findLookaheads (ok : zg_ok g R) (A : zl_AU g R n σ G) (hG : zx_GR g R a_left a_length a_need a_rhs) (hgo : zx_GOA g n σ G a_go) (hF : ∀ y t, y < n * 8 → (zb (a_follow y) t ↔ zl_R2 g R n σ G y t)) {post : SX → Prop}
    (hp : ∀ L : Nat → Int32, (∀ s r t, s < n → r ≤ R → (zb (L (s * 13 + r)) t ↔ zl_LA g R (σ s) (4 * r + zg_ln g r) t)) → post (f_maxRules, f_maxStates, f_maxNodes, f_maxEdges, f_maxSteps, f_maxLog, f_finished, f_lastTerminal, f_lastNonterminal, f_depthLimit, f_built, nI R, f_nullable, nI n, f_edgeCount, f_callSize, f_pendingSize, f_conflictCount, f_height, f_logSize, f_low, f_tip, f_trialLog, a_left, a_length, a_need, a_rhs, a_level, a_side, a_before, a_corner, a_vanishing, a_sets, a_go, a_follow, a_head, a_next, a_target, a_mark, a_entry, a_cursor, a_callStack, a_pending, L, a_base, a_table, a_check, a_row, a_symbols, a_states, a_log, a_trialSymbols, a_trialStates)) :
    wpX_findLookaheads post (f_maxRules, f_maxStates, f_maxNodes, f_maxEdges, f_maxSteps, f_maxLog, f_finished, f_lastTerminal, f_lastNonterminal, f_depthLimit, f_built, nI R, f_nullable, nI n, f_edgeCount, f_callSize, f_pendingSize, f_conflictCount, f_height, f_logSize, f_low, f_tip, f_trialLog, a_left, a_length, a_need, a_rhs, a_level, a_side, a_before, a_corner, a_vanishing, a_sets, a_go, a_follow, a_head, a_next, a_target, a_mark, a_entry, a_cursor, a_callStack, a_pending, a_la, a_base, a_table, a_check, a_row, a_symbols, a_states, a_log, a_trialSymbols, a_trialStates) :=
  ⟨313, zx_fl2 ok A hG hgo hF hp 313 0 a_la (by omega) (by omega) (fun k hk => by omega)⟩
end ZX
end
section
/-! the decision on a set and a token, as both sides make it -/
noncomputable def zc_if {α : Type} (P : Prop) (a b : α) : α := @ite α P (Classical.propDecidable P) a b
theorem zc_t {α : Type} {P : Prop} {a b : α} (h : P) : zc_if P a b = a := by unfold zc_if; rw [if_pos h]
theorem zc_f {α : Type} {P : Prop} {a b : α} (h : ¬ P) : zc_if P a b = b := by unfold zc_if; rw [if_neg h]
noncomputable def zc_m (P : Nat → Prop) : Nat := @dite Nat (∃ m, P m ∧ ∀ j, j < m → ¬ P j) (Classical.propDecidable _) (fun h => Classical.choose h) (fun _ => 0)
theorem zc_m_e {P : Nat → Prop} {m : Nat} (h1 : P m) (h2 : ∀ j, j < m → ¬ P j) : zc_m P = m := by
  have h : ∃ m, P m ∧ ∀ j, j < m → ¬ P j := ⟨m, h1, h2⟩
  unfold zc_m
  rw [dif_pos h]
  obtain ⟨c1, c2⟩ := Classical.choose_spec h
  rcases Nat.lt_trichotomy (Classical.choose h) m with q | q | q
  · exact absurd c1 (h2 _ q)
  · exact q
  · exact absurd h1 (c2 _ q)
def zc_red (g : Nat → Nat) (R : Nat) (S : Nat → Prop) (t r : Nat) : Prop := r ≤ R ∧ zl_LA g R S (4 * r + zg_ln g r) t
def zc_own (g : Nat → Nat) (lv : Nat → Int32) (m : Nat) : Int32 :=
  if 0 < g (4 * m + 3) ∧ g (4 * m + 3) < 8 then lv (g (4 * m + 3)) else if 0 < g (4 * m + 2) ∧ g (4 * m + 2) < 8 then lv (g (4 * m + 2)) else if 0 < g (4 * m + 1) ∧ g (4 * m + 1) < 8 then lv (g (4 * m + 1)) else 0
def zc_rs (lv sd : Nat → Int32) (own : Int32) (m t : Nat) : Int32 :=
  if lv t = 0 ∨ own = 0 then 32 else if own = lv t then (if sd t = 0 then nI m else if sd t = 1 then 32 else 0) else if own ≤ lv t then 32 else nI m
noncomputable def zc_dv (g : Nat → Nat) (R : Nat) (lv sd : Nat → Int32) (S : Nat → Prop) (t : Nat) : Int32 :=
  zc_if (∃ r, zc_red g R S t r) (zc_if (zg_Df g S t) (zc_rs lv sd (zc_own g lv (zc_m (zc_red g R S t))) (zc_m (zc_red g R S t)) t) (if zc_m (zc_red g R S t) = 0 then 64 else nI (zc_m (zc_red g R S t)))) (zc_if (zg_Df g S t) 32 0)
def zc_cl (g : Nat → Nat) (R : Nat) (lv : Nat → Int32) (S : Nat → Prop) (t : Nat) : Prop :=
  (∃ r r', r ≠ r' ∧ zc_red g R S t r ∧ zc_red g R S t r') ∨ ((∃ r, zc_red g R S t r) ∧ zg_Df g S t ∧ (lv t = 0 ∨ zc_own g lv (zc_m (zc_red g R S t)) = 0))
section ZC
variable {g : Nat → Nat} {R : Nat} {lv sd : Nat → Int32} {S : Nat → Prop} {t : Nat}
theorem zc_none (h : ∀ r, ¬ zc_red g R S t r) : (zg_Df g S t → zc_dv g R lv sd S t = 32) ∧ (¬ zg_Df g S t → zc_dv g R lv sd S t = 0) ∧ ¬ zc_cl g R lv S t := by
  have hn : ¬ ∃ r, zc_red g R S t r := fun ⟨r, q⟩ => h r q
  refine ⟨fun d => ?_, fun d => ?_, ?_⟩
  · unfold zc_dv; rw [zc_f hn, zc_t d]
  · unfold zc_dv; rw [zc_f hn, zc_f d]
  · rintro (⟨r, _, _, q, _⟩ | ⟨q, _⟩)
    · exact h r q
    · exact hn q
theorem zc_some {m : Nat} (h1 : zc_red g R S t m) (h2 : ∀ j, j < m → ¬ zc_red g R S t j) :
    (zg_Df g S t → zc_dv g R lv sd S t = zc_rs lv sd (zc_own g lv m) m t) ∧ (¬ zg_Df g S t → zc_dv g R lv sd S t = if m = 0 then 64 else nI m) ∧
    (zc_cl g R lv S t ↔ (∃ r, m < r ∧ zc_red g R S t r) ∨ (zg_Df g S t ∧ (lv t = 0 ∨ zc_own g lv m = 0))) := by
  have e := zc_m_e h1 h2
  have hh : ∃ r, zc_red g R S t r := ⟨m, h1⟩
  refine ⟨fun d => ?_, fun d => ?_, ?_⟩
  · unfold zc_dv; rw [zc_t hh, zc_t d, e]
  · unfold zc_dv; rw [zc_t hh, zc_f d, e]
  · unfold zc_cl
    rw [e]
    constructor
    · rintro (⟨r, r', q1, q2, q3⟩ | ⟨_, q⟩)
      · refine Or.inl ?_
        by_cases z : m < r
        · exact ⟨r, z, q2⟩
        · refine ⟨r', ?_, q3⟩
          rcases Nat.lt_trichotomy r m with y | y | y
          · exact absurd q2 (h2 r y)
          · rcases Nat.lt_trichotomy r' m with u | u | u
            · exact absurd q3 (h2 r' u)
            · omega
            · exact u
          · omega
      · exact Or.inr q
    · rintro (⟨r, q1, q2⟩ | q)
      · exact Or.inl ⟨m, r, by omega, h1, q2⟩
      · exact Or.inr ⟨hh, q⟩
theorem zc_own0 (ok : zg_ok g R) : zc_own g lv 0 = 0 := by
  unfold zc_own
  rw [show 4 * 0 + 3 = 3 from rfl, show 4 * 0 + 2 = 2 from rfl, show 4 * 0 + 1 = 1 from rfl, ok.2.2.1, ok.2.2.2.1, ok.2.2.2.2.1, if_neg (by omega), if_neg (by omega), if_neg (by omega)]
theorem zc_dv_red (ok : zg_ok g R) (h0 : zc_dv g R lv sd S t ≠ 0) (h32 : zc_dv g R lv sd S t ≠ 32) (h64 : zc_dv g R lv sd S t ≠ 64) : ∃ m, 1 ≤ m ∧ m ≤ R ∧ zc_dv g R lv sd S t = nI m ∧ zl_LA g R S (4 * m + zg_ln g m) t := by
  rcases Classical.em (∃ r, zc_red g R S t r) with q | q
  · obtain ⟨m, m1, m2⟩ := pk_least _ q
    obtain ⟨s1, s2, _⟩ := zc_some (lv := lv) (sd := sd) m1 m2
    rcases Classical.em (zg_Df g S t) with d | d
    · have e := s1 d
      rw [e] at h0 h32 h64 ⊢
      unfold zc_rs at h0 h32 h64 ⊢
      by_cases c1 : lv t = 0 ∨ zc_own g lv m = 0
      · rw [if_pos c1] at h32; exact absurd rfl h32
      · have m0 : m ≠ 0 := fun z => c1 (Or.inr (by rw [z]; exact zc_own0 ok))
        have fin : ∃ k, 1 ≤ k ∧ k ≤ R ∧ nI m = nI k ∧ zl_LA g R S (4 * k + zg_ln g k) t := ⟨m, by omega, m1.1, rfl, m1.2⟩
        rw [if_neg c1] at h0 h32 ⊢
        by_cases c2 : zc_own g lv m = lv t
        · rw [if_pos c2] at h0 h32 ⊢
          by_cases c3 : sd t = 0
          · rw [if_pos c3]; exact fin
          · rw [if_neg c3] at h0 h32
            by_cases c4 : sd t = 1
            · rw [if_pos c4] at h32; exact absurd rfl h32
            · rw [if_neg c4] at h0; exact absurd rfl h0
        · rw [if_neg c2] at h0 h32 ⊢
          by_cases c3 : zc_own g lv m ≤ lv t
          · rw [if_pos c3] at h32; exact absurd rfl h32
          · rw [if_neg c3]; exact fin
    · have e := s2 d
      rw [e] at h64 ⊢
      by_cases m0 : m = 0
      · rw [if_pos m0] at h64; exact absurd rfl h64
      · rw [if_neg m0]; exact ⟨m, by omega, m1.1, rfl, m1.2⟩
  · obtain ⟨s1, s2, _⟩ := zc_none (lv := lv) (sd := sd) (fun r hr => q ⟨r, hr⟩)
    rcases Classical.em (zg_Df g S t) with d | d
    · exact absurd (s1 d) h32
    · exact absurd (s2 d) h0
end ZC
/-! a mask with one bit -/
theorem zc_bit (x : Int32) (i : Nat) : zb x i ↔ x.toBitVec.toNat.testBit i = true := Iff.rfl
theorem zc_sev {x : Int32} (h : ∀ i, zb x i → i < 31) : (x &&& (x - 1)) = 0 ↔ ∀ i j, zb x i → zb x j → i = j := by
  constructor
  · intro hz
    have key : ∀ i j, zb x i → zb x j → i < j → False := by
      intro i j hi hj hl
      have j31 := h j hj
      have bi : x.toBitVec.toNat.testBit i = true := hi
      have bj : x.toBitVec.toNat.testBit j = true := hj
      have n32 := x.toBitVec.isLt
      generalize hn : x.toBitVec.toNat = n at bi bj n32
      have r1 : 1 ≤ n % 2 ^ j := by
        rcases Nat.eq_zero_or_pos (n % 2 ^ j) with q | q
        · have : (n % 2 ^ j).testBit i = true := by rw [Nat.testBit_mod_two_pow, bi]; simp [hl]
          rw [q] at this
          simp at this
        · exact q
      have pj : 0 < 2 ^ j := Nat.two_pow_pos j
      have dv : (n - 1) / 2 ^ j = n / 2 ^ j := by
        have e := Nat.div_add_mod n (2 ^ j)
        have lt := Nat.mod_lt n pj
        rw [show n - 1 = (n % 2 ^ j - 1) + 2 ^ j * (n / 2 ^ j) by omega, Nat.add_mul_div_left _ _ pj, Nat.div_eq_of_lt (by omega), Nat.zero_add]
      have bj' : (n - 1).testBit j = true := by
        rw [Nat.testBit_eq_decide_div_mod_eq] at bj ⊢
        rw [dv]; exact bj
      have n1 : 1 ≤ n := Nat.le_trans r1 (Nat.mod_le _ _)
      have e1 : (x - 1).toBitVec.toNat = n - 1 := by
        rw [Int32.toBitVec_sub, BitVec.toNat_sub, hn]
        show (2 ^ 32 - 1 + n) % 2 ^ 32 = n - 1
        omega
      have z1 : zb (x - 1) j := by
        show (x - 1).toBitVec.toNat.testBit j = true
        rw [e1]; exact bj'
      exact zb_z.mp hz j (by omega) (zb_and.mpr ⟨hj, z1⟩)
    intro i j hi hj
    rcases Nat.lt_trichotomy i j with q | q | q
    · exact (key i j hi hj q).elim
    · exact q
    · exact (key j i hj hi q).elim
  · intro hu
    rcases Classical.em (∃ m, zb x m) with ⟨m, hm⟩ | q
    · have m31 := h m hm
      have e : x = (1 : Int32) <<< (nI m &&& 31) := zb_ext fun i _ => by
        rw [zb_sh (by omega)]
        exact ⟨fun z => hu i m z hm, fun z => by rw [z]; exact hm⟩
      rw [e]
      exact (by decide +kernel : ∀ m, m < 31 → (((1 : Int32) <<< (nI m &&& 31)) &&& (((1 : Int32) <<< (nI m &&& 31)) - 1)) = 0) m m31
    · have e : x = 0 := zb_z.mpr fun i _ hi => q ⟨i, hi⟩
      rw [e]; decide
end
section
/-! X: reducersOn, lowest, ruleLevel, ranked, resolve, decide -/
theorem zb_shl0 {n : Nat} (hn : n < 32) : (0 : Int32) <<< (nI n &&& 31) = 0 := (by decide +kernel : ∀ n, n < 32 → (0 : Int32) <<< (nI n &&& 31) = 0) n hn
section ZX
variable {g : Nat → Nat} {R n : Nat} {G : Nat → Nat → Nat} {σ : Nat → Nat → Prop} {f_maxRules f_maxStates f_maxNodes f_maxEdges f_maxSteps f_maxLog f_finished f_lastTerminal f_lastNonterminal f_depthLimit f_built f_ruleCount f_nullable f_stateCount f_edgeCount f_callSize f_pendingSize f_conflictCount f_height f_logSize f_low f_tip f_trialLog : Int32} {a_left a_length a_need a_rhs a_level a_side a_vanishing a_go a_follow a_head a_next a_target a_mark a_entry a_cursor a_callStack a_pending a_la a_base a_table a_check a_row a_symbols a_states a_log a_trialSymbols a_trialStates : Nat → Int32} {a_before a_corner a_sets : Nat → Int64}
theorem zx_ro5 {S : Nat → Prop} (r12 : R ≤ 12) {s t : Nat} (hs : s < 24) (ht : t < 8) (hL : ∀ r, r ≤ R → (zb (a_la (s * 13 + r)) t ↔ zl_LA g R S (4 * r + zg_ln g r) t)) {post : Int32 → Prop}
    (hp : ∀ m, (∀ r, zb m r ↔ zc_red g R S t r) → post m) :
    ∀ f i m, i ≤ R + 1 → R + 1 - i < f → (∀ r, zb m r ↔ r < i ∧ zc_red g R S t r) → wX_reducersOn_5 post (nI s) (nI t) f_maxRules f_maxStates f_maxNodes f_maxEdges f_maxSteps f_maxLog f_finished f_lastTerminal f_lastNonterminal f_depthLimit f_built (nI R) f_nullable f_stateCount f_edgeCount f_callSize f_pendingSize f_conflictCount f_height f_logSize f_low f_tip f_trialLog a_left a_length a_need a_rhs a_level a_side a_before a_corner a_vanishing a_sets a_go a_follow a_head a_next a_target a_mark a_entry a_cursor a_callStack a_pending a_la a_base a_table a_check a_row a_symbols a_states a_log a_trialSymbols a_trialStates f m (nI i) := by
  intro f
  induction f with
  | zero => intro i m _ h; omega
  | succ f ih =>
    intro i m hi hf hm
    refine pk_lt R i (fun h => ?_) (fun h => ?_)
    · refine hp m (fun r => (hm r).trans ⟨fun z => z.2, fun z => ⟨by have := z.1; omega, z⟩⟩)
    · rw [za_m13]
      refine ⟨vp_in_nI (by omega) (by omega), fun y ey z ez => ?_⟩
      rw [za_c _ (by omega)] at ey
      rw [ez, nI_1]
      refine ih (i + 1) y (by omega) (by omega) (fun r => ?_)
      rcases Classical.em (zb (a_la (s * 13 + i)) t) with q | q
      · rw [zb_get1 (by omega) q] at ey
        rw [ey, zb_or, zb_sh (by omega), hm r]
        constructor
        · rintro (⟨a, b⟩ | a)
          · exact ⟨by omega, b⟩
          · rw [a]; exact ⟨by omega, h, (hL i h).mp q⟩
        · rintro ⟨a, b⟩
          by_cases e : r = i
          · exact Or.inr e
          · exact Or.inl ⟨by omega, b⟩
      · rw [(zb_get (by omega)).mpr q, zb_shl0 (by omega)] at ey
        rw [ey, zb_or, hm r]
        constructor
        · rintro (⟨a, b⟩ | a)
          · exact ⟨by omega, b⟩
          · exact absurd a zb_0
        · rintro ⟨a, b⟩
          by_cases e : r = i
          · subst e; exact absurd ((hL r h).mpr b.2) q
          · exact Or.inl ⟨by omega, b⟩
theorem zx_reducersOn {S : Nat → Prop} (r12 : R ≤ 12) {s t : Nat} (hs : s < 24) (ht : t < 8) (hL : ∀ r, r ≤ R → (zb (a_la (s * 13 + r)) t ↔ zl_LA g R S (4 * r + zg_ln g r) t)) {post : Int32 → Prop}
    (hp : ∀ m, (∀ r, zb m r ↔ zc_red g R S t r) → post m) : wpX_reducersOn post (f_maxRules, f_maxStates, f_maxNodes, f_maxEdges, f_maxSteps, f_maxLog, f_finished, f_lastTerminal, f_lastNonterminal, f_depthLimit, f_built, nI R, f_nullable, f_stateCount, f_edgeCount, f_callSize, f_pendingSize, f_conflictCount, f_height, f_logSize, f_low, f_tip, f_trialLog, a_left, a_length, a_need, a_rhs, a_level, a_side, a_before, a_corner, a_vanishing, a_sets, a_go, a_follow, a_head, a_next, a_target, a_mark, a_entry, a_cursor, a_callStack, a_pending, a_la, a_base, a_table, a_check, a_row, a_symbols, a_states, a_log, a_trialSymbols, a_trialStates) (nI s) (nI t) :=
  ⟨R + 2, zx_ro5 r12 hs ht hL hp (R + 2) 0 0 (by omega) (by omega) (fun r => ⟨fun z => absurd z zb_0, fun z => by omega⟩)⟩
theorem zx_lw2 {x : Int32} {post : Int32 → Prop} (hx : ∀ r, zb x r → r ≤ 12) (h0 : (∀ r, ¬ zb x r) → post (-1)) (h1 : ∀ m, zb x m → (∀ j, j < m → ¬ zb x j) → post (nI m)) :
    ∀ f i, i ≤ 13 → 13 - i < f → (∀ j, j < i → ¬ zb x j) → wX_lowest_2 post x f_maxRules f_maxStates f_maxNodes f_maxEdges f_maxSteps f_maxLog f_finished f_lastTerminal f_lastNonterminal f_depthLimit f_built f_ruleCount f_nullable f_stateCount f_edgeCount f_callSize f_pendingSize f_conflictCount f_height f_logSize f_low f_tip f_trialLog a_left a_length a_need a_rhs a_level a_side a_before a_corner a_vanishing a_sets a_go a_follow a_head a_next a_target a_mark a_entry a_cursor a_callStack a_pending a_la a_base a_table a_check a_row a_symbols a_states a_log a_trialSymbols a_trialStates f (nI i) := by
  intro f
  induction f with
  | zero => intro i _ h; omega
  | succ f ih =>
    intro i hi hf hn
    refine pk_lt 12 i (fun h => ?_) (fun h => ?_)
    · exact h0 (fun r hr => hn r (by have := hx r hr; omega) hr)
    · refine br_c (fun c => ?_) (fun c => ?_)
      · rw [zb_get (by omega)] at c
        intro y ey
        rw [ey, nI_1]
        exact ih (i + 1) (by omega) (by omega) (fun j hj => by
          by_cases e : j = i
          · rw [e]; exact c
          · exact hn j (by omega))
      · rw [zb_get (by omega)] at c
        exact h1 i (Classical.not_not.mp c) hn
theorem zx_lowest {x : Int32} {post : Int32 → Prop} (hx : ∀ r, zb x r → r ≤ 12) (h0 : (∀ r, ¬ zb x r) → post (-1)) (h1 : ∀ m, zb x m → (∀ j, j < m → ¬ zb x j) → post (nI m)) : wpX_lowest post (f_maxRules, f_maxStates, f_maxNodes, f_maxEdges, f_maxSteps, f_maxLog, f_finished, f_lastTerminal, f_lastNonterminal, f_depthLimit, f_built, f_ruleCount, f_nullable, f_stateCount, f_edgeCount, f_callSize, f_pendingSize, f_conflictCount, f_height, f_logSize, f_low, f_tip, f_trialLog, a_left, a_length, a_need, a_rhs, a_level, a_side, a_before, a_corner, a_vanishing, a_sets, a_go, a_follow, a_head, a_next, a_target, a_mark, a_entry, a_cursor, a_callStack, a_pending, a_la, a_base, a_table, a_check, a_row, a_symbols, a_states, a_log, a_trialSymbols, a_trialStates) x :=
  ⟨14, zx_lw2 hx h0 h1 14 0 (by omega) (by omega) (fun j hj => by omega)⟩
/-- the level of the last terminal among the first k -/
def zc_ow (g : Nat → Nat) (lv : Nat → Int32) (m : Nat) : Nat → Int32
  | 0 => 0
  | k + 1 => if 0 < g (4 * m + 1 + k) ∧ g (4 * m + 1 + k) < 8 then lv (g (4 * m + 1 + k)) else zc_ow g lv m k
theorem zc_ow3 {lv : Nat → Int32} (m : Nat) : zc_ow g lv m 3 = zc_own g lv m := by
  unfold zc_own
  simp only [zc_ow, Nat.add_assoc]
theorem zc_owl (ok : zg_ok g R) {lv : Nat → Int32} (m : Nat) : ∀ k, zg_ln g m ≤ k → k ≤ 3 → zc_ow g lv m k = zc_ow g lv m (zg_ln g m) := by
  intro k
  induction k with
  | zero => intro h _; rw [show zg_ln g m = 0 by omega]
  | succ k ih =>
    intro h h3
    by_cases e : zg_ln g m = k + 1
    · rw [e]
    · have z : g (4 * m + 1 + k) = 0 := by
        have q : ¬ zg_af g (4 * m + k) ≠ 0 := fun q => by have := (zg_lnI ok (by omega)).mp q; omega
        have q := Classical.not_not.mp q
        rw [zg_af_m (by omega), show 4 * m + k + 1 = 4 * m + 1 + k by omega] at q
        exact q
      show (if 0 < g (4 * m + 1 + k) ∧ g (4 * m + 1 + k) < 8 then _ else zc_ow g lv m k) = _
      rw [if_neg (by omega)]
      exact ih (by omega) (by omega)
theorem zx_rl9 (hG : zx_GR g R a_left a_length a_need a_rhs) {m : Nat} (hm : m ≤ R) {post : Int32 → Prop} (hp : post (zc_own g a_level m)) :
    ∀ f k, k ≤ zg_ln g m → k < f → zc_ow g a_level m k = zc_own g a_level m → wX_ruleLevel_9 post (nI m) f_maxRules f_maxStates f_maxNodes f_maxEdges f_maxSteps f_maxLog f_finished f_lastTerminal f_lastNonterminal f_depthLimit f_built f_ruleCount f_nullable f_stateCount f_edgeCount f_callSize f_pendingSize f_conflictCount f_height f_logSize f_low f_tip f_trialLog a_left a_length a_need a_rhs a_level a_side a_before a_corner a_vanishing a_sets a_go a_follow a_head a_next a_target a_mark a_entry a_cursor a_callStack a_pending a_la a_base a_table a_check a_row a_symbols a_states a_log a_trialSymbols a_trialStates f (nI k - 1) := by
  have ok := hG.1
  have r12 := ok.1
  have l3 := zg_ln_le (g := g) m
  intro f
  induction f with
  | zero => intro k _ h; omega
  | succ f ih =>
    intro k hk hf ho
    rcases Nat.eq_zero_or_pos k with k0 | k0
    · subst k0
      refine br_t za_neg ?_
      rw [← ho] at hp
      exact hp
    · obtain ⟨j, rfl⟩ : ∃ j, k = j + 1 := ⟨k - 1, by omega⟩
      rw [nI_pred]
      obtain ⟨n1, n2, n3⟩ := zg_ln_nz ok (show j < zg_ln g m by omega)
      have g16 := ok.2.2.2.2.2.2.1 (4 * m + 1 + j)
      have eo : zc_ow g a_level m (j + 1) = if 0 < g (4 * m + 1 + j) ∧ g (4 * m + 1 + j) < 8 then a_level (g (4 * m + 1 + j)) else zc_ow g a_level m j := rfl
      refine br_f (nI_pos (by omega)) ?_
      rw [za_m4]
      refine ⟨vp_in_nI (by omega) (by omega), fun y ey => ?_⟩
      rw [za_c _ (by omega), hG.2.2.2.2 _ (by omega), n3] at ey
      subst ey
      refine pk_le 8 (g (4 * m + 1 + j)) (fun c => ?_) (fun c => ?_)
      · intro y ey
        rw [ey, za_dec]
        rw [if_neg (by omega)] at eo
        exact ih j (by omega) (by omega) (by rw [← eo]; exact ho)
      · refine ⟨vp_in_nI (by omega) (by omega), ?_⟩
        rw [if_pos (by omega)] at eo
        rw [za_c _ (by omega), ← eo, ho]
        exact hp
theorem zx_ruleLevel (hG : zx_GR g R a_left a_length a_need a_rhs) {m : Nat} (hm : m ≤ R) {post : Int32 → Prop} (hp : post (zc_own g a_level m)) : wpX_ruleLevel post (f_maxRules, f_maxStates, f_maxNodes, f_maxEdges, f_maxSteps, f_maxLog, f_finished, f_lastTerminal, f_lastNonterminal, f_depthLimit, f_built, f_ruleCount, f_nullable, f_stateCount, f_edgeCount, f_callSize, f_pendingSize, f_conflictCount, f_height, f_logSize, f_low, f_tip, f_trialLog, a_left, a_length, a_need, a_rhs, a_level, a_side, a_before, a_corner, a_vanishing, a_sets, a_go, a_follow, a_head, a_next, a_target, a_mark, a_entry, a_cursor, a_callStack, a_pending, a_la, a_base, a_table, a_check, a_row, a_symbols, a_states, a_log, a_trialSymbols, a_trialStates) (nI m) := by
  have r12 := hG.1.1
  have l3 := zg_ln_le (g := g) m
  refine ⟨vp_in_nI (by omega) (by omega), fun y ey => ⟨4, ?_⟩⟩
  rw [za_c m (by omega), hG.2.2.1 m hm] at ey
  rw [ey]
  exact zx_rl9 hG hm hp 4 (zg_ln g m) (by omega) (by omega) (by rw [← zc_ow3, zc_owl hG.1 m 3 l3 (by omega)])
theorem zx_ranked (hG : zx_GR g R a_left a_length a_need a_rhs) {m t : Nat} (hm : m ≤ R) (ht : t < 8) {post : Int32 → Prop} (h0 : (a_level t = 0 ∨ zc_own g a_level m = 0) → post 0) (h1 : ¬ (a_level t = 0 ∨ zc_own g a_level m = 0) → post 1) : wpX_ranked post (f_maxRules, f_maxStates, f_maxNodes, f_maxEdges, f_maxSteps, f_maxLog, f_finished, f_lastTerminal, f_lastNonterminal, f_depthLimit, f_built, f_ruleCount, f_nullable, f_stateCount, f_edgeCount, f_callSize, f_pendingSize, f_conflictCount, f_height, f_logSize, f_low, f_tip, f_trialLog, a_left, a_length, a_need, a_rhs, a_level, a_side, a_before, a_corner, a_vanishing, a_sets, a_go, a_follow, a_head, a_next, a_target, a_mark, a_entry, a_cursor, a_callStack, a_pending, a_la, a_base, a_table, a_check, a_row, a_symbols, a_states, a_log, a_trialSymbols, a_trialStates) (nI m) (nI t) := by
  refine ⟨vp_in_nI (by omega) (by omega), ?_⟩
  rw [za_c t (by omega)]
  refine br_c (fun c => h0 (Or.inl c)) (fun c => ?_)
  refine zx_ruleLevel hG hm (br_c (fun c' => h0 (Or.inr c')) (fun c' => h1 (fun z => z.elim c c')))
theorem zx_resolve (hG : zx_GR g R a_left a_length a_need a_rhs) {m t : Nat} (hm : m ≤ R) (ht : t < 8) {post : Int32 → Prop} (hp : post (zc_rs a_level a_side (zc_own g a_level m) m t)) : wpX_resolve post (f_maxRules, f_maxStates, f_maxNodes, f_maxEdges, f_maxSteps, f_maxLog, f_finished, f_lastTerminal, f_lastNonterminal, f_depthLimit, f_built, f_ruleCount, f_nullable, f_stateCount, f_edgeCount, f_callSize, f_pendingSize, f_conflictCount, f_height, f_logSize, f_low, f_tip, f_trialLog, a_left, a_length, a_need, a_rhs, a_level, a_side, a_before, a_corner, a_vanishing, a_sets, a_go, a_follow, a_head, a_next, a_target, a_mark, a_entry, a_cursor, a_callStack, a_pending, a_la, a_base, a_table, a_check, a_row, a_symbols, a_states, a_log, a_trialSymbols, a_trialStates) (nI m) (nI t) := by
  unfold wpX_resolve
  refine zx_ruleLevel hG hm (zx_ranked hG hm ht (fun c => ?_) (fun c => ?_))
  · refine br_t rfl ?_
    unfold zc_rs at hp
    rw [if_pos c] at hp
    exact hp
  · unfold zc_rs at hp
    rw [if_neg c] at hp
    refine br_f (by decide) ⟨vp_in_nI (by omega) (by omega), ?_⟩
    rw [za_c t (by omega)]
    refine br_c (fun c1 => ⟨vp_in_nI (by omega) (by omega), ?_⟩) (fun c1 => ?_)
    · refine br_c (fun c2 => ?_) (fun c2 => ⟨vp_in_nI (by omega) (by omega), ?_⟩)
      · rw [if_neg (fun e => by rw [e] at c2; exact Int32.lt_irrefl c2), if_neg (Int32.not_le.mpr c2)] at hp
        exact hp
      · have e : zc_own g a_level m = a_level t := Int32.le_antisymm (Int32.not_lt.mp c2) c1
        rw [if_pos e] at hp
        refine br_c (fun c3 => ?_) (fun c3 => ⟨vp_in_nI (by omega) (by omega), br_c (fun c4 => ?_) (fun c4 => ?_)⟩)
        · rw [if_pos c3] at hp; exact hp
        · rw [if_neg c3, if_pos c4] at hp; exact hp
        · rw [if_neg c3, if_neg c4] at hp; exact hp
    · have c1 := Int32.not_le.mp c1
      rw [if_neg (fun e => by rw [e] at c1; exact Int32.lt_irrefl c1), if_pos (Int32.le_of_lt c1)] at hp
      exact hp
theorem zx_decide (hG : zx_GR g R a_left a_length a_need a_rhs) (A : zl_AU g R n σ G) (hgo : zx_GOA g n σ G a_go) {s t c : Nat} (hs : s < n) (ht : t < 8)
    (hL : ∀ r t, r ≤ R → (zb (a_la (s * 13 + r)) t ↔ zl_LA g R (σ s) (4 * r + zg_ln g r) t)) {post : SX → Prop}
    (hp : post (f_maxRules, f_maxStates, f_maxNodes, f_maxEdges, f_maxSteps, f_maxLog, f_finished, f_lastTerminal, f_lastNonterminal, f_depthLimit, f_built, nI R, f_nullable, f_stateCount, f_edgeCount, f_callSize, f_pendingSize, nI (c + zm_b (zc_cl g R a_level (σ s) t)), f_height, f_logSize, f_low, f_tip, f_trialLog, a_left, a_length, a_need, a_rhs, a_level, a_side, a_before, a_corner, a_vanishing, a_sets, a_go, a_follow, a_head, a_next, a_target, a_mark, a_entry, a_cursor, a_callStack, a_pending, a_la, a_base, a_table, a_check, upd a_row t (zc_dv g R a_level a_side (σ s) t), a_symbols, a_states, a_log, a_trialSymbols, a_trialStates)) :
    wpX_decide post (f_maxRules, f_maxStates, f_maxNodes, f_maxEdges, f_maxSteps, f_maxLog, f_finished, f_lastTerminal, f_lastNonterminal, f_depthLimit, f_built, nI R, f_nullable, f_stateCount, f_edgeCount, f_callSize, f_pendingSize, nI c, f_height, f_logSize, f_low, f_tip, f_trialLog, a_left, a_length, a_need, a_rhs, a_level, a_side, a_before, a_corner, a_vanishing, a_sets, a_go, a_follow, a_head, a_next, a_target, a_mark, a_entry, a_cursor, a_callStack, a_pending, a_la, a_base, a_table, a_check, a_row, a_symbols, a_states, a_log, a_trialSymbols, a_trialStates) (nI s) (nI t) := by
  have r12 := hG.1.1
  have n24 := A.2.1
  unfold wpX_decide
  refine zx_reducersOn (S := σ s) r12 (by omega) ht (fun r hr => hL r t hr) (fun mk hmk => ?_)
  have fin0 : (∀ r, ¬ zc_red g R (σ s) t r) → ∀ z0 : Int32, (z0 = 0 → ¬ zg_Df g (σ s) t) → (z0 ≠ 0 → zg_Df g (σ s) t) → wX_decide_33 post (nI t) mk (-1) z0 f_maxRules f_maxStates f_maxNodes f_maxEdges f_maxSteps f_maxLog f_finished f_lastTerminal f_lastNonterminal f_depthLimit f_built (nI R) f_nullable f_stateCount f_edgeCount f_callSize f_pendingSize (nI c) f_height f_logSize f_low f_tip f_trialLog a_left a_length a_need a_rhs a_level a_side a_before a_corner a_vanishing a_sets a_go a_follow a_head a_next a_target a_mark a_entry a_cursor a_callStack a_pending a_la a_base a_table a_check a_row a_symbols a_states a_log a_trialSymbols a_trialStates := by
    intro hn z0 hz1 hz2
    obtain ⟨s1, s2, s3⟩ := zc_none (lv := a_level) (sd := a_side) hn
    rw [zm_b_f s3, Nat.add_zero] at hp
    refine br_f (by decide) (br_c (fun cz => ⟨vp_in_nI (by omega) (by omega), fun y ey => ?_⟩) (fun cz => ⟨vp_in_nI (by omega) (by omega), fun y ey => ?_⟩))
    · rw [za_c t (by omega)] at ey
      rw [ey, ← s2 (hz1 cz)]; exact hp
    · rw [za_c t (by omega)] at ey
      rw [ey, ← s1 (hz2 cz)]; exact hp
  have fin1 : ∀ m, zc_red g R (σ s) t m → (∀ j, j < m → ¬ zc_red g R (σ s) t j) → ∀ z0 : Int32, (z0 = 0 → ¬ zg_Df g (σ s) t) → (z0 ≠ 0 → zg_Df g (σ s) t) → wX_decide_33 post (nI t) mk (nI m) z0 f_maxRules f_maxStates f_maxNodes f_maxEdges f_maxSteps f_maxLog f_finished f_lastTerminal f_lastNonterminal f_depthLimit f_built (nI R) f_nullable f_stateCount f_edgeCount f_callSize f_pendingSize (nI c) f_height f_logSize f_low f_tip f_trialLog a_left a_length a_need a_rhs a_level a_side a_before a_corner a_vanishing a_sets a_go a_follow a_head a_next a_target a_mark a_entry a_cursor a_callStack a_pending a_la a_base a_table a_check a_row a_symbols a_states a_log a_trialSymbols a_trialStates := by
    intro m m1 m2 z0 hz1 hz2
    obtain ⟨s1, s2, s3⟩ := zc_some (lv := a_level) (sd := a_side) m1 m2
    have hm := m1.1
    have j103 : ∀ c' : Nat, c' = c + zm_b (zc_cl g R a_level (σ s) t) → wX_decide_103 post (nI t) (nI m) z0 f_maxRules f_maxStates f_maxNodes f_maxEdges f_maxSteps f_maxLog f_finished f_lastTerminal f_lastNonterminal f_depthLimit f_built (nI R) f_nullable f_stateCount f_edgeCount f_callSize f_pendingSize (nI c') f_height f_logSize f_low f_tip f_trialLog a_left a_length a_need a_rhs a_level a_side a_before a_corner a_vanishing a_sets a_go a_follow a_head a_next a_target a_mark a_entry a_cursor a_callStack a_pending a_la a_base a_table a_check a_row a_symbols a_states a_log a_trialSymbols a_trialStates := by
      intro c' ec
      subst ec
      refine br_c (fun cz => ?_) (fun cz => ?_)
      · rw [s2 (hz1 cz)] at hp
        refine pk_eq m 0 (fun e => ⟨vp_in_nI (by omega) (by omega), fun y ey => ?_⟩) (fun e => ⟨vp_in_nI (by omega) (by omega), fun y ey => ?_⟩)
        · rw [if_pos e] at hp
          rw [ey, za_c t (by omega)]; exact hp
        · rw [if_neg e] at hp
          rw [ey, za_c t (by omega)]; exact hp
      · rw [s1 (hz2 cz)] at hp
        refine zx_resolve hG hm ht ⟨vp_in_nI (by omega) (by omega), fun y ey => ?_⟩
        rw [ey, za_c t (by omega)]; exact hp
    have j93 : zc_cl g R a_level (σ s) t → wX_decide_93 post (nI t) (nI m) z0 f_maxRules f_maxStates f_maxNodes f_maxEdges f_maxSteps f_maxLog f_finished f_lastTerminal f_lastNonterminal f_depthLimit f_built (nI R) f_nullable f_stateCount f_edgeCount f_callSize f_pendingSize (nI c) f_height f_logSize f_low f_tip f_trialLog a_left a_length a_need a_rhs a_level a_side a_before a_corner a_vanishing a_sets a_go a_follow a_head a_next a_target a_mark a_entry a_cursor a_callStack a_pending a_la a_base a_table a_check a_row a_symbols a_states a_log a_trialSymbols a_trialStates := by
      intro cl y ey
      rw [ey, nI_1]
      exact j103 (c + 1) (by rw [zm_b_t cl])
    refine br_t (nI_pos' (by omega)) ?_
    have sev : (mk &&& (mk - 1)) = 0 ↔ ¬ ∃ r, m < r ∧ zc_red g R (σ s) t r := by
      rw [zc_sev (fun i hi => by have := ((hmk i).mp hi).1; omega)]
      constructor
      · rintro h ⟨r, r1, r2⟩
        have := h m r ((hmk m).mpr m1) ((hmk r).mpr r2)
        omega
      · intro h i j hi hj
        have only : ∀ i, zb mk i → i = m := fun i hi => by
          have q := (hmk i).mp hi
          rcases Nat.lt_trichotomy i m with z | z | z
          · exact absurd q (m2 i z)
          · exact z
          · exact absurd ⟨i, z, q⟩ h
        rw [only i hi, only j hj]
    refine br_c (fun c1 => ?_) (fun c1 => ?_)
    · rw [sev] at c1
      refine br_t rfl (br_c (fun cz => ?_) (fun cz => ?_))
      · refine j103 c ?_
        rw [zm_b_f]; rfl
        rw [s3]
        rintro (q | q)
        · exact c1 q
        · exact hz1 cz q.1
      · refine zx_ranked hG hm ht (fun c2 => br_t rfl (j93 (s3.mpr (Or.inr ⟨hz2 cz, c2⟩)))) (fun c2 => br_f (by decide) (j103 c ?_))
        rw [zm_b_f]; rfl
        rw [s3]
        rintro (q | q)
        · exact c1 q
        · exact c2 q.2
    · rw [sev] at c1
      exact br_f (by decide) (j93 (s3.mpr (Or.inl (Classical.not_not.mp c1))))
  have go : ∀ v : Int32, (∀ z0 : Int32, (z0 = 0 → ¬ zg_Df g (σ s) t) → (z0 ≠ 0 → zg_Df g (σ s) t) → wX_decide_33 post (nI t) mk v z0 f_maxRules f_maxStates f_maxNodes f_maxEdges f_maxSteps f_maxLog f_finished f_lastTerminal f_lastNonterminal f_depthLimit f_built (nI R) f_nullable f_stateCount f_edgeCount f_callSize f_pendingSize (nI c) f_height f_logSize f_low f_tip f_trialLog a_left a_length a_need a_rhs a_level a_side a_before a_corner a_vanishing a_sets a_go a_follow a_head a_next a_target a_mark a_entry a_cursor a_callStack a_pending a_la a_base a_table a_check a_row a_symbols a_states a_log a_trialSymbols a_trialStates) →
      vp_in (nI s * 16 + nI t) 384 ∧ ((a_go (nI s * 16 + nI t).toNatClampNeg < 0 → wX_decide_33 post (nI t) mk v 0 f_maxRules f_maxStates f_maxNodes f_maxEdges f_maxSteps f_maxLog f_finished f_lastTerminal f_lastNonterminal f_depthLimit f_built (nI R) f_nullable f_stateCount f_edgeCount f_callSize f_pendingSize (nI c) f_height f_logSize f_low f_tip f_trialLog a_left a_length a_need a_rhs a_level a_side a_before a_corner a_vanishing a_sets a_go a_follow a_head a_next a_target a_mark a_entry a_cursor a_callStack a_pending a_la a_base a_table a_check a_row a_symbols a_states a_log a_trialSymbols a_trialStates) ∧ (¬ a_go (nI s * 16 + nI t).toNatClampNeg < 0 → wX_decide_33 post (nI t) mk v 1 f_maxRules f_maxStates f_maxNodes f_maxEdges f_maxSteps f_maxLog f_finished f_lastTerminal f_lastNonterminal f_depthLimit f_built (nI R) f_nullable f_stateCount f_edgeCount f_callSize f_pendingSize (nI c) f_height f_logSize f_low f_tip f_trialLog a_left a_length a_need a_rhs a_level a_side a_before a_corner a_vanishing a_sets a_go a_follow a_head a_next a_target a_mark a_entry a_cursor a_callStack a_pending a_la a_base a_table a_check a_row a_symbols a_states a_log a_trialSymbols a_trialStates)) := by
    intro v hv
    rw [za_m16]
    refine ⟨vp_in_nI (by omega) (by omega), ?_⟩
    rw [za_c _ (by omega)]
    rcases Classical.em (zg_Df g (σ s) t) with d | d
    · have q := A.2.2.2.1 _ _ hs d
      exact br_f (by rw [(hgo _ _ hs (by omega)).1 d]; exact nI_pos (by omega)) (hv 1 (fun z => absurd z (by decide)) (fun _ => d))
    · exact br_t (by rw [(hgo _ _ hs (by omega)).2 d]; decide) (hv 0 (fun _ => d) (fun z => absurd rfl z))
  refine zx_lowest (fun r hr => by have := ((hmk r).mp hr).1; omega) (fun hn => ?_) (fun m h1 h2 => ?_)
  · exact go _ (fin0 (fun r hr => hn r ((hmk r).mpr hr)))
  · exact go _ (fin1 m ((hmk m).mp h1) (fun j hj hr => h2 j hj ((hmk j).mpr hr)))
end ZX
end
section
/-! X: fits, storeRow, placeRow, fillDecisions, decision -/
noncomputable def zx_rw (g : Nat → Nat) (R T : Nat) (lv sd : Nat → Int32) (S : Nat → Prop) (t : Nat) : Int32 := if t ≤ T then zc_dv g R lv sd S t else 0
def zx_TR (rw : Nat → Int32) (base : Int32) (s : Nat) (table check : Nat → Int32) : Prop :=
  ∃ b, b ≤ 8 * s ∧ base = nI b ∧ ∀ t, t < 8 → (rw t ≠ 0 → check (b + t) = nI s ∧ table (b + t) = rw t) ∧ (rw t = 0 → check (b + t) ≠ nI s)
def zx_TI (rw : Nat → Nat → Int32) (s : Nat) (base table check : Nat → Int32) : Prop :=
  (∀ i, i < 200 → check i = -1 ∨ ∃ s', s' < s ∧ check i = nI s') ∧ (∀ i, 8 * s ≤ i → i < 200 → check i = -1) ∧ (∀ s', s' < s → zx_TR (rw s') (base s') s' table check)
def zx_fit (row check : Nat → Int32) (b : Nat) : Prop := ∀ t, t < 8 → row t ≠ 0 → check (b + t) < 0
def zx_sto (row table check table' check' : Nat → Int32) (s b k : Nat) : Prop :=
  (∀ t, t < k → row t ≠ 0 → table' (b + t) = row t ∧ check' (b + t) = nI s) ∧ (∀ i, (∀ t, t < k → row t ≠ 0 → i ≠ b + t) → table' i = table i ∧ check' i = check i)
section ZX
variable {g : Nat → Nat} {R n : Nat} {G : Nat → Nat → Nat} {σ : Nat → Nat → Prop} {f_maxRules f_maxStates f_maxNodes f_maxEdges f_maxSteps f_maxLog f_finished f_lastTerminal f_lastNonterminal f_depthLimit f_built f_ruleCount f_nullable f_stateCount f_edgeCount f_callSize f_pendingSize f_conflictCount f_height f_logSize f_low f_tip f_trialLog : Int32} {a_left a_length a_need a_rhs a_level a_side a_vanishing a_go a_follow a_head a_next a_target a_mark a_entry a_cursor a_callStack a_pending a_la a_base a_table a_check a_row a_symbols a_states a_log a_trialSymbols a_trialStates : Nat → Int32} {a_before a_corner a_sets : Nat → Int64}
theorem zx_ft2 {b : Nat} (hb : b ≤ 192) {post : Int32 → Prop} (h1 : zx_fit a_row a_check b → post 1) (h0 : ¬ zx_fit a_row a_check b → post 0) :
    ∀ f i, i ≤ 8 → 8 - i < f → (∀ t, t < i → a_row t ≠ 0 → a_check (b + t) < 0) → wX_fits_2 post (nI b) f_maxRules f_maxStates f_maxNodes f_maxEdges f_maxSteps f_maxLog f_finished f_lastTerminal f_lastNonterminal f_depthLimit f_built f_ruleCount f_nullable f_stateCount f_edgeCount f_callSize f_pendingSize f_conflictCount f_height f_logSize f_low f_tip f_trialLog a_left a_length a_need a_rhs a_level a_side a_before a_corner a_vanishing a_sets a_go a_follow a_head a_next a_target a_mark a_entry a_cursor a_callStack a_pending a_la a_base a_table a_check a_row a_symbols a_states a_log a_trialSymbols a_trialStates f (nI i) := by
  intro f
  induction f with
  | zero => intro i _ h; omega
  | succ f ih =>
    intro i hi hf hn
    refine pk_le 8 i (fun h => ?_) (fun h => ?_)
    · exact h1 (fun t ht => hn t (by omega))
    · refine ⟨vp_in_nI (by omega) (by omega), ?_⟩
      rw [za_c i (by omega)]
      refine br_c (fun c y ey => ?_) (fun c => ?_)
      · rw [ey, nI_1]
        exact ih (i + 1) (by omega) (by omega) (fun t ht hr => by
          by_cases e : t = i
          · subst e; exact absurd c hr
          · exact hn t (by omega) hr)
      · rw [nI_add]
        refine ⟨vp_in_nI (by omega) (by omega), ?_⟩
        rw [za_c _ (by omega)]
        refine br_c (fun c' y ey => ?_) (fun c' => h0 (fun z => c' (z i h c)))
        rw [ey, nI_1]
        exact ih (i + 1) (by omega) (by omega) (fun t ht hr => by
          by_cases e : t = i
          · subst e; exact c'
          · exact hn t (by omega) hr)
theorem zx_fits {b : Nat} (hb : b ≤ 192) {post : Int32 → Prop} (h1 : zx_fit a_row a_check b → post 1) (h0 : ¬ zx_fit a_row a_check b → post 0) : wpX_fits post (f_maxRules, f_maxStates, f_maxNodes, f_maxEdges, f_maxSteps, f_maxLog, f_finished, f_lastTerminal, f_lastNonterminal, f_depthLimit, f_built, f_ruleCount, f_nullable, f_stateCount, f_edgeCount, f_callSize, f_pendingSize, f_conflictCount, f_height, f_logSize, f_low, f_tip, f_trialLog, a_left, a_length, a_need, a_rhs, a_level, a_side, a_before, a_corner, a_vanishing, a_sets, a_go, a_follow, a_head, a_next, a_target, a_mark, a_entry, a_cursor, a_callStack, a_pending, a_la, a_base, a_table, a_check, a_row, a_symbols, a_states, a_log, a_trialSymbols, a_trialStates) (nI b) :=
  ⟨9, zx_ft2 hb h1 h0 9 0 (by omega) (by omega) (fun t h => by omega)⟩
theorem zx_sr2 {s b : Nat} (hb : b ≤ 192) {post : SX → Prop} (hp : ∀ T C : Nat → Int32, zx_sto a_row a_table a_check T C s b 8 → post (f_maxRules, f_maxStates, f_maxNodes, f_maxEdges, f_maxSteps, f_maxLog, f_finished, f_lastTerminal, f_lastNonterminal, f_depthLimit, f_built, f_ruleCount, f_nullable, f_stateCount, f_edgeCount, f_callSize, f_pendingSize, f_conflictCount, f_height, f_logSize, f_low, f_tip, f_trialLog, a_left, a_length, a_need, a_rhs, a_level, a_side, a_before, a_corner, a_vanishing, a_sets, a_go, a_follow, a_head, a_next, a_target, a_mark, a_entry, a_cursor, a_callStack, a_pending, a_la, a_base, T, C, a_row, a_symbols, a_states, a_log, a_trialSymbols, a_trialStates)) :
    ∀ f i (T C : Nat → Int32), i ≤ 8 → 8 - i < f → zx_sto a_row a_table a_check T C s b i → wX_storeRow_2 post (nI s) (nI b) f_maxRules f_maxStates f_maxNodes f_maxEdges f_maxSteps f_maxLog f_finished f_lastTerminal f_lastNonterminal f_depthLimit f_built f_ruleCount f_nullable f_stateCount f_edgeCount f_callSize f_pendingSize f_conflictCount f_height f_logSize f_low f_tip f_trialLog f (nI i) a_left a_length a_need a_rhs a_level a_side a_before a_corner a_vanishing a_sets a_go a_follow a_head a_next a_target a_mark a_entry a_cursor a_callStack a_pending a_la a_base T C a_row a_symbols a_states a_log a_trialSymbols a_trialStates := by
  intro f
  induction f with
  | zero => intro i T C _ h; omega
  | succ f ih =>
    intro i T C hi hf hS
    refine pk_le 8 i (fun h => ?_) (fun h => ?_)
    · have e : i = 8 := by omega
      subst e
      exact hp T C hS
    · refine ⟨vp_in_nI (by omega) (by omega), ?_⟩
      rw [za_c i (by omega)]
      refine br_c (fun c y ey => ?_) (fun c => ?_)
      · rw [ey, nI_1]
        refine ih (i + 1) T C (by omega) (by omega) ⟨fun t ht hr => ?_, fun j hj => hS.2 j (fun t ht => hj t (by omega))⟩
        have : t ≠ i := fun e => by subst e; exact hr c
        exact hS.1 t (by omega) hr
      · refine ⟨vp_in_nI (by omega) (by omega), ?_⟩
        rw [nI_add]
        refine ⟨vp_in_nI (by omega) (by omega), fun T' eT => ⟨vp_in_nI (by omega) (by omega), fun C' eC y ey => ?_⟩⟩
        rw [za_c _ (by omega)] at eT eC
        rw [ey, nI_1]
        refine ih (i + 1) T' C' (by omega) (by omega) ⟨fun t ht hr => ?_, fun j hj => ?_⟩
        · by_cases e : t = i
          · subst e; rw [eT, eC, pk_us, pk_us]; exact ⟨rfl, rfl⟩
          · rw [eT, eC, pk_un (by omega), pk_un (by omega)]; exact hS.1 t (by omega) hr
        · have q := hj i (by omega) c
          rw [eT, eC, pk_un q, pk_un q]
          exact hS.2 j (fun t ht => hj t (by omega))
theorem zx_storeRow {s b : Nat} (hb : b ≤ 192) {post : SX → Prop} (hp : ∀ T C : Nat → Int32, zx_sto a_row a_table a_check T C s b 8 → post (f_maxRules, f_maxStates, f_maxNodes, f_maxEdges, f_maxSteps, f_maxLog, f_finished, f_lastTerminal, f_lastNonterminal, f_depthLimit, f_built, f_ruleCount, f_nullable, f_stateCount, f_edgeCount, f_callSize, f_pendingSize, f_conflictCount, f_height, f_logSize, f_low, f_tip, f_trialLog, a_left, a_length, a_need, a_rhs, a_level, a_side, a_before, a_corner, a_vanishing, a_sets, a_go, a_follow, a_head, a_next, a_target, a_mark, a_entry, a_cursor, a_callStack, a_pending, a_la, a_base, T, C, a_row, a_symbols, a_states, a_log, a_trialSymbols, a_trialStates)) : wpX_storeRow post (f_maxRules, f_maxStates, f_maxNodes, f_maxEdges, f_maxSteps, f_maxLog, f_finished, f_lastTerminal, f_lastNonterminal, f_depthLimit, f_built, f_ruleCount, f_nullable, f_stateCount, f_edgeCount, f_callSize, f_pendingSize, f_conflictCount, f_height, f_logSize, f_low, f_tip, f_trialLog, a_left, a_length, a_need, a_rhs, a_level, a_side, a_before, a_corner, a_vanishing, a_sets, a_go, a_follow, a_head, a_next, a_target, a_mark, a_entry, a_cursor, a_callStack, a_pending, a_la, a_base, a_table, a_check, a_row, a_symbols, a_states, a_log, a_trialSymbols, a_trialStates) (nI s) (nI b) :=
  ⟨9, zx_sr2 hb hp 9 0 a_table a_check (by omega) (by omega) ⟨fun t h => by omega, fun i _ => ⟨rfl, rfl⟩⟩⟩
theorem zx_pr2 {s : Nat} (hs : s < 24) (h8 : zx_fit a_row a_check (8 * s)) {post : SX → Prop}
    (hp : ∀ b (T C : Nat → Int32), b ≤ 8 * s → zx_fit a_row a_check b → zx_sto a_row a_table a_check T C s b 8 → post (f_maxRules, f_maxStates, f_maxNodes, f_maxEdges, f_maxSteps, f_maxLog, f_finished, f_lastTerminal, f_lastNonterminal, f_depthLimit, f_built, f_ruleCount, f_nullable, f_stateCount, f_edgeCount, f_callSize, f_pendingSize, f_conflictCount, f_height, f_logSize, f_low, f_tip, f_trialLog, a_left, a_length, a_need, a_rhs, a_level, a_side, a_before, a_corner, a_vanishing, a_sets, a_go, a_follow, a_head, a_next, a_target, a_mark, a_entry, a_cursor, a_callStack, a_pending, a_la, upd a_base s (nI b), T, C, a_row, a_symbols, a_states, a_log, a_trialSymbols, a_trialStates)) :
    ∀ f b, b ≤ 8 * s → 8 * s - b < f → wX_placeRow_2 post (nI s) f_maxRules f_maxStates f_maxNodes f_maxEdges f_maxSteps f_maxLog f_finished f_lastTerminal f_lastNonterminal f_depthLimit f_built f_ruleCount f_nullable f_stateCount f_edgeCount f_callSize f_pendingSize f_conflictCount f_height f_logSize f_low f_tip f_trialLog a_left a_length a_need a_rhs a_level a_side a_before a_corner a_vanishing a_sets a_go a_follow a_head a_next a_target a_mark a_entry a_cursor a_callStack a_pending a_la a_base a_table a_check a_row a_symbols a_states a_log a_trialSymbols a_trialStates f (nI b) := by
  intro f
  induction f with
  | zero => intro b _ h; omega
  | succ f ih =>
    intro b hb hf
    refine br_f (nI_nlt (a := 192) (by omega) (by decide)) ?_
    refine zx_fits (by omega) (fun c => ?_) (fun c => ?_)
    · refine br_f (by decide) ⟨vp_in_nI (by omega) (by omega), fun B eB => ?_⟩
      rw [za_c s (by omega)] at eB
      subst eB
      exact zx_storeRow (by omega) (fun T C h => hp b T C hb c h)
    · refine br_t rfl (fun y ey => ?_)
      rw [ey, nI_1]
      have : b ≠ 8 * s := fun e => c (by rw [e]; exact h8)
      exact ih (b + 1) (by omega) (by omega)
theorem zx_placeRow {s : Nat} (hs : s < 24) {rw : Nat → Nat → Int32} (hrow : ∀ t, t < 8 → a_row t = rw s t) (hT : zx_TI rw s a_base a_table a_check) {post : SX → Prop}
    (hp : ∀ B T C : Nat → Int32, zx_TI rw (s + 1) B T C → post (f_maxRules, f_maxStates, f_maxNodes, f_maxEdges, f_maxSteps, f_maxLog, f_finished, f_lastTerminal, f_lastNonterminal, f_depthLimit, f_built, f_ruleCount, f_nullable, f_stateCount, f_edgeCount, f_callSize, f_pendingSize, f_conflictCount, f_height, f_logSize, f_low, f_tip, f_trialLog, a_left, a_length, a_need, a_rhs, a_level, a_side, a_before, a_corner, a_vanishing, a_sets, a_go, a_follow, a_head, a_next, a_target, a_mark, a_entry, a_cursor, a_callStack, a_pending, a_la, B, T, C, a_row, a_symbols, a_states, a_log, a_trialSymbols, a_trialStates)) : wpX_placeRow post (f_maxRules, f_maxStates, f_maxNodes, f_maxEdges, f_maxSteps, f_maxLog, f_finished, f_lastTerminal, f_lastNonterminal, f_depthLimit, f_built, f_ruleCount, f_nullable, f_stateCount, f_edgeCount, f_callSize, f_pendingSize, f_conflictCount, f_height, f_logSize, f_low, f_tip, f_trialLog, a_left, a_length, a_need, a_rhs, a_level, a_side, a_before, a_corner, a_vanishing, a_sets, a_go, a_follow, a_head, a_next, a_target, a_mark, a_entry, a_cursor, a_callStack, a_pending, a_la, a_base, a_table, a_check, a_row, a_symbols, a_states, a_log, a_trialSymbols, a_trialStates) (nI s) := by
  obtain ⟨t1, t2, t3⟩ := hT
  refine ⟨8 * s + 1, zx_pr2 hs (fun t ht _ => by rw [t2 _ (by omega) (by omega)]; decide) (fun b T C hb hf ⟨s1, s2⟩ => hp _ T C ⟨fun i hi => ?_, fun i h1 h2 => ?_, fun s' hs' => ?_⟩) (8 * s + 1) 0 (by omega) (by omega)⟩
  · rcases Classical.em (∃ t, t < 8 ∧ a_row t ≠ 0 ∧ i = b + t) with ⟨t, a, b', c⟩ | q
    · rw [c, (s1 t a b').2]; exact Or.inr ⟨s, by omega, rfl⟩
    · rw [(s2 i (fun t a b' c => q ⟨t, a, b', c⟩)).2]
      rcases t1 i hi with z | ⟨s', z1, z2⟩
      · exact Or.inl z
      · exact Or.inr ⟨s', by omega, z2⟩
  · rw [(s2 i (fun t a _ c => by omega)).2]
    exact t2 i (by omega) h2
  · by_cases e : s' = s
    · subst e
      rw [pk_us]
      refine ⟨b, hb, rfl, fun t ht => ⟨fun hr => ?_, fun hr => ?_⟩⟩
      · rw [← hrow t ht] at hr ⊢
        exact ⟨(s1 t ht hr).2, (s1 t ht hr).1⟩
      · rw [← hrow t ht] at hr
        rw [(s2 (b + t) (fun t' a b' c => by have : t' = t := by omega
                                             subst this
                                             exact b' hr)).2]
        rcases t1 (b + t) (by omega) with z | ⟨s'', z1, z2⟩
        · rw [z]; exact fun q => absurd ((congrArg (· < 0) q).mp (by decide)) (nI_pos (by omega))
        · rw [z2]; exact fun q => by have := (nI_eq (by omega) (by omega)).mp q; omega
    · rw [pk_un e]
      obtain ⟨b', c1, c2, c3⟩ := t3 s' (by omega)
      refine ⟨b', c1, c2, fun t ht => ?_⟩
      obtain ⟨d1, d2⟩ := c3 t ht
      rcases Classical.em (∃ t', t' < 8 ∧ a_row t' ≠ 0 ∧ b' + t = b + t') with ⟨t', a, b'', c⟩ | q
      · have ck := hf t' a b''
        rw [← c] at ck
        refine ⟨fun hr => ?_, fun hr => ?_⟩
        · rw [(d1 hr).1] at ck; exact absurd ck (nI_pos (by omega))
        · rw [c, (s1 t' a b'').2]; exact fun q => by have := (nI_eq (by omega) (by omega)).mp q; omega
      · have u := s2 (b' + t) (fun t' a b'' c => q ⟨t', a, b'', c⟩)
        rw [u.1, u.2]
        exact ⟨d1, d2⟩
theorem zx_fd60 (hG : zx_GR g R a_left a_length a_need a_rhs) (A : zl_AU g R n σ G) (hgo : zx_GOA g n σ G a_go) {T s c : Nat} (hT7 : T ≤ 7) (hs : s < n)
    (hL : ∀ s r t, s < n → r ≤ R → (zb (a_la (s * 13 + r)) t ↔ zl_LA g R (σ s) (4 * r + zg_ln g r) t)) (hTI : zx_TI (fun s => zx_rw g R T a_level a_side (σ s)) s a_base a_table a_check)
    {post : SX → Prop} {J29 : Int32 → Int32 → Int32 → Int32 → Int32 → Int32 → Int32 → Int32 → Int32 → Int32 → Int32 → Int32 → Int32 → Int32 → Int32 → Int32 → Int32 → Int32 → Int32 → Int32 → Int32 → Int32 → Int32 → Int32 → (Nat → Int32) → (Nat → Int32) → (Nat → Int32) → (Nat → Int32) → (Nat → Int32) → (Nat → Int32) → (Nat → Int64) → (Nat → Int64) → (Nat → Int32) → (Nat → Int64) → (Nat → Int32) → (Nat → Int32) → (Nat → Int32) → (Nat → Int32) → (Nat → Int32) → (Nat → Int32) → (Nat → Int32) → (Nat → Int32) → (Nat → Int32) → (Nat → Int32) → (Nat → Int32) → (Nat → Int32) → (Nat → Int32) → (Nat → Int32) → (Nat → Int32) → (Nat → Int32) → (Nat → Int32) → (Nat → Int32) → (Nat → Int32) → (Nat → Int32) → Prop}
    (hJ : ∀ rw B Tb C : Nat → Int32, zx_TI (fun s => zx_rw g R T a_level a_side (σ s)) (s + 1) B Tb C → J29 (nI (s + 1)) f_maxRules f_maxStates f_maxNodes f_maxEdges f_maxSteps f_maxLog f_finished (nI T) f_lastNonterminal f_depthLimit f_built (nI R) f_nullable (nI n) f_edgeCount f_callSize f_pendingSize (nI (c + zm_s (fun t => zm_b (zc_cl g R a_level (σ s) t)) (T + 1))) f_height f_logSize f_low f_tip f_trialLog a_left a_length a_need a_rhs a_level a_side a_before a_corner a_vanishing a_sets a_go a_follow a_head a_next a_target a_mark a_entry a_cursor a_callStack a_pending a_la B Tb C rw a_symbols a_states a_log a_trialSymbols a_trialStates) :
    ∀ f i (rw : Nat → Int32), i ≤ T + 1 → T + 1 - i < f → (∀ t, t < 8 → rw t = if t < i then zx_rw g R T a_level a_side (σ s) t else 0) →
      wX_fillDecisions_60 post J29 (nI s) f (nI i) f_maxRules f_maxStates f_maxNodes f_maxEdges f_maxSteps f_maxLog f_finished (nI T) f_lastNonterminal f_depthLimit f_built (nI R) f_nullable (nI n) f_edgeCount f_callSize f_pendingSize (nI (c + zm_s (fun t => zm_b (zc_cl g R a_level (σ s) t)) i)) f_height f_logSize f_low f_tip f_trialLog a_left a_length a_need a_rhs a_level a_side a_before a_corner a_vanishing a_sets a_go a_follow a_head a_next a_target a_mark a_entry a_cursor a_callStack a_pending a_la a_base a_table a_check rw a_symbols a_states a_log a_trialSymbols a_trialStates := by
  have n24 := A.2.1
  intro f
  induction f with
  | zero => intro i rw _ h; omega
  | succ f ih =>
    intro i rw hi hf hrw
    refine pk_lt T i (fun h => ?_) (fun h => ?_)
    · have e : i = T + 1 := by omega
      subst e
      refine zx_placeRow (by omega) (rw := fun s => zx_rw g R T a_level a_side (σ s)) (fun t ht => ?_) hTI (fun B Tb C h => ?_)
      · rw [hrw t ht]
        by_cases q : t < T + 1
        · rw [if_pos q]
        · rw [if_neg q]; unfold zx_rw; rw [if_neg (by omega)]
      · intro y ey
        rw [ey, nI_1]
        exact hJ rw B Tb C h
    · refine zx_decide hG A hgo (c := c + zm_s (fun t => zm_b (zc_cl g R a_level (σ s) t)) i) hs (by omega) (fun r t hr => hL s r t hs hr) ?_
      intro y ey
      rw [ey, nI_1, Nat.add_assoc]
      refine ih (i + 1) _ (by omega) (by omega) (fun t ht => ?_)
      by_cases q : t = i
      · rw [q, pk_us, if_pos (by omega)]; unfold zx_rw; rw [if_pos h]
      · rw [pk_un q, hrw t ht]
        by_cases q' : t < i
        · rw [if_pos q', if_pos (by omega)]
        · rw [if_neg q', if_neg (by omega)]
theorem zx_fd39 (hG : zx_GR g R a_left a_length a_need a_rhs) (A : zl_AU g R n σ G) (hgo : zx_GOA g n σ G a_go) {T s c : Nat} (hT7 : T ≤ 7) (hs : s < n)
    (hL : ∀ s r t, s < n → r ≤ R → (zb (a_la (s * 13 + r)) t ↔ zl_LA g R (σ s) (4 * r + zg_ln g r) t)) (hTI : zx_TI (fun s => zx_rw g R T a_level a_side (σ s)) s a_base a_table a_check)
    {post : SX → Prop} {J29 : Int32 → Int32 → Int32 → Int32 → Int32 → Int32 → Int32 → Int32 → Int32 → Int32 → Int32 → Int32 → Int32 → Int32 → Int32 → Int32 → Int32 → Int32 → Int32 → Int32 → Int32 → Int32 → Int32 → Int32 → (Nat → Int32) → (Nat → Int32) → (Nat → Int32) → (Nat → Int32) → (Nat → Int32) → (Nat → Int32) → (Nat → Int64) → (Nat → Int64) → (Nat → Int32) → (Nat → Int64) → (Nat → Int32) → (Nat → Int32) → (Nat → Int32) → (Nat → Int32) → (Nat → Int32) → (Nat → Int32) → (Nat → Int32) → (Nat → Int32) → (Nat → Int32) → (Nat → Int32) → (Nat → Int32) → (Nat → Int32) → (Nat → Int32) → (Nat → Int32) → (Nat → Int32) → (Nat → Int32) → (Nat → Int32) → (Nat → Int32) → (Nat → Int32) → (Nat → Int32) → Prop}
    (hJ : ∀ rw B Tb C : Nat → Int32, zx_TI (fun s => zx_rw g R T a_level a_side (σ s)) (s + 1) B Tb C → J29 (nI (s + 1)) f_maxRules f_maxStates f_maxNodes f_maxEdges f_maxSteps f_maxLog f_finished (nI T) f_lastNonterminal f_depthLimit f_built (nI R) f_nullable (nI n) f_edgeCount f_callSize f_pendingSize (nI (c + zm_s (fun t => zm_b (zc_cl g R a_level (σ s) t)) (T + 1))) f_height f_logSize f_low f_tip f_trialLog a_left a_length a_need a_rhs a_level a_side a_before a_corner a_vanishing a_sets a_go a_follow a_head a_next a_target a_mark a_entry a_cursor a_callStack a_pending a_la B Tb C rw a_symbols a_states a_log a_trialSymbols a_trialStates) :
    ∀ f i (rw : Nat → Int32), i ≤ 8 → 8 - i < f → (∀ t, t < i → rw t = 0) → wX_fillDecisions_39 post J29 (nI s) f_maxRules f_maxStates f_maxNodes f_maxEdges f_maxSteps f_maxLog f_finished (nI T) f_lastNonterminal f_depthLimit f_built (nI R) f_nullable (nI n) f_edgeCount f_callSize f_pendingSize (nI c) f_height f_logSize f_low f_tip f_trialLog f (nI i) a_left a_length a_need a_rhs a_level a_side a_before a_corner a_vanishing a_sets a_go a_follow a_head a_next a_target a_mark a_entry a_cursor a_callStack a_pending a_la a_base a_table a_check rw a_symbols a_states a_log a_trialSymbols a_trialStates := by
  intro f
  induction f with
  | zero => intro i rw _ h; omega
  | succ f ih =>
    intro i rw hi hf hrw
    refine pk_le 8 i (fun h => ?_) (fun h => ?_)
    · exact ⟨T + 2, zx_fd60 hG A hgo hT7 hs hL hTI hJ (T + 2) 0 rw (by omega) (by omega) (fun t ht => by rw [if_neg (by omega)]; exact hrw t (by omega))⟩
    · refine ⟨vp_in_nI (by omega) (by omega), fun rw' er y ey => ?_⟩
      rw [za_c i (by omega)] at er
      rw [ey, nI_1]
      refine ih (i + 1) rw' (by omega) (by omega) (fun t ht => ?_)
      by_cases q : t = i
      · rw [er, q, pk_us]
      · rw [er, pk_un q]; exact hrw t (by omega)
theorem zx_fd29 (hG : zx_GR g R a_left a_length a_need a_rhs) (A : zl_AU g R n σ G) (hgo : zx_GOA g n σ G a_go) {T : Nat} (hT7 : T ≤ 7)
    (hL : ∀ s r t, s < n → r ≤ R → (zb (a_la (s * 13 + r)) t ↔ zl_LA g R (σ s) (4 * r + zg_ln g r) t)) {post : SX → Prop}
    (hp : ∀ rw B Tb C : Nat → Int32, zx_TI (fun s => zx_rw g R T a_level a_side (σ s)) n B Tb C → post (f_maxRules, f_maxStates, f_maxNodes, f_maxEdges, f_maxSteps, f_maxLog, f_finished, nI T, f_lastNonterminal, f_depthLimit, f_built, nI R, f_nullable, nI n, f_edgeCount, f_callSize, f_pendingSize, nI (zm_s (fun s => zm_s (fun t => zm_b (zc_cl g R a_level (σ s) t)) (T + 1)) n), f_height, f_logSize, f_low, f_tip, f_trialLog, a_left, a_length, a_need, a_rhs, a_level, a_side, a_before, a_corner, a_vanishing, a_sets, a_go, a_follow, a_head, a_next, a_target, a_mark, a_entry, a_cursor, a_callStack, a_pending, a_la, B, Tb, C, rw, a_symbols, a_states, a_log, a_trialSymbols, a_trialStates)) :
    ∀ f s (rw B Tb C : Nat → Int32), s ≤ n → n - s < f → zx_TI (fun s => zx_rw g R T a_level a_side (σ s)) s B Tb C →
      wX_fillDecisions_29 post f (nI s) f_maxRules f_maxStates f_maxNodes f_maxEdges f_maxSteps f_maxLog f_finished (nI T) f_lastNonterminal f_depthLimit f_built (nI R) f_nullable (nI n) f_edgeCount f_callSize f_pendingSize (nI (zm_s (fun s => zm_s (fun t => zm_b (zc_cl g R a_level (σ s) t)) (T + 1)) s)) f_height f_logSize f_low f_tip f_trialLog a_left a_length a_need a_rhs a_level a_side a_before a_corner a_vanishing a_sets a_go a_follow a_head a_next a_target a_mark a_entry a_cursor a_callStack a_pending a_la B Tb C rw a_symbols a_states a_log a_trialSymbols a_trialStates := by
  have n24 := A.2.1
  intro f
  induction f with
  | zero => intro s rw B Tb C _ h; omega
  | succ f ih =>
    intro s rw B Tb C hs hf hTI
    refine pk_le n s (fun h => ?_) (fun h => ?_)
    · have e : s = n := by omega
      subst e
      exact hp rw B Tb C hTI
    · exact ⟨9, zx_fd39 hG A hgo hT7 h hL hTI (fun rw' B' T' C' h' => ih (s + 1) rw' B' T' C' (by omega) (by omega) h') 9 0 rw (by omega) (by omega) (fun t ht => by omega)⟩
theorem zx_fd7 (hG : zx_GR g R a_left a_length a_need a_rhs) (A : zl_AU g R n σ G) (hgo : zx_GOA g n σ G a_go) {T : Nat} (hT7 : T ≤ 7)
    (hL : ∀ s r t, s < n → r ≤ R → (zb (a_la (s * 13 + r)) t ↔ zl_LA g R (σ s) (4 * r + zg_ln g r) t)) {post : SX → Prop}
    (hp : ∀ rw B Tb C : Nat → Int32, zx_TI (fun s => zx_rw g R T a_level a_side (σ s)) n B Tb C → post (f_maxRules, f_maxStates, f_maxNodes, f_maxEdges, f_maxSteps, f_maxLog, f_finished, nI T, f_lastNonterminal, f_depthLimit, f_built, nI R, f_nullable, nI n, f_edgeCount, f_callSize, f_pendingSize, nI (zm_s (fun s => zm_s (fun t => zm_b (zc_cl g R a_level (σ s) t)) (T + 1)) n), f_height, f_logSize, f_low, f_tip, f_trialLog, a_left, a_length, a_need, a_rhs, a_level, a_side, a_before, a_corner, a_vanishing, a_sets, a_go, a_follow, a_head, a_next, a_target, a_mark, a_entry, a_cursor, a_callStack, a_pending, a_la, B, Tb, C, rw, a_symbols, a_states, a_log, a_trialSymbols, a_trialStates)) :
    ∀ f i (C : Nat → Int32), i ≤ 200 → 200 - i < f → (∀ k, k < i → C k = -1) → wX_fillDecisions_7 post f_maxRules f_maxStates f_maxNodes f_maxEdges f_maxSteps f_maxLog f_finished (nI T) f_lastNonterminal f_depthLimit f_built (nI R) f_nullable (nI n) f_edgeCount f_callSize f_pendingSize (nI 0) f_height f_logSize f_low f_tip f_trialLog f (nI i) a_left a_length a_need a_rhs a_level a_side a_before a_corner a_vanishing a_sets a_go a_follow a_head a_next a_target a_mark a_entry a_cursor a_callStack a_pending a_la a_base a_table C a_row a_symbols a_states a_log a_trialSymbols a_trialStates := by
  intro f
  induction f with
  | zero => intro i C _ h; omega
  | succ f ih =>
    intro i C hi hf hC
    refine pk_le 200 i (fun h => ?_) (fun h => ?_)
    · exact ⟨n + 1, zx_fd29 hG A hgo hT7 hL hp (n + 1) 0 a_row a_base a_table C (by omega) (by omega) ⟨fun k hk => Or.inl (hC k (by omega)), fun k _ hk => hC k (by omega), fun s' h => by omega⟩⟩
    · refine ⟨vp_in_nI (by omega) (by omega), fun C' eC y ey => ?_⟩
      rw [za_c i (by omega)] at eC
      rw [ey, nI_1]
      refine ih (i + 1) C' (by omega) (by omega) (fun t ht => ?_)
      by_cases q : t = i
      · rw [eC, q, pk_us]
      · rw [eC, pk_un q]; exact hC t (by omega)
theorem zx_fillDecisions (hG : zx_GR g R a_left a_length a_need a_rhs) (A : zl_AU g R n σ G) (hgo : zx_GOA g n σ G a_go) {T : Nat} (hT7 : T ≤ 7)
    (hL : ∀ s r t, s < n → r ≤ R → (zb (a_la (s * 13 + r)) t ↔ zl_LA g R (σ s) (4 * r + zg_ln g r) t)) {post : SX → Prop}
    (hp : ∀ rw B Tb C : Nat → Int32, zx_TI (fun s => zx_rw g R T a_level a_side (σ s)) n B Tb C → post (f_maxRules, f_maxStates, f_maxNodes, f_maxEdges, f_maxSteps, f_maxLog, f_finished, nI T, f_lastNonterminal, f_depthLimit, f_built, nI R, f_nullable, nI n, f_edgeCount, f_callSize, f_pendingSize, nI (zm_s (fun s => zm_s (fun t => zm_b (zc_cl g R a_level (σ s) t)) (T + 1)) n), f_height, f_logSize, f_low, f_tip, f_trialLog, a_left, a_length, a_need, a_rhs, a_level, a_side, a_before, a_corner, a_vanishing, a_sets, a_go, a_follow, a_head, a_next, a_target, a_mark, a_entry, a_cursor, a_callStack, a_pending, a_la, B, Tb, C, rw, a_symbols, a_states, a_log, a_trialSymbols, a_trialStates)) :
    wpX_fillDecisions post (f_maxRules, f_maxStates, f_maxNodes, f_maxEdges, f_maxSteps, f_maxLog, f_finished, nI T, f_lastNonterminal, f_depthLimit, f_built, nI R, f_nullable, nI n, f_edgeCount, f_callSize, f_pendingSize, f_conflictCount, f_height, f_logSize, f_low, f_tip, f_trialLog, a_left, a_length, a_need, a_rhs, a_level, a_side, a_before, a_corner, a_vanishing, a_sets, a_go, a_follow, a_head, a_next, a_target, a_mark, a_entry, a_cursor, a_callStack, a_pending, a_la, a_base, a_table, a_check, a_row, a_symbols, a_states, a_log, a_trialSymbols, a_trialStates) :=
  ⟨201, zx_fd7 hG A hgo hT7 hL hp 201 0 a_check (by omega) (by omega) (fun k h => by omega)⟩
theorem zx_decision {T s t : Nat} (hs : s < n) (n24 : n ≤ 24) (hT7 : T ≤ 7) (ht : t ≤ T) (hTI : zx_TI (fun s => zx_rw g R T a_level a_side (σ s)) n a_base a_table a_check) {post : Int32 → Prop}
    (hp : post (zc_dv g R a_level a_side (σ s) t)) : wpX_decision post (f_maxRules, f_maxStates, f_maxNodes, f_maxEdges, f_maxSteps, f_maxLog, f_finished, f_lastTerminal, f_lastNonterminal, f_depthLimit, f_built, f_ruleCount, f_nullable, f_stateCount, f_edgeCount, f_callSize, f_pendingSize, f_conflictCount, f_height, f_logSize, f_low, f_tip, f_trialLog, a_left, a_length, a_need, a_rhs, a_level, a_side, a_before, a_corner, a_vanishing, a_sets, a_go, a_follow, a_head, a_next, a_target, a_mark, a_entry, a_cursor, a_callStack, a_pending, a_la, a_base, a_table, a_check, a_row, a_symbols, a_states, a_log, a_trialSymbols, a_trialStates) (nI s) (nI t) := by
  obtain ⟨b, b1, b2, b3⟩ := hTI.2.2 s hs
  obtain ⟨c1, c2⟩ := b3 t (by omega)
  have er : zx_rw g R T a_level a_side (σ s) t = zc_dv g R a_level a_side (σ s) t := by unfold zx_rw; rw [if_pos ht]
  rw [← er] at hp
  refine ⟨vp_in_nI (by omega) (by omega), fun y ey => ?_⟩
  rw [za_c s (by omega), b2, nI_add] at ey
  subst ey
  refine ⟨vp_in_nI (by omega) (by omega), ?_⟩
  rw [za_c _ (by omega)]
  rcases Classical.em (zx_rw g R T a_level a_side (σ s) t = 0) with q | q
  · refine br_f (c2 q) ?_
    rw [q] at hp; exact hp
  · refine br_t (c1 q).1 ⟨vp_in_nI (by omega) (by omega), ?_⟩
    rw [(c1 q).2]; exact hp
end ZX
end
section
/-! X: build -/
def zx_G (a_go : Nat → Int32) (s x : Nat) : Nat := (a_go (s * 16 + x)).toNatClampNeg
def zx_BU (g : Nat → Nat) (R T n : Nat) (lv sd : Nat → Int32) (a_sets : Nat → Int64) (a_go a_la a_base a_table a_check : Nat → Int32) (cc : Int32) : Prop :=
  zl_AU g R n (zx_sg a_sets) (zx_G a_go) ∧ zx_GOA g n (zx_sg a_sets) (zx_G a_go) a_go ∧
  (∀ s r t, s < n → r ≤ R → (zb (a_la (s * 13 + r)) t ↔ zl_LA g R (zx_sg a_sets s) (4 * r + zg_ln g r) t)) ∧
  zx_TI (fun s => zx_rw g R T lv sd (zx_sg a_sets s)) n a_base a_table a_check ∧ cc = nI (zm_s (fun s => zm_s (fun t => zm_b (zc_cl g R lv (zx_sg a_sets s) t)) (T + 1)) n)
section ZX
variable {g : Nat → Nat} {R T : Nat} {f_maxRules f_maxStates f_maxNodes f_maxEdges f_maxSteps f_maxLog f_finished f_lastTerminal f_lastNonterminal f_depthLimit f_built f_ruleCount f_nullable f_stateCount f_edgeCount f_callSize f_pendingSize f_conflictCount f_height f_logSize f_low f_tip f_trialLog : Int32} {a_left a_length a_need a_rhs a_level a_side a_vanishing a_go a_follow a_head a_next a_target a_mark a_entry a_cursor a_callStack a_pending a_la a_base a_table a_check a_row a_symbols a_states a_log a_trialSymbols a_trialStates : Nat → Int32} {a_before a_corner a_sets : Nat → Int64}
theorem zx_build (hT7 : T ≤ 7) (hG : zx_GR g R a_left a_length a_need a_rhs) {post : Int32 → SX → Prop}
    (h7 : ¬ (∀ i, zg_PR g R (g i)) → post (-7) (f_maxRules, f_maxStates, f_maxNodes, f_maxEdges, f_maxSteps, f_maxLog, f_finished, nI T, f_lastNonterminal, f_depthLimit, 0, nI R, f_nullable, f_stateCount, f_edgeCount, f_callSize, f_pendingSize, f_conflictCount, f_height, f_logSize, f_low, f_tip, f_trialLog, a_left, a_length, a_need, a_rhs, a_level, a_side, a_before, a_corner, a_vanishing, a_sets, a_go, a_follow, a_head, a_next, a_target, a_mark, a_entry, a_cursor, a_callStack, a_pending, a_la, a_base, a_table, a_check, a_row, a_symbols, a_states, a_log, a_trialSymbols, a_trialStates))
    (h5 : (∀ i, zg_PR g R (g i)) → zg_TM g R → ∀ (sc : Int32) (B C S : Nat → Int64) (A : Nat → Int32), post (-5) (f_maxRules, f_maxStates, f_maxNodes, f_maxEdges, f_maxSteps, f_maxLog, f_finished, nI T, f_lastNonterminal, f_depthLimit, 0, nI R, f_nullable, sc, f_edgeCount, f_callSize, f_pendingSize, f_conflictCount, f_height, f_logSize, f_low, f_tip, f_trialLog, a_left, a_length, a_need, a_rhs, a_level, a_side, B, C, a_vanishing, S, A, a_follow, a_head, a_next, a_target, a_mark, a_entry, a_cursor, a_callStack, a_pending, a_la, a_base, a_table, a_check, a_row, a_symbols, a_states, a_log, a_trialSymbols, a_trialStates))
    (hp : (∀ i, zg_PR g R (g i)) → ∀ (n : Nat) (x1 x2 x3 x4 cc : Int32) (B C S : Nat → Int64) (V A fo hd nx tg mk en cu cs pe L bs tb ck rw : Nat → Int32), zx_BU g R T n a_level a_side S A L bs tb ck cc →
      post (nI n) (f_maxRules, f_maxStates, f_maxNodes, f_maxEdges, f_maxSteps, f_maxLog, f_finished, nI T, f_lastNonterminal, f_depthLimit, 1, nI R, x1, nI n, x2, x3, x4, cc, 0, 0, f_low, f_tip, f_trialLog, a_left, a_length, a_need, a_rhs, a_level, a_side, B, C, V, S, A, fo, hd, nx, tg, mk, en, cu, cs, pe, L, bs, tb, ck, rw, a_symbols, a_states, a_log, a_trialSymbols, a_trialStates)) :
    wpX_build post (f_maxRules, f_maxStates, f_maxNodes, f_maxEdges, f_maxSteps, f_maxLog, f_finished, nI T, f_lastNonterminal, f_depthLimit, 0, nI R, f_nullable, f_stateCount, f_edgeCount, f_callSize, f_pendingSize, f_conflictCount, f_height, f_logSize, f_low, f_tip, f_trialLog, a_left, a_length, a_need, a_rhs, a_level, a_side, a_before, a_corner, a_vanishing, a_sets, a_go, a_follow, a_head, a_next, a_target, a_mark, a_entry, a_cursor, a_callStack, a_pending, a_la, a_base, a_table, a_check, a_row, a_symbols, a_states, a_log, a_trialSymbols, a_trialStates) := by
  have ok := hG.1
  unfold wpX_build
  refine br_t rfl ?_
  refine zx_isBarren hG (fun pr => ?_) (fun pr => ?_)
  · refine br_t rfl ?_
    refine zx_indexItems hG (fun B C hI => ?_)
    refine zx_makeStates ok hI (fun n S A hP => ?_) (fun m S A tm => ?_)
    · refine br_f (by decide) ?_
      obtain ⟨AU, hgo⟩ := zx_PI_AU ok hP
      refine zx_findVanishing hG (fun m V hm hV => ?_)
      refine zx_findFollow ok AU hG hgo hV hm (fun ec c1 p1 fo hd nx tg mk en cu cs pe hF => ?_)
      refine zx_findLookaheads ok AU hG hgo hF (fun L hL => ?_)
      refine zx_fillDecisions hG AU hgo hT7 hL (fun rw bs tb ck hTI => ?_)
      exact hp pr n _ _ _ _ _ B C S V A fo hd nx tg mk en cu cs pe L bs tb ck rw ⟨AU, hgo, hL, hTI, rfl⟩
    · exact br_t rfl (h5 pr tm _ B C S A)
  · exact br_f (by decide) (h7 pr)
end ZX
end
section
/-! Y: growSymbols -/
def zy_GR (g : Nat → Nat) (R : Nat) (b_part : Nat → Int32) : Prop := zg_ok g R ∧ ∀ i, i < 4 * R + 4 → b_part i = nI (g i)
def zy_so (g : Nat → Nat) (R : Nat) (Pr Nu Fi : Nat → Int32) : Prop :=
  (∀ x, x < 16 → (Pr x ≠ 0 → zg_PR g R x) ∧ (Nu x ≠ 0 → zg_NU g R x) ∧ ∀ t, zb (Fi x) t → zg_FI g R x t) ∧ (∀ x, x < 8 → Pr x ≠ 0) ∧ Nu 0 ≠ 0 ∧ (∀ x, 1 ≤ x → x < 8 → zb (Fi x) x)
def zy_le (Pr Nu Fi Pr' Nu' Fi' : Nat → Int32) : Prop := ∀ x, x < 16 → (Pr x ≠ 0 → Pr' x ≠ 0) ∧ (Nu x ≠ 0 → Nu' x ≠ 0) ∧ ∀ t, zb (Fi x) t → zb (Fi' x) t
def zy_ru (g : Nat → Nat) (r : Nat) (Pr Nu Fi Pr' Nu' Fi' : Nat → Int32) : Prop :=
  ((∀ k, k < 3 → Pr (g (4 * r + 1 + k)) ≠ 0) → Pr' (g (4 * r)) ≠ 0) ∧ ((∀ k, k < 3 → Nu (g (4 * r + 1 + k)) ≠ 0) → Nu' (g (4 * r)) ≠ 0) ∧
  ∀ k, k < 3 → (∀ k', k' < k → Nu (g (4 * r + 1 + k')) ≠ 0) → ∀ t, zb (Fi (g (4 * r + 1 + k))) t → zb (Fi' (g (4 * r))) t
def zy_Q (Pr Nu Fi : Nat → Int32) (i : Nat) : Prop := (i < 8 ∧ Pr (8 + i) ≠ 0) ∨ (8 ≤ i ∧ i < 16 ∧ Nu i ≠ 0) ∨ (16 ≤ i ∧ zb (Fi (8 + (i - 16) / 8)) ((i - 16) % 8))
def zy_SY (g : Nat → Nat) (R : Nat) (Pr Nu Fi : Nat → Int32) : Prop := ∀ x, x < 16 → (Pr x ≠ 0 ↔ zg_PR g R x) ∧ (Nu x ≠ 0 ↔ zg_NU g R x) ∧ ∀ t, zb (Fi x) t ↔ zg_FI g R x t
section ZY
variable {g : Nat → Nat} {R : Nat}
theorem zy_le_r {Pr Nu Fi : Nat → Int32} : zy_le Pr Nu Fi Pr Nu Fi := fun _ _ => ⟨id, id, fun _ => id⟩
theorem zy_le_t {P N F P' N' F' P2 N2 F2 : Nat → Int32} (h : zy_le P N F P' N' F') (h' : zy_le P' N' F' P2 N2 F2) : zy_le P N F P2 N2 F2 :=
  fun x hx => ⟨fun q => (h' x hx).1 ((h x hx).1 q), fun q => (h' x hx).2.1 ((h x hx).2.1 q), fun t q => (h' x hx).2.2 t ((h x hx).2.2 t q)⟩
theorem zy_Q_le {P N F P' N' F' : Nat → Int32} (h : zy_le P N F P' N' F') : ∀ i, i < 80 → zy_Q P N F i → zy_Q P' N' F' i := by
  rintro i hi (⟨a, b⟩ | ⟨a, b, c⟩ | ⟨a, b⟩)
  · exact Or.inl ⟨a, (h _ (by omega)).1 b⟩
  · exact Or.inr (Or.inl ⟨a, b, (h _ (by omega)).2.1 c⟩)
  · exact Or.inr (Or.inr ⟨a, (h _ (by omega)).2.2 _ b⟩)
theorem zy_full (ok : zg_ok g R) {P N F P' N' F' : Nat → Int32} (so : zy_so g R P N F) (so' : zy_so g R P' N' F') (hr : ∀ r, 1 ≤ r → r ≤ R → zy_ru g r P N F P' N' F')
    (hq : ∀ i, i < 80 → zy_Q P' N' F' i → zy_Q P N F i) : zy_SY g R P N F := by
  have g16 := ok.2.2.2.2.2.2.1
  have bp : ∀ x, 8 ≤ x → x < 16 → P' x ≠ 0 → P x ≠ 0 := fun x h8 h16 hp => by
    rcases hq (x - 8) (by omega) (Or.inl ⟨by omega, by rw [show 8 + (x - 8) = x by omega]; exact hp⟩) with ⟨_, b⟩ | ⟨a, _⟩ | ⟨a, _⟩
    · rw [show 8 + (x - 8) = x by omega] at b; exact b
    · omega
    · omega
  have bn : ∀ x, 8 ≤ x → x < 16 → N' x ≠ 0 → N x ≠ 0 := fun x h8 h16 hp => by
    rcases hq x (by omega) (Or.inr (Or.inl ⟨h8, h16, hp⟩)) with ⟨a, _⟩ | ⟨_, _, c⟩ | ⟨a, _⟩
    · omega
    · exact c
    · omega
  have bf : ∀ x t, 8 ≤ x → x < 16 → zb (F' x) t → zb (F x) t := fun x t h8 h16 hp => by
    have t8 := (zg_FI_t ok ((so'.1 x h16).2.2 t hp)).2.2
    have e1 : 8 + (16 + (x - 8) * 8 + t - 16) / 8 = x := by omega
    have e2 : (16 + (x - 8) * 8 + t - 16) % 8 = t := by omega
    rcases hq (16 + (x - 8) * 8 + t) (by omega) (Or.inr (Or.inr ⟨by omega, by rw [e1, e2]; exact hp⟩)) with ⟨a, _⟩ | ⟨_, a, _⟩ | ⟨_, b⟩
    · omega
    · omega
    · rw [e1, e2] at b; exact b
  have cP : zg_PC g R (fun x => x < 16 → P x ≠ 0) := by
    refine ⟨fun x hx _ => so.2.1 x hx, fun r r1 r2 a b c _ => ?_⟩
    refine bp _ (ok.2.2.2.2.2.1 r r1 r2) (g16 _) ((hr r r1 r2).1 (fun k hk => ?_))
    rcases (show k = 0 ∨ k = 1 ∨ k = 2 by omega) with z | z | z <;> subst z
    · exact a (g16 _)
    · exact b (g16 _)
    · exact c (g16 _)
  have cN : zg_NC g R (fun x => x < 16 → N x ≠ 0) := by
    refine ⟨fun _ => so.2.2.1, fun r r1 r2 a b c _ => ?_⟩
    refine bn _ (ok.2.2.2.2.2.1 r r1 r2) (g16 _) ((hr r r1 r2).2.1 (fun k hk => ?_))
    rcases (show k = 0 ∨ k = 1 ∨ k = 2 by omega) with z | z | z <;> subst z
    · exact a (g16 _)
    · exact b (g16 _)
    · exact c (g16 _)
  have nu : ∀ x, x < 16 → zg_NU g R x → N x ≠ 0 := fun x hx h => h _ cN hx
  have cF : zg_FC g R (fun x t => x < 16 → zb (F x) t) := by
    refine ⟨fun x h1 h2 _ => so.2.2.2 x h1 h2, fun r t r1 r2 a _ => ?_, fun r t r1 r2 n1 a _ => ?_, fun r t r1 r2 n1 n2 a _ => ?_⟩
    · exact bf _ t (ok.2.2.2.2.2.1 r r1 r2) (g16 _) ((hr r r1 r2).2.2 0 (by omega) (fun k hk => by omega) t (a (g16 _)))
    · exact bf _ t (ok.2.2.2.2.2.1 r r1 r2) (g16 _) ((hr r r1 r2).2.2 1 (by omega) (fun k hk => by rw [show k = 0 by omega]; exact nu _ (g16 _) n1) t (a (g16 _)))
    · refine bf _ t (ok.2.2.2.2.2.1 r r1 r2) (g16 _) ((hr r r1 r2).2.2 2 (by omega) (fun k hk => ?_) t (a (g16 _)))
      rcases (show k = 0 ∨ k = 1 by omega) with z | z <;> subst z
      · exact nu _ (g16 _) n1
      · exact nu _ (g16 _) n2
  intro x hx
  obtain ⟨s1, s2, s3⟩ := so.1 x hx
  exact ⟨⟨s1, fun h => h _ cP hx⟩, ⟨s2, nu x hx⟩, fun t => ⟨s3 t, fun h => h _ cF hx⟩⟩
theorem zy_SY_le {P N F P' N' F' : Nat → Int32} (h : zy_SY g R P N F) (so' : zy_so g R P' N' F') (le : zy_le P N F P' N' F') : zy_SY g R P' N' F' := fun x hx =>
  ⟨⟨(so'.1 x hx).1, fun q => (le x hx).1 ((h x hx).1.mpr q)⟩, ⟨(so'.1 x hx).2.1, fun q => (le x hx).2.1 ((h x hx).2.1.mpr q)⟩, fun t => ⟨(so'.1 x hx).2.2 t, fun q => (le x hx).2.2 t (((h x hx).2.2 t).mpr q)⟩⟩
variable {g_terms g_nons g_depth g_built g_clash g_changed g_rules g_states g_size g_logged g_oldSize g_oldLogged : Int32} {b_part b_levels b_sides b_productive b_nullable b_first b_holds b_la b_stack b_oldStack b_log : Nat → Int32}
theorem zy_gs217 (hG : zy_GR g R b_part) {post : SY → Prop} {J71 J79 : Int32 → (Nat → Int32) → (Nat → Int32) → (Nat → Int32) → (Nat → Int32) → (Nat → Int32) → (Nat → Int32) → (Nat → Int32) → (Nat → Int32) → (Nat → Int32) → (Nat → Int32) → (Nat → Int32) → Prop} {x1 x5 : Int32} {r : Nat} (r1 : 1 ≤ r) (hr : r ≤ R) {P0 N0 F0 : Nat → Int32} {Pr Nu Fi : Nat → Int32}
    (hx5 : x5 ≠ 0 ↔ ∀ k, k < 3 → Nu (g (4 * r + 1 + k)) ≠ 0) (so : zy_so g R Pr Nu Fi)
    (hJ : ∀ Nu' : Nat → Int32, zy_so g R Pr Nu' Fi → (∀ x, x < 16 → Nu x ≠ 0 → Nu' x ≠ 0) → ((∀ k, k < 3 → Nu (g (4 * r + 1 + k)) ≠ 0) → Nu' (g (4 * r)) ≠ 0) → J79 (nI (r + 1)) b_part b_levels b_sides Pr Nu' Fi b_holds b_la b_stack b_oldStack b_log) :
    wY_growSymbols_217 post J71 J79 x1 (nI r) (nI (g (4 * r))) x5 g_terms g_nons g_depth g_built g_clash g_changed g_rules g_states g_size g_logged g_oldSize g_oldLogged b_part b_levels b_sides Pr Nu Fi b_holds b_la b_stack b_oldStack b_log := by
  have ok := hG.1
  have g16 := ok.2.2.2.2.2.2.1
  refine br_c (fun c => ?_) (fun c => ?_)
  · intro y ey
    rw [ey, nI_1]
    exact hJ Nu so (fun _ _ q => q) (fun q => absurd c (hx5.mpr q))
  · have q := hx5.mp c
    have g4 := g16 (4 * r)
    refine ⟨vp_in_nI (by omega) (by omega), fun Nu' eN y ey => ?_⟩
    rw [za_c _ (by omega), show vp_nar .boolean 1 = 1 from rfl] at eN
    rw [ey, nI_1]
    have e1 : Nu' (g (4 * r)) ≠ 0 := by rw [eN, pk_us]; decide
    refine hJ Nu' ⟨fun x hx => ⟨(so.1 x hx).1, fun z => ?_, (so.1 x hx).2.2⟩, so.2.1, ?_, so.2.2.2⟩ (fun x hx z => ?_) (fun _ => e1)
    · by_cases e : x = g (4 * r)
      · rw [e]
        have nn : ∀ k, k < 3 → zg_NU g R (g (4 * r + 1 + k)) := fun k hk => (so.1 _ (g16 _)).2.1 (q k hk)
        exact (zg_NU_c (g := g) (R := R)).2 r r1 hr (nn 0 (by omega)) (nn 1 (by omega)) (nn 2 (by omega))
      · rw [eN, pk_un e] at z; exact (so.1 x hx).2.1 z
    · by_cases e : 0 = g (4 * r)
      · rw [e]; exact e1
      · rw [eN, pk_un e]; exact so.2.2.1
    · by_cases e : x = g (4 * r)
      · rw [e]; exact e1
      · rw [eN, pk_un e]; exact z
theorem zy_gs109 (hG : zy_GR g R b_part) {post : SY → Prop} {J71 J79 : Int32 → (Nat → Int32) → (Nat → Int32) → (Nat → Int32) → (Nat → Int32) → (Nat → Int32) → (Nat → Int32) → (Nat → Int32) → (Nat → Int32) → (Nat → Int32) → (Nat → Int32) → (Nat → Int32) → Prop} {x1 : Int32} {r : Nat} (r1 : 1 ≤ r) (hr : r ≤ R) {Pr Nu Fi0 : Nat → Int32} (so0 : zy_so g R Pr Nu Fi0)
    (hJ : ∀ Pr' Nu' Fi' : Nat → Int32, zy_so g R Pr' Nu' Fi' → zy_le Pr Nu Fi0 Pr' Nu' Fi' → zy_ru g r Pr Nu Fi0 Pr' Nu' Fi' → J79 (nI (r + 1)) b_part b_levels b_sides Pr' Nu' Fi' b_holds b_la b_stack b_oldStack b_log) :
    ∀ f j x4 x5 (Fi : Nat → Int32), j ≤ 3 → 3 - j < f → (x4 ≠ 0 ↔ ∀ k, k < j → Pr (g (4 * r + 1 + k)) ≠ 0) → (x5 ≠ 0 ↔ ∀ k, k < j → Nu (g (4 * r + 1 + k)) ≠ 0) →
      (∀ x t, x < 16 → zb (Fi0 x) t → zb (Fi x) t) → (∀ x t, x < 16 → zb (Fi x) t → zg_FI g R x t) → (∀ k, k < j → (∀ k', k' < k → Nu (g (4 * r + 1 + k')) ≠ 0) → ∀ t, zb (Fi0 (g (4 * r + 1 + k))) t → zb (Fi (g (4 * r))) t) →
      wY_growSymbols_109 post J71 J79 x1 (nI r) (nI (g (4 * r))) g_terms g_nons g_depth g_built g_clash g_changed g_rules g_states g_size g_logged g_oldSize g_oldLogged f x4 x5 (nI (4 * r + 1 + j)) b_part b_levels b_sides Pr Nu Fi b_holds b_la b_stack b_oldStack b_log := by
  have ok := hG.1
  have r12 := ok.1
  have g16 := ok.2.2.2.2.2.2.1
  intro f
  induction f with
  | zero => intro j x4 x5 Fi _ h; omega
  | succ f ih =>
    intro j x4 x5 Fi hj hf h4 h5 hm hs hk
    have g4 := g16 (4 * r)
    refine pk_le (4 * r + 4) (4 * r + 1 + j) (fun h => ?_) (fun h => ?_) (za_m4 r 4)
    · have e : j = 3 := by omega
      subst e
      have so : zy_so g R Pr Nu Fi := ⟨fun x hx => ⟨(so0.1 x hx).1, (so0.1 x hx).2.1, fun t => hs x t hx⟩, so0.2.1, so0.2.2.1, fun x a b => hm x x (by omega) (so0.2.2.2 x a b)⟩
      refine br_c (fun c => ?_) (fun c => ?_)
      · refine zy_gs217 hG r1 hr (P0 := Pr) (N0 := Nu) (F0 := Fi0) h5 so (fun Nu' so' le' ru' => hJ Pr Nu' Fi so' (fun x hx => ⟨id, le' x hx, fun t => hm x t hx⟩) ⟨fun q => absurd c (h4.mpr q), ru', hk⟩)
      · have q := h4.mp c
        refine ⟨vp_in_nI (by omega) (by omega), fun Pr' eP => ?_⟩
        rw [za_c _ (by omega), show vp_nar .boolean 1 = 1 from rfl] at eP
        have e1 : Pr' (g (4 * r)) ≠ 0 := by rw [eP, pk_us]; decide
        have so2 : zy_so g R Pr' Nu Fi := by
          refine ⟨fun x hx => ⟨fun z => ?_, (so.1 x hx).2.1, (so.1 x hx).2.2⟩, fun x hx => ?_, so.2.2.1, so.2.2.2⟩
          · by_cases e : x = g (4 * r)
            · rw [e]
              have nn : ∀ k, k < 3 → zg_PR g R (g (4 * r + 1 + k)) := fun k hk => (so.1 _ (g16 _)).1 (q k hk)
              exact (zg_PR_c (g := g) (R := R)).2 r r1 hr (nn 0 (by omega)) (nn 1 (by omega)) (nn 2 (by omega))
            · rw [eP, pk_un e] at z; exact (so.1 x hx).1 z
          · by_cases e : x = g (4 * r)
            · rw [e]; exact e1
            · rw [eP, pk_un e]; exact so.2.1 x hx
        refine zy_gs217 hG r1 hr (P0 := Pr) (N0 := Nu) (F0 := Fi0) h5 so2 (fun Nu' so' le' ru' => hJ Pr' Nu' Fi so' (fun x hx => ⟨fun z => ?_, le' x hx, fun t => hm x t hx⟩) ⟨fun _ => e1, ru', hk⟩)
        by_cases e : x = g (4 * r)
        · rw [e]; exact e1
        · rw [eP, pk_un e]; exact z
    · have gi := g16 (4 * r + 1 + j)
      have ep : b_part (nI (4 * r + 1 + j)).toNatClampNeg = nI (g (4 * r + 1 + j)) := by rw [za_c _ (by omega)]; exact hG.2 _ (by omega)
      have e5 : ∀ y : Int32, (y ≠ 0 ↔ (∀ k, k < j → Nu (g (4 * r + 1 + k)) ≠ 0) ∧ Nu (g (4 * r + 1 + j)) ≠ 0) → (y ≠ 0 ↔ ∀ k, k < j + 1 → Nu (g (4 * r + 1 + k)) ≠ 0) := fun y hy => hy.trans
        ⟨fun a k hk => by
          by_cases e : k = j
          · rw [e]; exact a.2
          · exact a.1 k (by omega), fun a => ⟨fun k hk => a k (by omega), a j (by omega)⟩⟩
      have j172 : ∀ (z0 : Int32) (Fi' : Nat → Int32), (z0 ≠ 0 ↔ ∀ k, k < j + 1 → Pr (g (4 * r + 1 + k)) ≠ 0) → (∀ x t, x < 16 → zb (Fi0 x) t → zb (Fi' x) t) → (∀ x t, x < 16 → zb (Fi' x) t → zg_FI g R x t) →
          (∀ k, k < j + 1 → (∀ k', k' < k → Nu (g (4 * r + 1 + k')) ≠ 0) → ∀ t, zb (Fi0 (g (4 * r + 1 + k))) t → zb (Fi' (g (4 * r))) t) →
          wY_growSymbols_172 post J71 J79 (wY_growSymbols_109 post J71 J79 x1 (nI r) (nI (g (4 * r))) g_terms g_nons g_depth g_built g_clash g_changed g_rules g_states g_size g_logged g_oldSize g_oldLogged f) x1 (nI r) (nI (g (4 * r))) z0 x5 (nI (4 * r + 1 + j)) g_terms g_nons g_depth g_built g_clash g_changed g_rules g_states g_size g_logged g_oldSize g_oldLogged b_part b_levels b_sides Pr Nu Fi' b_holds b_la b_stack b_oldStack b_log := by
        intro z0 Fi' q1 q2 q3 q4
        refine br_c (fun c => ?_) (fun c => ?_)
        · intro y ey
          rw [ey, nI_1]
          refine ih (j + 1) z0 0 Fi' (by omega) (by omega) q1 (e5 0 ⟨fun z => absurd rfl z, fun z => absurd c (h5.mpr z.1)⟩) q2 q3 q4
        · refine ⟨vp_in_nI (by omega) (by omega), ?_⟩
          rw [ep]
          refine ⟨vp_in_nI (by omega) (by omega), ?_⟩
          rw [za_c (g (4 * r + 1 + j)) (by omega)]
          refine br_c (fun c' => ?_) (fun c' => ?_)
          · intro y ey
            rw [ey, nI_1]
            exact ih (j + 1) z0 0 Fi' (by omega) (by omega) q1 (e5 0 ⟨fun z => absurd rfl z, fun z => absurd c' z.2⟩) q2 q3 q4
          · intro y ey
            rw [ey, nI_1]
            exact ih (j + 1) z0 1 Fi' (by omega) (by omega) q1 (e5 1 ⟨fun _ => ⟨h5.mp c, c'⟩, fun _ => by decide⟩) q2 q3 q4
      have j144 : ∀ z0 : Int32, (z0 ≠ 0 ↔ ∀ k, k < j + 1 → Pr (g (4 * r + 1 + k)) ≠ 0) →
          wY_growSymbols_144 post J71 J79 (wY_growSymbols_109 post J71 J79 x1 (nI r) (nI (g (4 * r))) g_terms g_nons g_depth g_built g_clash g_changed g_rules g_states g_size g_logged g_oldSize g_oldLogged f) x1 (nI r) (nI (g (4 * r))) x5 (nI (4 * r + 1 + j)) z0 g_terms g_nons g_depth g_built g_clash g_changed g_rules g_states g_size g_logged g_oldSize g_oldLogged b_part b_levels b_sides Pr Nu Fi b_holds b_la b_stack b_oldStack b_log := by
        intro z0 q1
        refine br_c (fun c => ?_) (fun c => ?_)
        · refine j172 z0 Fi q1 hm hs (fun k hk' a t b => ?_)
          by_cases e : k = j
          · subst e; exact absurd c (h5.mpr a)
          · exact hk k (by omega) a t b
        · have na := h5.mp c
          refine ⟨vp_in_nI (by omega) (by omega), vp_in_nI (by omega) (by omega), ?_⟩
          rw [ep]
          refine ⟨vp_in_nI (by omega) (by omega), vp_in_nI (by omega) (by omega), fun Fi' eF => ?_⟩
          rw [za_c (g (4 * r)) (by omega), za_c (g (4 * r + 1 + j)) (by omega)] at eF
          have fb : ∀ x t, zb (Fi' x) t ↔ zb (Fi x) t ∨ (x = g (4 * r) ∧ zb (Fi (g (4 * r + 1 + j))) t) := fun x t => by
            by_cases e : x = g (4 * r)
            · rw [e, eF, pk_us, zb_or]
              exact ⟨fun z => z.elim Or.inl (fun z => Or.inr ⟨rfl, z⟩), fun z => z.elim Or.inl (fun z => Or.inr z.2)⟩
            · rw [eF, pk_un e]
              exact ⟨Or.inl, fun z => z.elim id (fun z => absurd z.1 e)⟩
          refine j172 z0 Fi' q1 (fun x t hx z => (fb x t).mpr (Or.inl (hm x t hx z))) (fun x t hx z => ?_) (fun k hk' a t b => ?_)
          · rcases (fb x t).mp z with z | ⟨z1, z2⟩
            · exact hs x t hx z
            · rw [z1]
              have fi := hs _ t (g16 _) z2
              have nn : ∀ k, k < j → zg_NU g R (g (4 * r + 1 + k)) := fun k hk => (so0.1 _ (g16 _)).2.1 (na k hk)
              have cc := zg_FI_c (g := g) (R := R)
              rcases (show j = 0 ∨ j = 1 ∨ j = 2 by omega) with e | e | e <;> subst e
              · exact cc.2.1 r t r1 hr fi
              · exact cc.2.2.1 r t r1 hr (nn 0 (by omega)) fi
              · exact cc.2.2.2 r t r1 hr (nn 0 (by omega)) (nn 1 (by omega)) fi
          · by_cases e : k = j
            · subst e; exact (fb _ t).mpr (Or.inr ⟨rfl, hm _ t (g16 _) b⟩)
            · exact (fb _ t).mpr (Or.inl (hk k (by omega) a t b))
      have e4 : ∀ y : Int32, (y ≠ 0 ↔ (∀ k, k < j → Pr (g (4 * r + 1 + k)) ≠ 0) ∧ Pr (g (4 * r + 1 + j)) ≠ 0) → (y ≠ 0 ↔ ∀ k, k < j + 1 → Pr (g (4 * r + 1 + k)) ≠ 0) := fun y hy => hy.trans
        ⟨fun a k hk => by
          by_cases e : k = j
          · rw [e]; exact a.2
          · exact a.1 k (by omega), fun a => ⟨fun k hk => a k (by omega), a j (by omega)⟩⟩
      refine br_c (fun c => ?_) (fun c => ?_)
      · unfold wY_growSymbols_143
        exact j144 0 (e4 0 ⟨fun z => absurd rfl z, fun z => absurd c (h4.mpr z.1)⟩)
      · refine ⟨vp_in_nI (by omega) (by omega), ?_⟩
        rw [ep]
        refine ⟨vp_in_nI (by omega) (by omega), ?_⟩
        rw [za_c (g (4 * r + 1 + j)) (by omega)]
        refine br_c (fun c' => ?_) (fun c' => ?_)
        · unfold wY_growSymbols_143
          exact j144 0 (e4 0 ⟨fun z => absurd rfl z, fun z => absurd c' z.2⟩)
        · exact j144 1 (e4 1 ⟨fun _ => ⟨h4.mp c, c'⟩, fun _ => by decide⟩)
theorem zy_gs79 (hG : zy_GR g R b_part) {post : SY → Prop} {J71 : Int32 → (Nat → Int32) → (Nat → Int32) → (Nat → Int32) → (Nat → Int32) → (Nat → Int32) → (Nat → Int32) → (Nat → Int32) → (Nat → Int32) → (Nat → Int32) → (Nat → Int32) → (Nat → Int32) → Prop} {x1 : Int32} {P0 N0 F0 : Nat → Int32}
    (hJ : ∀ Pr Nu Fi : Nat → Int32, zy_so g R Pr Nu Fi → zy_le P0 N0 F0 Pr Nu Fi → (∀ r, 1 ≤ r → r ≤ R → zy_ru g r P0 N0 F0 Pr Nu Fi) → J71 (x1 + 1) b_part b_levels b_sides Pr Nu Fi b_holds b_la b_stack b_oldStack b_log) :
    ∀ f i (Pr Nu Fi : Nat → Int32), 1 ≤ i → i ≤ R + 1 → R + 1 - i < f → zy_so g R Pr Nu Fi → zy_le P0 N0 F0 Pr Nu Fi → (∀ r, 1 ≤ r → r < i → zy_ru g r P0 N0 F0 Pr Nu Fi) →
      wY_growSymbols_79 post J71 x1 g_terms g_nons g_depth g_built g_clash g_changed (nI R) g_states g_size g_logged g_oldSize g_oldLogged f (nI i) b_part b_levels b_sides Pr Nu Fi b_holds b_la b_stack b_oldStack b_log := by
  have ok := hG.1
  have r12 := ok.1
  have g16 := ok.2.2.2.2.2.2.1
  intro f
  induction f with
  | zero => intro i Pr Nu Fi _ _ h; omega
  | succ f ih =>
    intro i Pr Nu Fi i1 hi hf so le ru
    refine pk_lt R i (fun h => ?_) (fun h => ?_)
    · intro y ey
      rw [ey]
      exact hJ Pr Nu Fi so le (fun r a b => ru r a (by omega))
    · rw [za_x4]
      refine ⟨vp_in_nI (by omega) (by omega), fun y ey z ez => ⟨4, ?_⟩⟩
      rw [za_c _ (by omega), hG.2 _ (by omega)] at ey
      rw [ey, ez, nI_1]
      refine zy_gs109 hG i1 h so (fun Pr' Nu' Fi' so' le' ru' => ?_) 4 0 1 1 Fi (by omega) (by omega) ⟨fun _ k hk => by omega, fun _ => by decide⟩ ⟨fun _ k hk => by omega, fun _ => by decide⟩ (fun x t _ q => q) (fun x t hx => (so.1 x hx).2.2 t) (fun k hk => by omega)
      refine ih (i + 1) Pr' Nu' Fi' (by omega) (by omega) (by omega) so' (zy_le_t le le') (fun r a b => ?_)
      have g4 := g16 (4 * r)
      by_cases e : r = i
      · subst e
        exact ⟨fun q => ru'.1 (fun k hk => (le _ (g16 _)).1 (q k hk)), fun q => ru'.2.1 (fun k hk => (le _ (g16 _)).2.1 (q k hk)), fun k hk q t w => ru'.2.2 k hk (fun k' hk' => (le _ (g16 _)).2.1 (q k' hk')) t ((le _ (g16 _)).2.2 t w)⟩
      · have old := ru r a (by omega)
        exact ⟨fun q => (le' _ (g16 _)).1 (old.1 q), fun q => (le' _ (g16 _)).2.1 (old.2.1 q), fun k hk q t w => (le' _ (g16 _)).2.2 t (old.2.2 k hk q t w)⟩
theorem zy_gs71 (hG : zy_GR g R b_part) {post : SY → Prop} (hp : ∀ Pr Nu Fi : Nat → Int32, zy_SY g R Pr Nu Fi → post (g_terms, g_nons, g_depth, g_built, g_clash, g_changed, nI R, g_states, g_size, g_logged, g_oldSize, g_oldLogged, b_part, b_levels, b_sides, Pr, Nu, Fi, b_holds, b_la, b_stack, b_oldStack, b_log)) :
    ∀ f i (Pr Nu Fi : Nat → Int32), i ≤ 81 → 81 - i < f → zy_so g R Pr Nu Fi → (zy_SY g R Pr Nu Fi ∨ i ≤ zm_c (zy_Q Pr Nu Fi) 80) →
      wY_growSymbols_71 post g_terms g_nons g_depth g_built g_clash g_changed (nI R) g_states g_size g_logged g_oldSize g_oldLogged f (nI i) b_part b_levels b_sides Pr Nu Fi b_holds b_la b_stack b_oldStack b_log := by
  intro f
  induction f with
  | zero => intro i Pr Nu Fi _ h; omega
  | succ f ih =>
    intro i Pr Nu Fi hi hf so hc
    refine pk_lt 80 i (fun h => ?_) (fun h => ?_)
    · rcases hc with hc | hc
      · exact hp Pr Nu Fi hc
      · have := zm_c_le (zy_Q Pr Nu Fi) 80; omega
    · refine ⟨R + 1, zy_gs79 hG (P0 := Pr) (N0 := Nu) (F0 := Fi) (fun Pr' Nu' Fi' so' le' ru' => ?_) (R + 1) 1 Pr Nu Fi (by omega) (by omega) (by omega) so zy_le_r (fun r a b => by omega)⟩
      rw [nI_1]
      refine ih (i + 1) Pr' Nu' Fi' (by omega) (by omega) so' ?_
      rcases hc with hc | hc
      · exact Or.inl (zy_SY_le hc so' le')
      · rcases zm_c_grow (zy_Q_le le') with q | q
        · exact Or.inl (zy_SY_le (zy_full hG.1 so so' ru' q) so' le')
        · exact Or.inr (by omega)
theorem zy_gs2 (hG : zy_GR g R b_part) {post : SY → Prop} (hp : ∀ Pr Nu Fi : Nat → Int32, zy_SY g R Pr Nu Fi → post (g_terms, g_nons, g_depth, g_built, g_clash, g_changed, nI R, g_states, g_size, g_logged, g_oldSize, g_oldLogged, b_part, b_levels, b_sides, Pr, Nu, Fi, b_holds, b_la, b_stack, b_oldStack, b_log)) :
    ∀ f i (Pr Nu Fi : Nat → Int32), i ≤ 16 → 16 - i < f → (∀ x, x < i → Pr x = (if x < 8 then 1 else 0) ∧ Nu x = (if x = 0 then 1 else 0) ∧ Fi x = (if 0 < x ∧ x < 8 then (1 : Int32) <<< (nI x &&& 31) else 0)) →
      wY_growSymbols_2 post g_terms g_nons g_depth g_built g_clash g_changed (nI R) g_states g_size g_logged g_oldSize g_oldLogged f (nI i) b_part b_levels b_sides Pr Nu Fi b_holds b_la b_stack b_oldStack b_log := by
  intro f
  induction f with
  | zero => intro i Pr Nu Fi _ h; omega
  | succ f ih =>
    intro i Pr Nu Fi hi hf hI
    refine pk_le 16 i (fun h => ?_) (fun h => ?_)
    · refine ⟨82, zy_gs71 hG hp 82 0 Pr Nu Fi (by omega) (by omega) ⟨fun x hx => ⟨fun z => ?_, fun z => ?_, fun t z => ?_⟩, fun x hx => ?_, ?_, fun x a b => ?_⟩ (Or.inr (Nat.zero_le _))⟩
      · rw [(hI x (by omega)).1] at z
        by_cases e : x < 8
        · exact (zg_PR_c (g := g) (R := R)).1 x e
        · rw [if_neg e] at z; exact absurd rfl z
      · rw [(hI x (by omega)).2.1] at z
        by_cases e : x = 0
        · rw [e]; exact (zg_NU_c (g := g) (R := R)).1
        · rw [if_neg e] at z; exact absurd rfl z
      · rw [(hI x (by omega)).2.2] at z
        by_cases e : 0 < x ∧ x < 8
        · rw [if_pos e, zb_sh (by omega)] at z
          rw [z]; exact (zg_FI_c (g := g) (R := R)).1 x e.1 e.2
        · rw [if_neg e] at z; exact absurd z zb_0
      · rw [(hI x (by omega)).1, if_pos hx]; decide
      · rw [(hI 0 (by omega)).2.1, if_pos rfl]; decide
      · rw [(hI x (by omega)).2.2, if_pos ⟨by omega, b⟩, zb_sh (by omega)]
    · have j39 : ∀ (Pr' : Nat → Int32) (z0 : Int32), z0 = (if i = 0 then 1 else 0) → (∀ x, x < i → Pr' x = Pr x) → Pr' i = (if i < 8 then 1 else 0) →
          wY_growSymbols_39 post (wY_growSymbols_2 post g_terms g_nons g_depth g_built g_clash g_changed (nI R) g_states g_size g_logged g_oldSize g_oldLogged f) (nI i) z0 (nI i) g_terms g_nons g_depth g_built g_clash g_changed (nI R) g_states g_size g_logged g_oldSize g_oldLogged b_part b_levels b_sides Pr' Nu Fi b_holds b_la b_stack b_oldStack b_log := by
        intro Pr' z0 ez p1 p2
        refine ⟨vp_in_nI (by omega) (by omega), fun Nu' eN => ?_⟩
        have nz : vp_nar .boolean z0 = z0 := by
          rw [ez]; split <;> rfl
        rw [za_c i (by omega), nz] at eN
        have fin : ∀ Fi' : Nat → Int32, Fi' = upd Fi i (if 0 < i ∧ i < 8 then (1 : Int32) <<< (nI i &&& 31) else 0) → wY_growSymbols_2 post g_terms g_nons g_depth g_built g_clash g_changed (nI R) g_states g_size g_logged g_oldSize g_oldLogged f (nI (i + 1)) b_part b_levels b_sides Pr' Nu' Fi' b_holds b_la b_stack b_oldStack b_log := by
          intro Fi' eF
          refine ih (i + 1) Pr' Nu' Fi' (by omega) (by omega) (fun x hx => ?_)
          by_cases e : x = i
          · rw [e, p2, eN, eF, pk_us, pk_us]; exact ⟨rfl, ez, rfl⟩
          · rw [p1 x (by omega), eN, eF, pk_un e, pk_un e]; exact hI x (by omega)
        refine pk_le i 0 (fun c => ⟨vp_in_nI (by omega) (by omega), fun Fi' eF y ey => ?_⟩) (fun c => pk_le 8 i (fun c' => ⟨vp_in_nI (by omega) (by omega), fun Fi' eF y ey => ?_⟩) (fun c' => ⟨vp_in_nI (by omega) (by omega), fun Fi' eF y ey => ?_⟩))
        · rw [ey, nI_1]
          exact fin Fi' (by rw [eF, za_c i (by omega), if_neg (by omega)])
        · rw [ey, nI_1]
          exact fin Fi' (by rw [eF, za_c i (by omega), if_neg (by omega)])
        · rw [ey, nI_1]
          exact fin Fi' (by rw [eF, za_c i (by omega), if_pos ⟨c, c'⟩])
      have j24 : ∀ z0 : Int32, z0 = (if i < 8 then 1 else 0) → wY_growSymbols_24 post (wY_growSymbols_2 post g_terms g_nons g_depth g_built g_clash g_changed (nI R) g_states g_size g_logged g_oldSize g_oldLogged f) (nI i) z0 (nI i) g_terms g_nons g_depth g_built g_clash g_changed (nI R) g_states g_size g_logged g_oldSize g_oldLogged b_part b_levels b_sides Pr Nu Fi b_holds b_la b_stack b_oldStack b_log := by
        intro z0 ez
        refine ⟨vp_in_nI (by omega) (by omega), fun Pr' eP => ?_⟩
        have nz : vp_nar .boolean z0 = z0 := by
          rw [ez]; split <;> rfl
        rw [za_c i (by omega), nz] at eP
        have p1 : ∀ x, x < i → Pr' x = Pr x := fun x hx => by rw [eP, pk_un (by omega)]
        have p2 : Pr' i = (if i < 8 then 1 else 0) := by rw [eP, pk_us, ez]
        refine pk_eq i 0 (fun c => j39 Pr' 1 (by rw [if_pos c]) p1 p2) (fun c => j39 Pr' 0 (by rw [if_neg c]) p1 p2)
      refine pk_le 8 i (fun c => j24 0 (by rw [if_neg (by omega)])) (fun c => j24 1 (by rw [if_pos c]))
theorem zy_growSymbols (hG : zy_GR g R b_part) {post : SY → Prop} (hp : ∀ Pr Nu Fi : Nat → Int32, zy_SY g R Pr Nu Fi → post (g_terms, g_nons, g_depth, g_built, g_clash, g_changed, nI R, g_states, g_size, g_logged, g_oldSize, g_oldLogged, b_part, b_levels, b_sides, Pr, Nu, Fi, b_holds, b_la, b_stack, b_oldStack, b_log)) : wpY_growSymbols post (g_terms, g_nons, g_depth, g_built, g_clash, g_changed, nI R, g_states, g_size, g_logged, g_oldSize, g_oldLogged, b_part, b_levels, b_sides, b_productive, b_nullable, b_first, b_holds, b_la, b_stack, b_oldStack, b_log) :=
  ⟨17, zy_gs2 hG hp 17 0 b_productive b_nullable b_first (by omega) (by omega) (fun x h => by omega)⟩
end ZY
end
section
/-! Y: after, go -/
def zy_sg (H : Nat → Int32) (q e : Nat) : Prop := e < 52 ∧ H (q * 52 + e) ≠ 0
noncomputable def zy_af (g : Nat → Nat) (H : Nat → Int32) (q e : Nat) : Nat := zc_if (zy_sg H q e) (zg_af g e) 0
theorem za_rem4 {e : Nat} (h : e < 2 ^ 31) : nI e - nI e / 4 * 4 = nI (e % 4) := pk_rem (d := 4) h (by decide) (by decide)
def zy_MT (g : Nat → Nat) (H : Nat → Int32) (q x p k : Nat) : Prop := ∀ e, e < k → e % 4 ≠ 3 → (zy_sg H p (e + 1) ↔ zy_sg H q e ∧ zg_af g e = x)
section ZY
variable {g : Nat → Nat} {R : Nat} {g_terms g_nons g_depth g_built g_clash g_changed g_rules g_states g_size g_logged g_oldSize g_oldLogged : Int32} {b_part b_levels b_sides b_productive b_nullable b_first b_holds b_la b_stack b_oldStack b_log : Nat → Int32}
theorem zy_after (hG : zy_GR g R b_part) {q e : Nat} (hq : q < 24) (he : e < 52) (hI : zy_sg b_holds q e → e < 4 * R + 4) {post : Int32 → Prop} (hp : post (nI (zy_af g b_holds q e))) : wpY_after post (g_terms, g_nons, g_depth, g_built, g_clash, g_changed, g_rules, g_states, g_size, g_logged, g_oldSize, g_oldLogged, b_part, b_levels, b_sides, b_productive, b_nullable, b_first, b_holds, b_la, b_stack, b_oldStack, b_log) (nI q) (nI e) := by
  unfold zy_af at hp
  unfold wpY_after
  dsimp only
  rw [za_m52]
  refine ⟨vp_in_nI (by omega) (by omega), ?_⟩
  rw [za_c _ (by omega), za_rem4 (by omega)]
  refine br_c (fun c => ?_) (fun c => ⟨by decide, pk_le 3 (e % 4) (fun c' => ?_) (fun c' => ?_)⟩)
  · rw [zc_f (fun z => z.2 c)] at hp; exact hp
  · rw [zc_t ⟨he, c⟩, zg_af_3 (by omega)] at hp; exact hp
  · have := hI ⟨he, c⟩
    rw [zc_t ⟨he, c⟩, zg_af_m c'] at hp
    rw [nI_1]
    refine ⟨vp_in_nI (by omega) (by omega), ?_⟩
    rw [za_c _ (by omega), hG.2 _ (by omega)]
    exact hp
theorem zy_go20 (hG : zy_GR g R b_part) {q x p m : Nat} (hq : q < 24) (hp24 : p < 24) (hx : x ≠ 0) (hx16 : x < 16) (hI : ∀ e, zy_sg b_holds q e → e < 4 * R + 4) (h01 : ∀ k, k < 52 → b_holds (p * 52 + k) = 0 ∨ b_holds (p * 52 + k) = 1)
    {post : Int32 → Prop} {J2 : Int32 → Prop} (h1 : zy_MT g b_holds q x p 52 → post (nI p)) (h0 : ¬ zy_MT g b_holds q x p 52 → J2 (nI (p + 1))) :
    ∀ f e z, e ≤ 52 → 53 - e < f → (z ≠ 0 ↔ zy_MT g b_holds q x p e) → wY_go_20 post J2 (nI q) (nI x) (nI p) g_terms g_nons g_depth g_built g_clash g_changed g_rules (nI m) g_size g_logged g_oldSize g_oldLogged b_part b_levels b_sides b_productive b_nullable b_first b_holds b_la b_stack b_oldStack b_log f z (nI e) := by
  have r12 := hG.1.1
  have stop : ∀ z, (z ≠ 0 ↔ zy_MT g b_holds q x p 52) → wY_go_86 post J2 (nI q) (nI x) (nI p) z g_terms g_nons g_depth g_built g_clash g_changed g_rules (nI m) g_size g_logged g_oldSize g_oldLogged b_part b_levels b_sides b_productive b_nullable b_first b_holds b_la b_stack b_oldStack b_log := by
    intro z hz
    refine br_c (fun c y ey => ?_) (fun c => h1 (hz.mp c))
    rw [ey, nI_1]
    exact h0 (fun q => hz.mpr q c)
  have mono : ∀ e, e ≤ 52 → zy_MT g b_holds q x p 52 → zy_MT g b_holds q x p e := fun e he h e' h' => h e' (by omega)
  intro f
  induction f with
  | zero => intro e z _ h; omega
  | succ f ih =>
    intro e z he hf hz
    refine br_c (fun c => stop z ⟨fun q => absurd c q, fun q => hz.mpr (mono e he q)⟩) (fun c => ?_)
    refine pk_le 52 e (fun h => ?_) (fun h => ?_)
    · have e52 : e = 52 := by omega
      subst e52
      exact stop z hz
    · have mt := hz.mp c
      rw [za_rem4 (by omega)]
      refine ⟨by decide, pk_eq (e % 4) 3 (fun h3 => ?_) (fun h3 => ?_)⟩
      · intro y ey
        rw [ey, nI_1]
        refine ih (e + 1) 1 (by omega) (by omega) ⟨fun _ e' he' hm => ?_, fun _ => by decide⟩
        by_cases q : e' = e
        · subst q; exact absurd h3 hm
        · exact mt e' (by omega) hm
      · rw [za_m52, nI_1]
        refine ⟨vp_in_nI (by omega) (by omega), ?_⟩
        refine zy_after hG hq h (fun z => hI e z) ?_
        rw [za_c _ (by omega)]
        have step : ∀ w : Int32, w = 0 ∨ w = 1 → (w ≠ 0 ↔ zy_sg b_holds q e ∧ zg_af g e = x) → wY_go_70 post J2 (wY_go_20 post J2 (nI q) (nI x) (nI p) g_terms g_nons g_depth g_built g_clash g_changed g_rules (nI m) g_size g_logged g_oldSize g_oldLogged b_part b_levels b_sides b_productive b_nullable b_first b_holds b_la b_stack b_oldStack b_log f) (nI q) (nI x) (nI p) (nI e) w (b_holds (p * 52 + e + 1)) g_terms g_nons g_depth g_built g_clash g_changed g_rules (nI m) g_size g_logged g_oldSize g_oldLogged b_part b_levels b_sides b_productive b_nullable b_first b_holds b_la b_stack b_oldStack b_log := by
          intro w hw01 hw
          have hv : zy_sg b_holds p (e + 1) ↔ b_holds (p * 52 + e + 1) ≠ 0 := ⟨fun z => z.2, fun z => ⟨by omega, z⟩⟩
          have h01' := h01 (e + 1) (by omega)
          rw [show p * 52 + (e + 1) = p * 52 + e + 1 by omega] at h01'
          refine br_c (fun c1 y ey => ?_) (fun c1 y ey => ?_)
          · rw [ey, nI_1]
            refine ih (e + 1) 1 (by omega) (by omega) ⟨fun _ e' he' hm => ?_, fun _ => by decide⟩
            by_cases q : e' = e
            · subst q; rw [hv, c1]; exact hw
            · exact mt e' (by omega) hm
          · rw [ey, nI_1]
            refine ih (e + 1) 0 (by omega) (by omega) ⟨fun z => absurd rfl z, fun z => ?_⟩
            exfalso
            have q := (hv.symm.trans (z e (by omega) h3)).trans hw.symm
            rcases hw01 with a | a <;> rcases h01' with b | b <;> rw [a, b] at q c1 <;> first | exact c1 rfl | exact (q.mp (by decide)) rfl | exact (q.mpr (by decide)) rfl
        have afv : zy_af g b_holds q e < 16 := by
          unfold zy_af
          rcases Classical.em (zy_sg b_holds q e) with z | z
          · rw [zc_t z]; exact zg_af_16 hG.1 e
          · rw [zc_f z]; omega
        have afx : zy_af g b_holds q e = x ↔ zy_sg b_holds q e ∧ zg_af g e = x := by
          unfold zy_af
          rcases Classical.em (zy_sg b_holds q e) with z | z
          · rw [zc_t z]; exact ⟨fun a => ⟨z, a⟩, fun a => a.2⟩
          · rw [zc_f z]; exact ⟨fun a => absurd a.symm hx, fun a => absurd a.1 z⟩
        refine pk_eq (zy_af g b_holds q e) x (fun c1 => step 1 (Or.inr rfl) ⟨fun _ => afx.mp c1, fun _ => by decide⟩) (fun c1 => step 0 (Or.inl rfl) ⟨fun z => absurd rfl z, fun z => absurd (afx.mpr z) c1⟩)
theorem zy_MT_i (ok : zg_ok g R) {H : Nat → Int32} {q x p : Nat} (hx : x ≠ 0) (hI : ∀ e, zy_sg H q e → e < 4 * R + 4) (hp : ∃ S0 x0, x0 ≠ 0 ∧ zy_sg H p = zg_GT g R S0 x0) : zy_MT g H q x p 52 ↔ zy_sg H p = zg_GT g R (zy_sg H q) x := by
  have r12 := ok.1
  obtain ⟨S0, x0, h0, hp⟩ := hp
  constructor
  · intro h
    rw [hp]
    refine zg_mv_ext h0 hx (fun e hm => ?_)
    rw [← hp]
    obtain ⟨e', rfl⟩ : ∃ e', e = e' + 1 := ⟨e - 1, by omega⟩
    rcases Nat.lt_or_ge (e' + 1) 52 with c | c
    · rw [h e' (by omega) (by omega)]
      exact ⟨fun z => ⟨e', z.1, z.2, rfl⟩, fun ⟨f, a, b, c⟩ => by
        have : f = e' := by omega
        subst this; exact ⟨a, b⟩⟩
    · constructor
      · intro z; have := z.1; omega
      · rintro ⟨f, a, b, c'⟩
        have := hI f a
        rw [zg_af_3 (by omega)] at b
        exact absurd b.symm hx
  · intro h e he hm
    rw [h]
    constructor
    · intro z
      obtain ⟨f, a, b, c⟩ := zg_GT_k z (by omega)
      have : f = e := by omega
      subst this; exact ⟨a, b⟩
    · rintro ⟨a, b⟩; exact zg_Cl_base ⟨e, a, b, rfl⟩
theorem zy_go2 (hG : zy_GR g R b_part) {q x m : Nat} (hq : q < 24) (hm : m ≤ 24) (hx16 : x < 16) (hI : ∀ e, zy_sg b_holds q e → e < 4 * R + 4) (h01 : ∀ p k, p < m → k < 52 → b_holds (p * 52 + k) = 0 ∨ b_holds (p * 52 + k) = 1)
    (hGT : ∀ p, 1 ≤ p → p < m → ∃ S0 x0, x0 ≠ 0 ∧ zy_sg b_holds p = zg_GT g R S0 x0) {post : Int32 → Prop}
    (h1 : ∀ p, 1 ≤ p → p < m → x ≠ 0 → zy_sg b_holds p = zg_GT g R (zy_sg b_holds q) x → post (nI p)) (h0 : (x = 0 ∨ ∀ p, 1 ≤ p → p < m → zy_sg b_holds p ≠ zg_GT g R (zy_sg b_holds q) x) → post (-1)) :
    ∀ f p, 1 ≤ p → m - p < f → (∀ p', 1 ≤ p' → p' < p → p' < m → x ≠ 0 → zy_sg b_holds p' ≠ zg_GT g R (zy_sg b_holds q) x) → p ≤ m ∨ p = 1 → wY_go_2 post (nI q) (nI x) g_terms g_nons g_depth g_built g_clash g_changed g_rules (nI m) g_size g_logged g_oldSize g_oldLogged b_part b_levels b_sides b_productive b_nullable b_first b_holds b_la b_stack b_oldStack b_log f (nI p) := by
  intro f
  induction f with
  | zero => intro p _ h; omega
  | succ f ih =>
    intro p p1 hf hn hpm
    refine pk_le x 0 (fun c => h0 (Or.inl (by omega))) (fun c => ?_)
    refine pk_le m p (fun h => h0 (Or.inr (fun p' a b => hn p' a (by omega) b (by omega)))) (fun h => ?_)
    have mt := zy_MT_i (q := q) hG.1 (show x ≠ 0 by omega) hI (hGT p p1 h)
    refine ⟨54, zy_go20 hG hq (by omega) (by omega) hx16 hI (fun k hk => h01 p k h hk) (fun z => h1 p p1 h (by omega) (mt.mp z)) (fun z => ih (p + 1) (by omega) (by omega) (fun p' a b b' c' => ?_) (by omega)) 54 0 1 (by omega) (by omega) ⟨fun _ e he => by omega, fun _ => by decide⟩⟩
    by_cases e : p' = p
    · subst e; exact fun w => z (mt.mpr w)
    · exact hn p' a (by omega) b' c'
theorem zy_go (hG : zy_GR g R b_part) {q x m : Nat} (hq : q < 24) (hm : m ≤ 24) (hx16 : x < 16) (hI : ∀ e, zy_sg b_holds q e → e < 4 * R + 4) (h01 : ∀ p k, p < m → k < 52 → b_holds (p * 52 + k) = 0 ∨ b_holds (p * 52 + k) = 1)
    (hGT : ∀ p, 1 ≤ p → p < m → ∃ S0 x0, x0 ≠ 0 ∧ zy_sg b_holds p = zg_GT g R S0 x0) {post : Int32 → Prop}
    (h1 : ∀ p, 1 ≤ p → p < m → x ≠ 0 → zy_sg b_holds p = zg_GT g R (zy_sg b_holds q) x → post (nI p)) (h0 : (x = 0 ∨ ∀ p, 1 ≤ p → p < m → zy_sg b_holds p ≠ zg_GT g R (zy_sg b_holds q) x) → post (-1)) :
    wpY_go post (g_terms, g_nons, g_depth, g_built, g_clash, g_changed, g_rules, nI m, g_size, g_logged, g_oldSize, g_oldLogged, b_part, b_levels, b_sides, b_productive, b_nullable, b_first, b_holds, b_la, b_stack, b_oldStack, b_log) (nI q) (nI x) :=
  ⟨m + 1, zy_go2 hG hq hm hx16 hI h01 hGT h1 h0 (m + 1) 1 (by omega) (by omega) (fun p' a b => by omega) (Or.inr rfl)⟩
end ZY
end
section
/-! Y: addState -/
def zy_KI (m : Nat) (H0 : Nat → Int32) (K : Nat → Prop) (k : Nat) (H : Nat → Int32) : Prop := (∀ i, i < m * 52 → H i = H0 i) ∧ ∀ k', k' < k → (H (m * 52 + k') = 0 ∨ H (m * 52 + k') = 1) ∧ (H (m * 52 + k') ≠ 0 ↔ K k')
def zy_CI (g : Nat → Nat) (R m : Nat) (H0 : Nat → Int32) (K S0 : Nat → Prop) (e s : Nat) (H : Nat → Int32) : Prop :=
  (∀ i, i < m * 52 → H i = H0 i) ∧ (∀ k, k < 52 → H (m * 52 + k) = 0 ∨ H (m * 52 + k) = 1) ∧ (∀ e, zy_sg H m e → zg_Cl g R K e) ∧ (∀ e, S0 e → zy_sg H m e) ∧
  (∀ e' s', e' < e ∨ (e' = e ∧ s' < s) → 1 ≤ s' → s' ≤ R → S0 e' → zg_af g e' = g (4 * s') → zy_sg H m (4 * s'))
def zy_NW (g : Nat → Nat) (R m : Nat) (H0 : Nat → Int32) (K : Nat → Prop) (H : Nat → Int32) : Prop :=
  (∀ i, i < m * 52 → H i = H0 i) ∧ (∀ k, k < 52 → H (m * 52 + k) = 0 ∨ H (m * 52 + k) = 1) ∧ zy_sg H m = zg_Cl g R K
section ZY
variable {g : Nat → Nat} {R : Nat} {g_terms g_nons g_depth g_built g_clash g_changed g_rules g_states g_size g_logged g_oldSize g_oldLogged : Int32} {b_part b_levels b_sides b_productive b_nullable b_first b_holds b_la b_stack b_oldStack b_log : Nat → Int32}
theorem zy_as98 (hG : zy_GR g R b_part) {m e : Nat} (hm : m < 24) (he : e < 52) {H0 : Nat → Int32} {K S0 : Nat → Prop} (hK : ∀ e, zg_Cl g R K e → e < 4 * R + 4) {post : SY → Prop} {J78 J88 : Int32 → (Nat → Int32) → (Nat → Int32) → (Nat → Int32) → (Nat → Int32) → (Nat → Int32) → (Nat → Int32) → (Nat → Int32) → (Nat → Int32) → (Nat → Int32) → (Nat → Int32) → (Nat → Int32) → Prop} {x4 : Int32}
    (hJ : ∀ H : Nat → Int32, zy_CI g R m H0 K S0 (e + 1) 0 H → J88 (nI (e + 1)) b_part b_levels b_sides b_productive b_nullable b_first H b_la b_stack b_oldStack b_log) :
    ∀ f s (H : Nat → Int32), 1 ≤ s → s ≤ R + 1 → R + 1 - s < f → zy_CI g R m H0 K S0 e s H → wY_addState_98 post J78 J88 (nI m) x4 (nI e) g_terms g_nons g_depth g_built g_clash g_changed (nI R) g_states g_size g_logged g_oldSize g_oldLogged f (nI s) b_part b_levels b_sides b_productive b_nullable b_first H b_la b_stack b_oldStack b_log := by
  have ok := hG.1
  have r12 := ok.1
  intro f
  induction f with
  | zero => intro s H _ _ h; omega
  | succ f ih =>
    intro s H s1 hs hf hC
    obtain ⟨c1, c2, c3, c4, c5⟩ := hC
    refine pk_lt R s (fun h => ?_) (fun h => ?_)
    · intro y ey
      rw [ey, nI_1]
      exact hJ H ⟨c1, c2, c3, c4, fun e' s' a b c d f => c5 e' s' (by omega) b c d f⟩
    · have g8 := ok.2.2.2.2.2.1 s s1 h
      have g16 := ok.2.2.2.2.2.2.1 (4 * s)
      refine zy_after hG hm he (fun z => hK e (c3 e z)) ?_
      rw [za_x4]
      refine ⟨vp_in_nI (by omega) (by omega), ?_⟩
      rw [za_c _ (by omega), hG.2 _ (by omega)]
      have afv : zy_af g H m e < 16 := by
        unfold zy_af
        rcases Classical.em (zy_sg H m e) with z | z
        · rw [zc_t z]; exact zg_af_16 ok e
        · rw [zc_f z]; omega
      have afx : zy_af g H m e = g (4 * s) ↔ zy_sg H m e ∧ zg_af g e = g (4 * s) := by
        unfold zy_af
        rcases Classical.em (zy_sg H m e) with z | z
        · rw [zc_t z]; exact ⟨fun a => ⟨z, a⟩, fun a => a.2⟩
        · rw [zc_f z]; exact ⟨fun a => by omega, fun a => absurd a.1 z⟩
      refine pk_eq (zy_af g H m e) (g (4 * s)) (fun c => ?_) (fun c => ?_)
      · obtain ⟨a1, a2⟩ := afx.mp c
        rw [za_m52]
        refine ⟨vp_in_nI (by omega) (by omega), fun H' eH y ey => ?_⟩
        rw [za_c _ (by omega), show vp_nar .boolean 1 = 1 from rfl] at eH
        rw [ey, nI_1]
        have up : ∀ e', zy_sg H m e' → zy_sg H' m e' := fun e' z => ⟨z.1, by
          by_cases q : m * 52 + e' = m * 52 + 4 * s
          · rw [q, eH, pk_us]; decide
          · rw [eH, pk_un q]; exact z.2⟩
        have at' : zy_sg H' m (4 * s) := ⟨by omega, by rw [eH, pk_us]; decide⟩
        refine ih (s + 1) H' (by omega) (by omega) (by omega) ⟨fun i hi => ?_, fun k hk => ?_, fun e' z => ?_, fun e' z => up e' (c4 e' z), fun e' s' a b c d f => ?_⟩
        · rw [eH, pk_un (by omega)]; exact c1 i hi
        · by_cases q : k = 4 * s
          · rw [q, eH, pk_us]; exact Or.inr rfl
          · rw [eH, pk_un (by omega)]; exact c2 k hk
        · by_cases q : e' = 4 * s
          · rw [q]; exact zg_Cl_step (c3 e a1) s1 h a2
          · exact c3 e' ⟨z.1, by have := z.2; rw [eH, pk_un (by omega)] at this; exact this⟩
        · by_cases q : s' = s
          · rw [q]; exact at'
          · exact up _ (c5 e' s' (by omega) b c d f)
      · intro y ey
        rw [ey, nI_1]
        refine ih (s + 1) H (by omega) (by omega) (by omega) ⟨c1, c2, c3, c4, fun e' s' a b cc d f => ?_⟩
        by_cases q : e' = e ∧ s' = s
        · obtain ⟨rfl, rfl⟩ := q
          exact absurd (afx.mpr ⟨c4 _ d, f⟩) c
        · exact c5 e' s' (by omega) b cc d f
theorem zy_as88 (hG : zy_GR g R b_part) {m : Nat} (hm : m < 24) {H0 : Nat → Int32} {K S0 : Nat → Prop} (hK : ∀ e, zg_Cl g R K e → e < 4 * R + 4) {post : SY → Prop} {J78 : Int32 → (Nat → Int32) → (Nat → Int32) → (Nat → Int32) → (Nat → Int32) → (Nat → Int32) → (Nat → Int32) → (Nat → Int32) → (Nat → Int32) → (Nat → Int32) → (Nat → Int32) → (Nat → Int32) → Prop} {x4 : Int32}
    (hJ : ∀ H : Nat → Int32, zy_CI g R m H0 K S0 52 0 H → J78 (x4 + 1) b_part b_levels b_sides b_productive b_nullable b_first H b_la b_stack b_oldStack b_log) :
    ∀ f e (H : Nat → Int32), e ≤ 52 → 52 - e < f → zy_CI g R m H0 K S0 e 0 H → wY_addState_88 post J78 (nI m) x4 g_terms g_nons g_depth g_built g_clash g_changed (nI R) g_states g_size g_logged g_oldSize g_oldLogged f (nI e) b_part b_levels b_sides b_productive b_nullable b_first H b_la b_stack b_oldStack b_log := by
  intro f
  induction f with
  | zero => intro e H _ h; omega
  | succ f ih =>
    intro e H he hf hC
    refine pk_le 52 e (fun h => ?_) (fun h => ?_)
    · have q : e = 52 := by omega
      subst q
      intro y ey
      rw [ey]
      exact hJ H hC
    · refine ⟨R + 1, zy_as98 hG hm h hK (fun H' h' => ih (e + 1) H' (by omega) (by omega) h') (R + 1) 1 H (by omega) (by omega) (by omega) ?_⟩
      obtain ⟨c1, c2, c3, c4, c5⟩ := hC
      exact ⟨c1, c2, c3, c4, fun e' s' a b => c5 e' s' (by omega) b⟩
theorem zy_as78 (hG : zy_GR g R b_part) {m : Nat} (hm : m < 24) {H0 : Nat → Int32} {K : Nat → Prop} (hK : ∀ e, zg_Cl g R K e → e < 4 * R + 4) {post : SY → Prop}
    (hp : ∀ H : Nat → Int32, zy_NW g R m H0 K H → post (g_terms, g_nons, g_depth, g_built, g_clash, g_changed, nI R, nI (m + 1), g_size, g_logged, g_oldSize, g_oldLogged, b_part, b_levels, b_sides, b_productive, b_nullable, b_first, H, b_la, b_stack, b_oldStack, b_log)) :
    ∀ f i (H : Nat → Int32), i ≤ 13 → 13 - i < f → (∀ k, k < m * 52 → H k = H0 k) → (∀ k, k < 52 → H (m * 52 + k) = 0 ∨ H (m * 52 + k) = 1) → (∀ e, zy_sg H m e → zg_Cl g R K e) → (∀ e, K e → zy_sg H m e) →
      ((∀ e, zg_Cl g R K e → zy_sg H m e) ∨ i ≤ zm_c (fun k => zy_sg H m (4 * (k + 1))) 12) → wY_addState_78 post (nI m) g_terms g_nons g_depth g_built g_clash g_changed (nI R) (nI m) g_size g_logged g_oldSize g_oldLogged f (nI i) b_part b_levels b_sides b_productive b_nullable b_first H b_la b_stack b_oldStack b_log := by
  have r12 := hG.1.1
  intro f
  induction f with
  | zero => intro i H _ h; omega
  | succ f ih =>
    intro i H hi hf c1 c2 c3 c4 c5
    refine pk_le 13 i (fun h => ?_) (fun h => ?_)
    · intro y ey
      rw [ey, nI_1]
      refine hp H ⟨c1, c2, ?_⟩
      rcases c5 with c5 | c5
      · funext e
        exact propext ⟨c3 e, c5 e⟩
      · have := zm_c_le (fun k => zy_sg H m (4 * (k + 1))) 12
        omega
    · refine ⟨53, zy_as88 hG hm (S0 := zy_sg H m) hK (fun H' hC => ?_) 53 0 H (by omega) (by omega) ⟨c1, c2, c3, fun e z => z, fun e' s' a => by omega⟩⟩
      obtain ⟨d1, d2, d3, d4, d5⟩ := hC
      rw [nI_1]
      refine ih (i + 1) H' (by omega) (by omega) d1 d2 d3 (fun e z => d4 e (c4 e z)) ?_
      rcases c5 with c5 | c5
      · exact Or.inl fun e z => d4 e (c5 e z)
      · rcases zm_c_grow (P := fun k => zy_sg H m (4 * (k + 1))) (Q := fun k => zy_sg H' m (4 * (k + 1))) (N := 12) (fun k _ => d4 _) with q | q
        · refine Or.inl fun e z => d4 e (zg_Cl_ind (P := fun e => zy_sg H m e) c4 (fun e s _ ih' s1 s2 s3 => ?_) z)
          have := q (s - 1) (by omega)
          rw [show 4 * (s - 1 + 1) = 4 * s by omega] at this
          exact this (d5 e s (Or.inl ih'.1) s1 s2 ih' s3)
        · exact Or.inr (by omega)
theorem zy_as78s (hG : zy_GR g R b_part) {m : Nat} (hm : m < 24) {H0 : Nat → Int32} {K : Nat → Prop} (hK : ∀ e, zg_Cl g R K e → e < 4 * R + 4) {post : SY → Prop}
    (hp : ∀ H : Nat → Int32, zy_NW g R m H0 K H → post (g_terms, g_nons, g_depth, g_built, g_clash, g_changed, nI R, nI (m + 1), g_size, g_logged, g_oldSize, g_oldLogged, b_part, b_levels, b_sides, b_productive, b_nullable, b_first, H, b_la, b_stack, b_oldStack, b_log)) (H : Nat → Int32) (hC : zy_KI m H0 K 52 H) :
    ∃ n, wY_addState_78 post (nI m) g_terms g_nons g_depth g_built g_clash g_changed (nI R) (nI m) g_size g_logged g_oldSize g_oldLogged n 0 b_part b_levels b_sides b_productive b_nullable b_first H b_la b_stack b_oldStack b_log := by
  have r12 := hG.1.1
  refine ⟨14, zy_as78 hG hm hK hp 14 0 H (by omega) (by omega) hC.1 (fun k hk => (hC.2 k hk).1) (fun e z => zg_Cl_base ((hC.2 e z.1).2.mp z.2)) (fun e z => ?_) (Or.inr (Nat.zero_le _))⟩
  have := hK e (zg_Cl_base z)
  exact ⟨by omega, (hC.2 e (by omega)).2.mpr z⟩
theorem zy_KI_w {m k : Nat} {H0 H H' : Nat → Int32} {K : Nat → Prop} {v : Int32} (h : zy_KI m H0 K k H) (hv : v = 0 ∨ v = 1) (hk : v ≠ 0 ↔ K k) (e : H' = upd H (m * 52 + k) v) : zy_KI m H0 K (k + 1) H' := by
  refine ⟨fun i hi => ?_, fun k' hk' => ?_⟩
  · rw [e, pk_un (by omega)]; exact h.1 i hi
  · by_cases q : k' = k
    · rw [q, e, pk_us]; exact ⟨hv, hk⟩
    · rw [e, pk_un (by omega)]; exact h.2 k' (by omega)
theorem zy_as8a (hG : zy_GR g R b_part) {m : Nat} (hm : m < 24) {H0 : Nat → Int32} {x2 : Int32} {post : SY → Prop}
    (hN : ∀ H : Nat → Int32, zy_KI m H0 (fun e => e = 0) 52 H → ∃ n, wY_addState_78 post (nI m) g_terms g_nons g_depth g_built g_clash g_changed (nI R) (nI m) g_size g_logged g_oldSize g_oldLogged n 0 b_part b_levels b_sides b_productive b_nullable b_first H b_la b_stack b_oldStack b_log) :
    ∀ f k (H : Nat → Int32), k ≤ 52 → 52 - k < f → zy_KI m H0 (fun e => e = 0) k H → wY_addState_8 post (-1) x2 (nI m) g_terms g_nons g_depth g_built g_clash g_changed (nI R) (nI m) g_size g_logged g_oldSize g_oldLogged f (nI k) b_part b_levels b_sides b_productive b_nullable b_first H b_la b_stack b_oldStack b_log := by
  intro f
  induction f with
  | zero => intro e H _ h; omega
  | succ f ih =>
    intro k H hk hf hC
    refine pk_le 52 k (fun h => ?_) (fun h => ?_)
    · have q : k = 52 := by omega
      subst q
      exact hN H hC
    · refine br_f (by decide) ?_
      rw [za_m52]
      refine pk_eq k 0 (fun c => ⟨vp_in_nI (by omega) (by omega), fun H' eH y ey => ?_⟩) (fun c => ⟨vp_in_nI (by omega) (by omega), fun H' eH y ey => ?_⟩)
      · rw [za_c _ (by omega), show vp_nar .boolean 1 = 1 from rfl] at eH
        rw [ey, nI_1]
        exact ih (k + 1) H' (by omega) (by omega) (zy_KI_w hC (Or.inr rfl) ⟨fun _ => c, fun _ => by decide⟩ eH)
      · rw [za_c _ (by omega), show vp_nar .boolean 0 = 0 from rfl] at eH
        rw [ey, nI_1]
        exact ih (k + 1) H' (by omega) (by omega) (zy_KI_w hC (Or.inl rfl) ⟨fun z => absurd rfl z, fun z => absurd z c⟩ eH)
theorem zy_as8b (hG : zy_GR g R b_part) {m q x : Nat} (hm : m < 24) (hq : q < m) (hx : x ≠ 0) (hx16 : x < 16) {H0 : Nat → Int32} (hI : ∀ e, zy_sg H0 q e → e < 4 * R + 4) {post : SY → Prop}
    (hN : ∀ H : Nat → Int32, zy_KI m H0 (zg_mv g (zy_sg H0 q) x) 52 H → ∃ n, wY_addState_78 post (nI m) g_terms g_nons g_depth g_built g_clash g_changed (nI R) (nI m) g_size g_logged g_oldSize g_oldLogged n 0 b_part b_levels b_sides b_productive b_nullable b_first H b_la b_stack b_oldStack b_log) :
    ∀ f k (H : Nat → Int32), k ≤ 52 → 52 - k < f → zy_KI m H0 (zg_mv g (zy_sg H0 q) x) k H → wY_addState_8 post (nI q) (nI x) (nI m) g_terms g_nons g_depth g_built g_clash g_changed (nI R) (nI m) g_size g_logged g_oldSize g_oldLogged f (nI k) b_part b_levels b_sides b_productive b_nullable b_first H b_la b_stack b_oldStack b_log := by
  have ok := hG.1
  intro f
  induction f with
  | zero => intro e H _ h; omega
  | succ f ih =>
    intro k H hk hf hC
    refine pk_le 52 k (fun h => ?_) (fun h => ?_)
    · have q' : k = 52 := by omega
      subst q'
      exact hN H hC
    · refine br_t (nI_pos' (by omega)) ⟨by decide, ?_⟩
      rw [za_rem4 (by omega), za_m52]
      refine pk_le (k % 4) 0 (fun c => ⟨vp_in_nI (by omega) (by omega), fun H' eH y ey => ?_⟩) (fun c => ?_)
      · rw [za_c _ (by omega), show vp_nar .boolean 0 = 0 from rfl] at eH
        rw [ey, nI_1]
        exact ih (k + 1) H' (by omega) (by omega) (zy_KI_w hC (Or.inl rfl) ⟨fun z => absurd rfl z, fun z => absurd (by omega) (zg_mv_m hx z)⟩ eH)
      · obtain ⟨j, rfl⟩ : ∃ j, k = j + 1 := ⟨k - 1, by omega⟩
        rw [nI_pred]
        have sq : ∀ e, zy_sg H q e ↔ zy_sg H0 q e := fun e => by
          unfold zy_sg
          constructor
          · rintro ⟨a, b⟩; rw [hC.1 _ (by omega)] at b; exact ⟨a, b⟩
          · rintro ⟨a, b⟩; rw [← hC.1 _ (by omega)] at b; exact ⟨a, b⟩
        refine zy_after hG (by omega) (by omega) (fun z => hI j ((sq j).mp z)) ?_
        have afv : zy_af g H q j < 16 := by
          unfold zy_af
          rcases Classical.em (zy_sg H q j) with z | z
          · rw [zc_t z]; exact zg_af_16 ok j
          · rw [zc_f z]; omega
        have afx : zy_af g H q j = x ↔ zg_mv g (zy_sg H0 q) x (j + 1) := by
          unfold zy_af
          rcases Classical.em (zy_sg H q j) with z | z
          · rw [zc_t z]
            exact ⟨fun a => ⟨j, (sq j).mp z, a, rfl⟩, fun ⟨f, a, b, c⟩ => by
              have : f = j := by omega
              subst this; exact b⟩
          · rw [zc_f z]
            exact ⟨fun a => absurd a.symm hx, fun ⟨f, a, b, c⟩ => by
              have : f = j := by omega
              subst this; exact absurd ((sq f).mpr a) z⟩
        refine pk_eq (zy_af g H q j) x (fun c' => ⟨vp_in_nI (by omega) (by omega), fun H' eH y ey => ?_⟩) (fun c' => ⟨vp_in_nI (by omega) (by omega), fun H' eH y ey => ?_⟩)
        · rw [za_c _ (by omega), show vp_nar .boolean 1 = 1 from rfl] at eH
          rw [ey, nI_1]
          exact ih (j + 1 + 1) H' (by omega) (by omega) (zy_KI_w hC (Or.inr rfl) ⟨fun _ => afx.mp c', fun _ => by decide⟩ eH)
        · rw [za_c _ (by omega), show vp_nar .boolean 0 = 0 from rfl] at eH
          rw [ey, nI_1]
          exact ih (j + 1 + 1) H' (by omega) (by omega) (zy_KI_w hC (Or.inl rfl) ⟨fun z => absurd rfl z, fun z => absurd (afx.mpr z) c'⟩ eH)
theorem zy_addState0 (hG : zy_GR g R b_part) {x2 : Int32} {post : SY → Prop}
    (hp : ∀ H : Nat → Int32, zy_NW g R 0 b_holds (fun e => e = 0) H → post (g_terms, g_nons, g_depth, g_built, g_clash, g_changed, nI R, nI 1, g_size, g_logged, g_oldSize, g_oldLogged, b_part, b_levels, b_sides, b_productive, b_nullable, b_first, H, b_la, b_stack, b_oldStack, b_log)) : wpY_addState post (g_terms, g_nons, g_depth, g_built, g_clash, g_changed, nI R, nI 0, g_size, g_logged, g_oldSize, g_oldLogged, b_part, b_levels, b_sides, b_productive, b_nullable, b_first, b_holds, b_la, b_stack, b_oldStack, b_log) (-1) x2 :=
  ⟨53, zy_as8a hG (by omega) (zy_as78s hG (by omega) (fun e z => by
    refine zg_Cl_ind (P := fun e => e < 4 * R + 4) (fun e k => by omega) (fun e s _ _ h1 h2 _ => by omega) z) hp) 53 0 b_holds (by omega) (by omega) ⟨fun i _ => rfl, fun k' h => by omega⟩⟩
theorem zy_addState (hG : zy_GR g R b_part) {m q x : Nat} (hm : m < 24) (hq : q < m) (hx : x ≠ 0) (hx16 : x < 16) (hI : ∀ e, zy_sg b_holds q e → e < 4 * R + 4) {post : SY → Prop}
    (hp : ∀ H : Nat → Int32, zy_NW g R m b_holds (zg_mv g (zy_sg b_holds q) x) H → post (g_terms, g_nons, g_depth, g_built, g_clash, g_changed, nI R, nI (m + 1), g_size, g_logged, g_oldSize, g_oldLogged, b_part, b_levels, b_sides, b_productive, b_nullable, b_first, H, b_la, b_stack, b_oldStack, b_log)) : wpY_addState post (g_terms, g_nons, g_depth, g_built, g_clash, g_changed, nI R, nI m, g_size, g_logged, g_oldSize, g_oldLogged, b_part, b_levels, b_sides, b_productive, b_nullable, b_first, b_holds, b_la, b_stack, b_oldStack, b_log) (nI q) (nI x) :=
  ⟨53, zy_as8b hG hm hq hx hx16 hI (zy_as78s hG hm (fun e z => by
    refine zg_Cl_ind (P := fun e => e < 4 * R + 4) ?_ (fun e s _ _ h1 h2 _ => by omega) z
    rintro e ⟨f, _, b, c⟩
    have := zg_af_lt hG.1 (e := f) (by omega)
    omega) hp) 53 0 b_holds (by omega) (by omega) ⟨fun i _ => rfl, fun k' h => by omega⟩⟩
end ZY
end
section
/-! Y: go over a finished numbering; add; growLookaheads -/
def zy_01 (m : Nat) (H : Nat → Int32) : Prop := ∀ p k, p < m → k < 52 → H (p * 52 + k) = 0 ∨ H (p * 52 + k) = 1
noncomputable def zy_cn (la : Nat → Int32) : Nat := zm_c (fun i => zb (la (i / 8)) (i % 8)) 9984
def zy_LI (g : Nat → Nat) (R m : Nat) (σ : Nat → Nat → Prop) (la0 : Nat → Int32) (ch : Int32) (la : Nat → Int32) : Prop :=
  (∀ c t, c < 1248 → zb (la0 c) t → zb (la c) t) ∧ (∀ q e t, q < m → e < 52 → zb (la (q * 52 + e)) t → zl_LA g R (σ q) e t) ∧ ((ch = 0 ∧ ∀ c, c < 1248 → la c = la0 c) ∨ (ch = 1 ∧ zy_cn la0 < zy_cn la))
def zy_R1 (g : Nat → Nat) (σ : Nat → Nat → Prop) (G : Nat → Nat → Nat) (la0 la : Nat → Int32) (q e : Nat) : Prop :=
  σ q e → zg_af g e ≠ 0 → la0 (q * 52 + e) ≠ 0 → ∀ t, zb (la0 (q * 52 + e)) t → zb (la (G q (zg_af g e) * 52 + (e + 1))) t
def zy_R2 (g : Nat → Nat) (R : Nat) (σ : Nat → Nat → Prop) (la0 la : Nat → Int32) (q e : Nat) : Prop :=
  σ q e → zg_af g e ≠ 0 → la0 (q * 52 + e) ≠ 0 → ∀ s t, 1 ≤ s → s ≤ R → zg_af g e = g (4 * s) → (zg_FS g R (e + 1) t ∨ (zg_NS g R (e + 1) ∧ zb (la0 (q * 52 + e)) t)) → zb (la (q * 52 + 4 * s)) t
section ZY
variable {g : Nat → Nat} {R m : Nat} {G : Nat → Nat → Nat}
theorem zb_nz {x : Int32} : x ≠ 0 ↔ ∃ t, zb x t := by
  constructor
  · intro h
    rcases Classical.em (∃ t, zb x t) with q | q
    · exact q
    · exact absurd (zb_z.mpr fun i _ z => q ⟨i, z⟩) h
  · rintro ⟨t, h⟩ e
    rw [e] at h; exact zb_0 h
theorem zy_cl_LA (ok : zg_ok g R) {σ : Nat → Nat → Prop} (A : zl_AU g R m σ G) (pr : ∀ i, zg_PR g R (g i)) {la : Nat → Int32} (h0 : zb (la 0) 0)
    (r1 : ∀ q e, q < m → e < 52 → zy_R1 g σ G la la q e) (r2 : ∀ q e, q < m → e < 52 → zy_R2 g R σ la la q e) : ∀ q e t, q < m → zl_LA g R (σ q) e t → zb (la (q * 52 + e)) t := by
  have r12 := ok.1
  have b52 : ∀ q e, q < m → σ q e → e < 52 := fun q e hq he => by have := (zg_RC_it ok (A.2.2.2.2.2 q hq) e he).1; omega
  have ne : ∀ S, zg_RC g R S → ∀ q, q < m → σ q = S → ∀ e, S e → ∃ t, zb (la (q * 52 + e)) t := by
    intro S hS
    have clo : ∀ q, q < m → ∀ e s, σ q e → 1 ≤ s → s ≤ R → zg_af g e = g (4 * s) → (∃ t, zb (la (q * 52 + e)) t) → ∃ t, zb (la (q * 52 + 4 * s)) t := by
      intro q hq e s he s1 s2 ha ⟨t, ht⟩
      have g8 := ok.2.2.2.2.2.1 s s1 s2
      have e3 := (zg_af_pos (g := g) (e := e) (by omega)).1
      have rr := r2 q e hq (b52 q e hq he) he (by omega) (zb_nz.mpr ⟨t, ht⟩)
      rcases zg_liveS ok pr (3 - (e + 1) % 4) (e + 1) (by omega) with a | ⟨t', a⟩
      · exact ⟨t, rr s t s1 s2 ha (Or.inr ⟨a, ht⟩)⟩
      · exact ⟨t', rr s t' s1 s2 ha (Or.inl a)⟩
    refine zg_RC_ind (P := fun S => ∀ q, q < m → σ q = S → ∀ e, S e → ∃ t, zb (la (q * 52 + e)) t) ?_ ?_ hS
    · intro q hq eq e he
      have q0 : q = 0 := A.2.2.2.2.1 q 0 hq A.1 (eq.trans A.2.2.1.symm)
      subst q0
      refine zg_Cl_ind (P := fun e => ∃ t, zb (la (0 * 52 + e)) t) (fun e k => ⟨0, by rw [k]; exact h0⟩) (fun e s hc ih s1 s2 s3 => clo 0 hq e s (by rw [eq]; exact hc) s1 s2 s3 ih) he
    · intro S x hS ih hd q hq eq e he
      obtain ⟨q', hq', eq'⟩ := zl_sur A hS
      subst eq'
      have st := A.2.2.2.1 q' x hq' hd
      have eG : G q' x = q := A.2.2.2.2.1 _ _ st.1 hq (st.2.trans eq.symm)
      refine zg_Cl_ind (P := fun e => ∃ t, zb (la (q * 52 + e)) t) ?_ (fun e s hc ih s1 s2 s3 => clo q hq e s (by rw [eq]; exact hc) s1 s2 s3 ih) he
      rintro e ⟨f, a, b, c⟩
      obtain ⟨t, ht⟩ := ih q' hq' rfl f a
      have := r1 q' f hq' (b52 q' f hq' a) a (by rw [b]; exact hd.1) (zb_nz.mpr ⟨t, ht⟩) t ht
      rw [b, eG, ← c] at this
      exact ⟨t, this⟩
  intro q e t hq hL
  refine hL (fun S e t => ∀ q, q < m → σ q = S → zb (la (q * 52 + e)) t) ⟨?_, ?_, ?_⟩ q hq rfl
  · intro q hq eq
    have q0 : q = 0 := A.2.2.2.2.1 q 0 hq A.1 (eq.trans A.2.2.1.symm)
    subst q0
    exact h0
  · intro S e t hS he ha ih q hq eq
    obtain ⟨q', hq', eq'⟩ := zl_sur A hS
    subst eq'
    have ht := ih q' hq' rfl
    have st := A.2.2.2.1 q' _ hq' ⟨ha, e, he, rfl⟩
    have eG : G q' (zg_af g e) = q := A.2.2.2.2.1 _ _ st.1 hq (st.2.trans eq.symm)
    have := r1 q' e hq' (b52 q' e hq' he) he ha (zb_nz.mpr ⟨t, ht⟩) t ht
    rw [eG] at this
    exact this
  · intro S e t s hS he s1 s2 ha hF q hq eq
    subst eq
    have g8 := ok.2.2.2.2.2.1 s s1 s2
    refine r2 q e hq (b52 q e hq he) he (by omega) (zb_nz.mpr (ne _ hS q hq rfl e he)) s t s1 s2 ha ?_
    rcases hF with z | ⟨z, y⟩
    · exact Or.inl z
    · exact Or.inr ⟨z, y q hq rfl⟩
variable {g_terms g_nons g_depth g_built g_clash g_changed g_rules g_states g_size g_logged g_oldSize g_oldLogged : Int32} {b_part b_levels b_sides b_productive b_nullable b_first b_holds b_la b_stack b_oldStack b_log : Nat → Int32}
theorem zy_goA (hG : zy_GR g R b_part) (A : zl_AU g R m (zy_sg b_holds) G) (h01 : zy_01 m b_holds) {q x : Nat} (hq : q < m) (hx16 : x < 16) {post : Int32 → Prop}
    (h1 : zg_Df g (zy_sg b_holds q) x → post (nI (G q x))) (h0 : ¬ zg_Df g (zy_sg b_holds q) x → post (-1)) : wpY_go post (g_terms, g_nons, g_depth, g_built, g_clash, g_changed, g_rules, nI m, g_size, g_logged, g_oldSize, g_oldLogged, b_part, b_levels, b_sides, b_productive, b_nullable, b_first, b_holds, b_la, b_stack, b_oldStack, b_log) (nI q) (nI x) := by
  have ok := hG.1
  have m24 := A.2.1
  have hGT : ∀ p, 1 ≤ p → p < m → ∃ S0 x0, zg_Df g S0 x0 ∧ zy_sg b_holds p = zg_GT g R S0 x0 := fun p p1 p2 => by
    rcases zg_RC_c (A.2.2.2.2.2 p p2) with z | ⟨S0, x0, a, b, c⟩
    · have := A.2.2.2.2.1 p 0 p2 A.1 (z.trans A.2.2.1.symm); omega
    · exact ⟨S0, x0, b, c⟩
  refine zy_go hG (by omega) m24 hx16 (fun e he => (zg_RC_it ok (A.2.2.2.2.2 q hq) e he).1) h01 (fun p p1 p2 => by
    obtain ⟨S0, x0, a, b⟩ := hGT p p1 p2
    exact ⟨S0, x0, a.1, b⟩) (fun p p1 p2 hx hS => ?_) (fun hn => h0 (fun d => ?_))
  · rcases Classical.em (zg_Df g (zy_sg b_holds q) x) with d | d
    · have st := A.2.2.2.1 q x hq d
      have e : p = G q x := A.2.2.2.2.1 _ _ p2 st.1 (hS.trans st.2.symm)
      rw [e]; exact h1 d
    · exfalso
      obtain ⟨S0, x0, ⟨a0, f, a1, a2⟩, b⟩ := hGT p p1 p2
      have k : zy_sg b_holds p (f + 1) := by rw [b]; exact zg_Cl_base ⟨f, a1, a2, rfl⟩
      rw [hS] at k
      have m3 := (zg_af_pos (g := g) (e := f) (by rw [a2]; exact a0)).1
      obtain ⟨f', c1, c2, _⟩ := zg_GT_k k (by omega)
      exact d ⟨hx, f', c1, c2⟩
  · have st := A.2.2.2.1 q x hq d
    rcases hn with z | z
    · exact d.1 z
    · refine z (G q x) ?_ st.1 st.2
      rcases Nat.eq_zero_or_pos (G q x) with w | w
      · exfalso
        have := st.2
        rw [w, A.2.2.1] at this
        exact zg_ST_GT d.1 this.symm
      · exact w
theorem zy_cn_le {la0 la : Nat → Int32} (h : ∀ c t, c < 1248 → zb (la0 c) t → zb (la c) t) : zy_cn la0 ≤ zy_cn la := zm_c_mono fun i hi => h _ _ (by omega)
theorem zy_add {σ : Nat → Nat → Prop} (ok : zg_ok g R) (m24 : m ≤ 24) {la0 la : Nat → Int32} {ch M : Int32} (hL : zy_LI g R m σ la0 ch la) {q e : Nat} (hq : q < m) (he : e < 52) (hM : ∀ t, zb M t → zl_LA g R (σ q) e t) {post : SY → Prop}
    (hp : ∀ ch' (la' : Nat → Int32), zy_LI g R m σ la0 ch' la' → (∀ c t, zb (la' c) t ↔ zb (la c) t ∨ (c = q * 52 + e ∧ zb M t)) → post (g_terms, g_nons, g_depth, g_built, g_clash, ch', g_rules, g_states, g_size, g_logged, g_oldSize, g_oldLogged, b_part, b_levels, b_sides, b_productive, b_nullable, b_first, b_holds, la', b_stack, b_oldStack, b_log)) :
    wpY_add post (g_terms, g_nons, g_depth, g_built, g_clash, ch, g_rules, g_states, g_size, g_logged, g_oldSize, g_oldLogged, b_part, b_levels, b_sides, b_productive, b_nullable, b_first, b_holds, la, b_stack, b_oldStack, b_log) (nI (q * 52 + e)) M := by
  obtain ⟨l1, l2, l3⟩ := hL
  have hc : q * 52 + e < 1248 := by omega
  refine ⟨vp_in_nI (by omega) (by omega), ?_⟩
  rw [za_c _ (by omega)]
  have bits : ∀ la' : Nat → Int32, la' = upd la (q * 52 + e) (la (q * 52 + e) ||| M) → ∀ c t, zb (la' c) t ↔ zb (la c) t ∨ (c = q * 52 + e ∧ zb M t) := by
    intro la' el c t
    by_cases z : c = q * 52 + e
    · rw [z, el, pk_us, zb_or]
      exact ⟨fun w => w.elim Or.inl (fun w => Or.inr ⟨rfl, w⟩), fun w => w.elim Or.inl (fun w => Or.inr w.2)⟩
    · rw [el, pk_un z]
      exact ⟨Or.inl, fun w => w.elim id (fun w => absurd w.1 z)⟩
  have sound : ∀ la' : Nat → Int32, (∀ c t, zb (la' c) t ↔ zb (la c) t ∨ (c = q * 52 + e ∧ zb M t)) → ∀ q e t, q < m → e < 52 → zb (la' (q * 52 + e)) t → zl_LA g R (σ q) e t := by
    intro la' hb q' e' t hq' he' hz
    rcases (hb _ _).mp hz with w | ⟨w1, w2⟩
    · exact l2 q' e' t hq' he' w
    · have e1 : q' = q := by omega
      have e2 : e' = e := by omega
      rw [e1, e2]; exact hM t w2
  refine br_c (fun c => ?_) (fun c => ?_)
  · rw [zb_sub] at c
    refine ⟨vp_in_nI (by omega) (by omega), vp_in_nI (by omega) (by omega), fun la' el => ?_⟩
    rw [za_c _ (by omega)] at el
    have hb := bits la' el
    refine hp ch la' ⟨fun c' t hc' hz => (hb c' t).mpr (Or.inl (l1 c' t hc' hz)), sound la' hb, ?_⟩ hb
    have same : ∀ c', la' c' = la c' := fun c' => zb_ext fun t ht => by
      rw [hb c' t]
      exact ⟨fun w => w.elim id (fun w => by rw [w.1]; exact c t ht w.2), Or.inl⟩
    have sf : la' = la := funext same
    rw [sf]; exact l3
  · refine ⟨vp_in_nI (by omega) (by omega), vp_in_nI (by omega) (by omega), fun la' el => ?_⟩
    rw [za_c _ (by omega)] at el
    have hb := bits la' el
    refine hp 1 la' ⟨fun c' t hc' hz => (hb c' t).mpr (Or.inl (l1 c' t hc' hz)), sound la' hb, Or.inr ⟨rfl, ?_⟩⟩ hb
    rw [zb_sub] at c
    have ex : ∃ t, zb M t ∧ ¬ zb (la (q * 52 + e)) t := by
      rcases Classical.em (∃ t, zb M t ∧ ¬ zb (la (q * 52 + e)) t) with w | w
      · exact w
      · exact absurd (fun t _ ht => Classical.byContradiction fun z => w ⟨t, ht, z⟩) c
    obtain ⟨t, t1, t2⟩ := ex
    have t8 := zl_LA_t ok (hM t t1)
    refine Nat.lt_of_le_of_lt (zy_cn_le l1) ?_
    have e1 : ((q * 52 + e) * 8 + t) / 8 = q * 52 + e := by omega
    have e2 : ((q * 52 + e) * 8 + t) % 8 = t := by omega
    refine zm_c_lt (a := (q * 52 + e) * 8 + t) ?_ ?_ (fun i hi hz => (hb _ _).mpr (Or.inl hz)) (by omega)
    · rw [e1, e2]; exact t2
    · show zb (la' _) _
      rw [e1, e2]; exact (hb _ _).mpr (Or.inr ⟨rfl, t1⟩)
theorem zy_gl235 {σ : Nat → Nat → Prop} (hG : zy_GR g R b_part) (m24 : m ≤ 24) {la0 lac : Nat → Int32} {M : Int32} {q e x : Nat} (hq : q < m) (he : e < 52) (hx : x < 16) (hM : ∀ t s, zb M t → 1 ≤ s → s ≤ R → g (4 * s) = x → zl_LA g R (σ q) (4 * s) t)
    {post : SY → Prop} {J37 J58 : Int32 → Int32 → Int32 → Int32 → Int32 → Int32 → Int32 → Int32 → Int32 → Int32 → Int32 → Int32 → Int32 → (Nat → Int32) → (Nat → Int32) → (Nat → Int32) → (Nat → Int32) → (Nat → Int32) → (Nat → Int32) → (Nat → Int32) → (Nat → Int32) → (Nat → Int32) → (Nat → Int32) → (Nat → Int32) → Prop} {x1 : Int32}
    (hJ : ∀ ch (la : Nat → Int32), zy_LI g R m σ la0 ch la → (∀ c t, zb (lac c) t → zb (la c) t) → (∀ s t, 1 ≤ s → s ≤ R → g (4 * s) = x → zb M t → zb (la (q * 52 + 4 * s)) t) → J58 (nI (q * 52 + e + 1)) g_terms g_nons g_depth g_built g_clash ch (nI R) g_states g_size g_logged g_oldSize g_oldLogged b_part b_levels b_sides b_productive b_nullable b_first b_holds la b_stack b_oldStack b_log) :
    ∀ f i ch (la : Nat → Int32), 1 ≤ i → i ≤ R + 1 → R + 1 - i < f → zy_LI g R m σ la0 ch la → (∀ c t, zb (lac c) t → zb (la c) t) → (∀ s t, 1 ≤ s → s < i → g (4 * s) = x → zb M t → zb (la (q * 52 + 4 * s)) t) →
      wY_growLookaheads_235 post J37 J58 x1 (nI (q * 52 + e)) (nI q) (nI x) M f (nI i) g_terms g_nons g_depth g_built g_clash ch (nI R) g_states g_size g_logged g_oldSize g_oldLogged b_part b_levels b_sides b_productive b_nullable b_first b_holds la b_stack b_oldStack b_log := by
  have ok := hG.1
  have r12 := ok.1
  intro f
  induction f with
  | zero => intro i ch la _ _ h; omega
  | succ f ih =>
    intro i ch la i1 hi hf hL hl hs
    refine pk_lt R i (fun h => ?_) (fun h => ?_)
    · intro y ey
      rw [ey, nI_1]
      exact hJ ch la hL hl (fun s t a b => hs s t a (by omega))
    · have g16 := ok.2.2.2.2.2.2.1 (4 * i)
      rw [za_x4]
      refine ⟨vp_in_nI (by omega) (by omega), ?_⟩
      rw [za_c _ (by omega), hG.2 _ (by omega)]
      refine pk_eq (g (4 * i)) x (fun c => ?_) (fun c => ?_)
      · rw [za_m52]
        refine zy_add ok m24 hL hq (e := 4 * i) (by omega) (fun t ht => hM t i ht i1 h c) (fun ch' la' hL' hb => ?_)
        intro y ey
        rw [ey, nI_1]
        refine ih (i + 1) ch' la' (by omega) (by omega) (by omega) hL' (fun c t z => (hb c t).mpr (Or.inl (hl c t z))) (fun s t a b cc d => ?_)
        by_cases w : s = i
        · rw [w]; exact (hb _ t).mpr (Or.inr ⟨rfl, d⟩)
        · exact (hb _ t).mpr (Or.inl (hs s t a (by omega) cc d))
      · intro y ey
        rw [ey, nI_1]
        refine ih (i + 1) ch la (by omega) (by omega) (by omega) hL hl (fun s t a b cc d => ?_)
        by_cases w : s = i
        · subst w; exact absurd cc c
        · exact hs s t a (by omega) cc d
theorem zy_gl147 (hG : zy_GR g R b_part) {Pr Nu Fi : Nat → Int32} (hS : zy_SY g R Pr b_nullable b_first) {q e x : Nat} (he : e < 4 * R + 4) (h3 : e % 4 < 3)
    {post : SY → Prop} {J37 J58 : Int32 → Int32 → Int32 → Int32 → Int32 → Int32 → Int32 → Int32 → Int32 → Int32 → Int32 → Int32 → Int32 → (Nat → Int32) → (Nat → Int32) → (Nat → Int32) → (Nat → Int32) → (Nat → Int32) → (Nat → Int32) → (Nat → Int32) → (Nat → Int32) → (Nat → Int32) → (Nat → Int32) → (Nat → Int32) → Prop} {x1 x2 : Int32}
    (hN : ∀ M z, (∀ t, zb M t ↔ zg_FS g R (e + 1) t) → (z ≠ 0 ↔ zg_NS g R (e + 1)) → wY_growLookaheads_216 post J37 J58 x1 x2 (nI q) (nI x) M z g_terms g_nons g_depth g_built g_clash g_changed g_rules g_states g_size g_logged g_oldSize g_oldLogged b_part b_levels b_sides b_productive b_nullable b_first b_holds b_la b_stack b_oldStack b_log) :
    ∀ f i M z, e + 2 ≤ i → i ≤ 4 * (e / 4) + 4 → 4 * (e / 4) + 4 - i < f → (∀ t, zb M t ↔ ∃ i', e + 1 < i' ∧ i' < i ∧ zg_FI g R (g i') t ∧ ∀ j, e + 1 < j → j < i' → zg_NU g R (g j)) → (z ≠ 0 ↔ ∀ j, e + 1 < j → j < i → zg_NU g R (g j)) →
      wY_growLookaheads_147 post J37 J58 x1 x2 (nI q) (nI x) g_terms g_nons g_depth g_built g_clash g_changed g_rules g_states g_size g_logged g_oldSize g_oldLogged b_part b_levels b_sides b_productive b_nullable b_first b_holds b_la b_stack b_oldStack b_log f M z (nI i) := by
  have ok := hG.1
  have r12 := ok.1
  have g16 := ok.2.2.2.2.2.2.1
  intro f
  induction f with
  | zero => intro i M z _ _ h; omega
  | succ f ih =>
    intro i M z h1 h2 hf hM hz
    refine ⟨by decide, ?_⟩
    rw [za_rem4 (by omega)]
    refine pk_le (i % 4) 0 (fun c => ?_) (fun c => ?_)
    · have ei : i = 4 * (e / 4) + 4 := by omega
      refine hN M z (fun t => ?_) ?_
      · rw [hM t]
        unfold zg_FS
        constructor
        · rintro ⟨i', a, b, cc, d⟩; exact ⟨i', a, by omega, cc, d⟩
        · rintro ⟨i', a, b, cc, d⟩; exact ⟨i', a, by omega, cc, d⟩
      · rw [hz]
        unfold zg_NS
        constructor
        · intro a j b cc; exact a j b (by omega)
        · intro a j b cc; exact a j b (by omega)
    · refine br_f (nI_ge (b := 52) (by omega) (by decide)) ?_
      have gi := g16 i
      have ep : b_part (nI i).toNatClampNeg = nI (g i) := by rw [za_c _ (by omega)]; exact hG.2 _ (by omega)
      have nu : ∀ w : Int32, (w ≠ 0 ↔ (∀ j, e + 1 < j → j < i → zg_NU g R (g j)) ∧ zg_NU g R (g i)) → (w ≠ 0 ↔ ∀ j, e + 1 < j → j < i + 1 → zg_NU g R (g j)) := fun w hw => hw.trans
        ⟨fun a j b cc => by
          by_cases y : j = i
          · rw [y]; exact a.2
          · exact a.1 j b (by omega), fun a => ⟨fun j b cc => a j b (by omega), a i (by omega) (by omega)⟩⟩
      have j183 : ∀ M', (∀ t, zb M' t ↔ ∃ i', e + 1 < i' ∧ i' < i + 1 ∧ zg_FI g R (g i') t ∧ ∀ j, e + 1 < j → j < i' → zg_NU g R (g j)) →
          wY_growLookaheads_183 post J37 J58 (wY_growLookaheads_147 post J37 J58 x1 x2 (nI q) (nI x) g_terms g_nons g_depth g_built g_clash g_changed g_rules g_states g_size g_logged g_oldSize g_oldLogged b_part b_levels b_sides b_productive b_nullable b_first b_holds b_la b_stack b_oldStack b_log f) x1 x2 (nI q) (nI x) M' z (nI i) g_terms g_nons g_depth g_built g_clash g_changed g_rules g_states g_size g_logged g_oldSize g_oldLogged b_part b_levels b_sides b_productive b_nullable b_first b_holds b_la b_stack b_oldStack b_log := by
        intro M' hM'
        refine br_c (fun c1 y ey => ?_) (fun c1 => ?_)
        · rw [ey, nI_1]
          exact ih (i + 1) M' 0 (by omega) (by omega) (by omega) hM' (nu 0 ⟨fun w => absurd rfl w, fun w => absurd c1 (hz.mpr w.1)⟩)
        · refine ⟨vp_in_nI (by omega) (by omega), ?_⟩
          rw [ep]
          refine ⟨vp_in_nI (by omega) (by omega), ?_⟩
          rw [za_c (g i) (by omega)]
          refine br_c (fun c2 y ey => ?_) (fun c2 y ey => ?_)
          · rw [ey, nI_1]
            exact ih (i + 1) M' 0 (by omega) (by omega) (by omega) hM' (nu 0 ⟨fun w => absurd rfl w, fun w => absurd c2 ((hS _ gi).2.1.mpr w.2)⟩)
          · rw [ey, nI_1]
            exact ih (i + 1) M' 1 (by omega) (by omega) (by omega) hM' (nu 1 ⟨fun _ => ⟨hz.mp c1, (hS _ gi).2.1.mp c2⟩, fun _ => by decide⟩)
      refine br_c (fun c1 => ?_) (fun c1 => ?_)
      · refine j183 M (fun t => ?_)
        rw [hM t]
        constructor
        · rintro ⟨i', a, b, cc, d⟩; exact ⟨i', a, by omega, cc, d⟩
        · rintro ⟨i', a, b, cc, d⟩
          have : i' ≠ i := fun y => by subst y; exact hz.mpr d c1
          exact ⟨i', a, by omega, cc, d⟩
      · have na := hz.mp c1
        refine ⟨vp_in_nI (by omega) (by omega), ?_⟩
        rw [ep]
        refine ⟨vp_in_nI (by omega) (by omega), fun M' eM => ?_⟩
        rw [za_c (g i) (by omega)] at eM
        refine j183 M' (fun t => ?_)
        rw [eM, zb_or, hM t, (hS _ gi).2.2 t]
        constructor
        · rintro (⟨i', a, b, cc, d⟩ | a)
          · exact ⟨i', a, by omega, cc, d⟩
          · exact ⟨i, by omega, by omega, a, na⟩
        · rintro ⟨i', a, b, cc, d⟩
          by_cases y : i' = i
          · subst y; exact Or.inr cc
          · exact Or.inl ⟨i', a, by omega, cc, d⟩
def zy_PD (g : Nat → Nat) (R m : Nat) (σ : Nat → Nat → Prop) (G : Nat → Nat → Nat) (la0 la : Nat → Int32) (c : Nat) : Prop :=
  ∀ q e, q < m → e < 52 → q * 52 + e < c → zy_R1 g σ G la0 la q e ∧ zy_R2 g R σ la0 la q e
theorem zy_PD_m {σ : Nat → Nat → Prop} {la0 la la' : Nat → Int32} {c : Nat} (h : zy_PD g R m σ G la0 la c) (hl : ∀ c t, zb (la c) t → zb (la' c) t) : zy_PD g R m σ G la0 la' c := fun q e hq he hc =>
  ⟨fun a b c' t d => hl _ t ((h q e hq he hc).1 a b c' t d), fun a b c' s t d e' f k => hl _ t ((h q e hq he hc).2 a b c' s t d e' f k)⟩
theorem zy_gl58 (hG : zy_GR g R b_part) (A : zl_AU g R m (zy_sg b_holds) G) (h01 : zy_01 m b_holds) {Pr : Nat → Int32} (hS : zy_SY g R Pr b_nullable b_first) {la0 : Nat → Int32}
    {post : SY → Prop} {J37 : Int32 → Int32 → Int32 → Int32 → Int32 → Int32 → Int32 → Int32 → Int32 → Int32 → Int32 → Int32 → Int32 → (Nat → Int32) → (Nat → Int32) → (Nat → Int32) → (Nat → Int32) → (Nat → Int32) → (Nat → Int32) → (Nat → Int32) → (Nat → Int32) → (Nat → Int32) → (Nat → Int32) → (Nat → Int32) → Prop} {x1 : Int32}
    (hJ : ∀ ch (la : Nat → Int32), zy_LI g R m (zy_sg b_holds) la0 ch la → zy_PD g R m (zy_sg b_holds) G la0 la (m * 52) → J37 (x1 + 1) g_terms g_nons g_depth g_built g_clash ch (nI R) (nI m) g_size g_logged g_oldSize g_oldLogged b_part b_levels b_sides b_productive b_nullable b_first b_holds la b_stack b_oldStack b_log) :
    ∀ f c ch (la : Nat → Int32), c ≤ m * 52 → m * 52 - c < f → zy_LI g R m (zy_sg b_holds) la0 ch la → zy_PD g R m (zy_sg b_holds) G la0 la c →
      wY_growLookaheads_58 post J37 x1 f (nI c) g_terms g_nons g_depth g_built g_clash ch (nI R) (nI m) g_size g_logged g_oldSize g_oldLogged b_part b_levels b_sides b_productive b_nullable b_first b_holds la b_stack b_oldStack b_log := by
  have ok := hG.1
  have r12 := ok.1
  have m24 := A.2.1
  have lc := zl_LA_c (g := g) (R := R)
  intro f
  induction f with
  | zero => intro c ch la _ h; omega
  | succ f ih =>
    intro c ch la hc hf hL hP
    have e52 : nI m * 52 = nI (m * 52) := by rw [show (52 : Int32) = nI 52 from rfl, pk_mul]
    refine pk_le (m * 52) c (fun h => ?_) (fun h => ?_) e52
    · have ec : c = m * 52 := by omega
      subst ec
      intro y ey
      rw [ey]
      exact hJ ch la hL hP
    · refine ⟨by decide, fun x3 e3 => ⟨by decide, fun x4 e4 => ?_⟩⟩
      rw [show nI c / 52 = nI (c / 52) from pk_div (d := 52) (by omega) (by decide) (by decide)] at e3
      rw [show nI c - nI c / 52 * 52 = nI (c % 52) from pk_rem (d := 52) (by omega) (by decide) (by decide)] at e4
      subst e3; subst e4
      have hq : c / 52 < m := by omega
      have he : c % 52 < 52 := by omega
      have ecc : c / 52 * 52 + c % 52 = c := by omega
      have rc := A.2.2.2.2.2 _ hq
      have it := zg_RC_it ok rc
      generalize hqq : c / 52 = q at *
      generalize hee : c % 52 = e at *
      have afv : zy_af g b_holds q e < 16 := by
        unfold zy_af
        rcases Classical.em (zy_sg b_holds q e) with z | z
        · rw [zc_t z]; exact zg_af_16 ok e
        · rw [zc_f z]; omega
      have next : ∀ ch (la : Nat → Int32), zy_LI g R m (zy_sg b_holds) la0 ch la → zy_PD g R m (zy_sg b_holds) G la0 la c → zy_R1 g (zy_sg b_holds) G la0 la q e → zy_R2 g R (zy_sg b_holds) la0 la q e →
          wY_growLookaheads_58 post J37 x1 f (nI (c + 1)) g_terms g_nons g_depth g_built g_clash ch (nI R) (nI m) g_size g_logged g_oldSize g_oldLogged b_part b_levels b_sides b_productive b_nullable b_first b_holds la b_stack b_oldStack b_log := by
        intro ch la hL hP w1 w2
        refine ih (c + 1) ch la (by omega) (by omega) hL (fun q' e' hq' he' hc' => ?_)
        by_cases z : q' * 52 + e' = c
        · have z1 : q' = q := by omega
          have z2 : e' = e := by omega
          rw [z1, z2]; exact ⟨w1, w2⟩
        · exact hP q' e' hq' he' (by omega)
      refine zy_after hG (by omega) he (fun z => (it e z).1) ?_
      refine zy_goA hG A h01 hq afv (fun d => ?_) (fun d => ?_)
      · have st := A.2.2.2.1 q _ hq d
        have hse : zy_sg b_holds q e := by
          rcases Classical.em (zy_sg b_holds q e) with z | z
          · exact z
          · exfalso; apply d.1; unfold zy_af; rw [zc_f z]
        have eaf : zy_af g b_holds q e = zg_af g e := by unfold zy_af; rw [zc_t hse]
        rw [eaf] at d st ⊢
        have pos := zg_af_pos d.1
        have e1 : e + 1 < 52 := by have := zg_af_lt ok d.1; omega
        refine br_f (nI_pos (by omega)) ⟨vp_in_nI (by omega) (by omega), ?_⟩
        rw [za_c c (by omega)]
        refine br_c (fun c1 => ?_) (fun c1 => ?_)
        · intro y ey
          rw [ey, nI_1]
          have z0 : la0 c = 0 := zb_z.mpr fun t _ ht => by
            have := hL.1 c t (by omega) ht
            rw [c1] at this; exact zb_0 this
          exact next ch la hL hP (fun _ _ w => absurd (by rw [ecc]; exact z0) w) (fun _ _ w => absurd (by rw [ecc]; exact z0) w)
        · refine ⟨vp_in_nI (by omega) (by omega), ?_⟩
          rw [za_m52, nI_1, Nat.add_assoc]
          have snd : ∀ t, zb (la c) t → zl_LA g R (zy_sg b_holds q) e t := fun t ht => hL.2.1 q e t hq he (by rw [ecc]; exact ht)
          refine zy_add ok m24 hL st.1 (e := e + 1) e1 (fun t ht => ?_) (fun ch2 la2 hL2 hb2 => ?_)
          · rw [st.2]; exact lc.2.1 _ e t rc hse d.1 (snd t ht)
          have r1 : zy_R1 g (zy_sg b_holds) G la0 la2 q e := fun _ _ _ t ht => by
            rw [ecc] at ht
            exact (hb2 _ t).mpr (Or.inr ⟨rfl, hL.1 c t (by omega) ht⟩)
          have hP2 := zy_PD_m hP (fun c t z => (hb2 c t).mpr (Or.inl z))
          have snd2 : ∀ t, zb (la2 c) t → zl_LA g R (zy_sg b_holds q) e t := fun t ht => hL2.2.1 q e t hq he (by rw [ecc]; exact ht)
          intro y ey
          rw [show nI e + 2 = nI (e + 2) from nI_add e 2] at ey
          rw [ey]
          have fin : ∀ M, (∀ t, zb M t ↔ zg_FS g R (e + 1) t ∨ (zg_NS g R (e + 1) ∧ zb (la2 c) t)) →
              ∃ n, wY_growLookaheads_235 post J37 (wY_growLookaheads_58 post J37 x1 f) x1 (nI c) (nI q) (nI (zg_af g e)) M n 1 g_terms g_nons g_depth g_built g_clash ch2 (nI R) (nI m) g_size g_logged g_oldSize g_oldLogged b_part b_levels b_sides b_productive b_nullable b_first b_holds la2 b_stack b_oldStack b_log := by
            intro M hM
            refine ⟨R + 1, ?_⟩
            have ecn : nI c = nI (q * 52 + e) := by rw [ecc]
            rw [ecn]
            refine zy_gl235 (σ := zy_sg b_holds) hG m24 (la0 := la0) (lac := la2) hq he (by omega) (fun t s ht s1 s2 s3 => ?_) (fun ch3 la3 hL3 hl3 hs3 => ?_) (R + 1) 1 ch2 la2 (by omega) (by omega) (by omega) hL2 (fun _ _ z => z) (fun s t a b => by omega)
            · refine lc.2.2 _ e t s rc hse s1 s2 s3.symm ?_
              rcases (hM t).mp ht with w | ⟨w1, w2⟩
              · exact Or.inl w
              · exact Or.inr ⟨w1, snd2 t w2⟩
            · rw [ecc]
              refine next ch3 la3 hL3 (zy_PD_m hP2 hl3) (fun a b cc t dd => hl3 _ t (r1 a b cc t dd)) (fun _ _ _ s t s1 s2 s3 hF => hs3 s t s1 s2 s3.symm ((hM t).mpr ?_))
              rcases hF with w | ⟨w1, w2⟩
              · exact Or.inl w
              · rw [ecc] at w2
                exact Or.inr ⟨w1, hL2.1 c t (by omega) w2⟩
          refine ⟨5, zy_gl147 (Nu := b_nullable) (Fi := b_first) hG hS (it e hse).1 pos.1 (fun M z hM hz => ?_) 5 (e + 2) 0 1 (by omega) (by omega) (by omega) (fun t => ⟨fun w => absurd w zb_0, fun ⟨i', a, b, _⟩ => by omega⟩) ⟨fun _ j a b => by omega, fun _ => by decide⟩⟩
          refine br_c (fun c2 => ?_) (fun c2 => ⟨vp_in_nI (by omega) (by omega), fun M2 eM => ?_⟩)
          · refine fin M (fun t => ?_)
            rw [hM t]
            exact ⟨Or.inl, fun w => w.elim id (fun w => absurd c2 (hz.mpr w.1))⟩
          · rw [za_c c (by omega)] at eM
            refine fin M2 (fun t => ?_)
            rw [eM, zb_or, hM t]
            exact ⟨fun w => w.elim Or.inl (fun w => Or.inr ⟨hz.mp c2, w⟩), fun w => w.elim Or.inl (fun w => Or.inr w.2)⟩
      · refine br_t (by decide) (fun y ey => ?_)
        rw [ey, nI_1]
        have nd : zy_sg b_holds q e → zg_af g e ≠ 0 → False := fun a b => d ⟨by unfold zy_af; rw [zc_t a]; exact b, e, a, by unfold zy_af; rw [zc_t a]⟩
        exact next ch la hL hP (fun a b => (nd a b).elim) (fun a b => (nd a b).elim)
theorem zy_gl37 (hG : zy_GR g R b_part) (A : zl_AU g R m (zy_sg b_holds) G) (h01 : zy_01 m b_holds) {Pr : Nat → Int32} (hS : zy_SY g R Pr b_nullable b_first) (pr : ∀ i, zg_PR g R (g i)) {post : SY → Prop}
    (hp : ∀ ch (la : Nat → Int32), (∀ q e t, q < m → e < 52 → (zb (la (q * 52 + e)) t ↔ zl_LA g R (zy_sg b_holds q) e t)) → post (g_terms, g_nons, g_depth, g_built, g_clash, ch, nI R, nI m, g_size, g_logged, g_oldSize, g_oldLogged, b_part, b_levels, b_sides, b_productive, b_nullable, b_first, b_holds, la, b_stack, b_oldStack, b_log)) :
    ∀ f i ch (la : Nat → Int32), i ≤ 9985 → 9985 - i < f → zb (la 0) 0 → (∀ q e t, q < m → e < 52 → zb (la (q * 52 + e)) t → zl_LA g R (zy_sg b_holds q) e t) →
      ((ch = 0 ∧ zy_PD g R m (zy_sg b_holds) G la la (m * 52)) ∨ (ch = 1 ∧ i ≤ zy_cn la)) → wY_growLookaheads_37 post f (nI i) g_terms g_nons g_depth g_built g_clash ch (nI R) (nI m) g_size g_logged g_oldSize g_oldLogged b_part b_levels b_sides b_productive b_nullable b_first b_holds la b_stack b_oldStack b_log := by
  have ok := hG.1
  have m24 := A.2.1
  intro f
  induction f with
  | zero => intro i ch la _ h; omega
  | succ f ih =>
    intro i ch la hi hf h0 hsn hc
    rcases hc with ⟨c0, hP⟩ | ⟨c1, hcn⟩
    · refine br_t c0 (hp ch la (fun q e t hq he => ⟨hsn q e t hq he, fun hl => ?_⟩))
      exact zy_cl_LA ok A pr h0 (fun q e hq he => (hP q e hq he (by omega)).1) (fun q e hq he => (hP q e hq he (by omega)).2) q e t hq hl
    · subst c1
      refine br_f (by decide) (pk_lt 9984 i (fun h => ?_) (fun h => ?_))
      · have := zm_c_le (fun i => zb (la (i / 8)) (i % 8)) 9984
        unfold zy_cn at hcn
        omega
      · refine ⟨m * 52 + 1, zy_gl58 hG A h01 hS (la0 := la) (fun ch' la' hL hP => ?_) (m * 52 + 1) 0 0 la (by omega) (by omega) ⟨fun _ _ _ z => z, hsn, Or.inl ⟨rfl, fun _ _ => rfl⟩⟩ (fun q e _ _ hc => by omega)⟩
        rw [nI_1]
        refine ih (i + 1) ch' la' (by omega) (by omega) (hL.1 0 0 (by omega) h0) hL.2.1 ?_
        rcases hL.2.2 with ⟨a, b⟩ | ⟨a, b⟩
        · refine Or.inl ⟨a, ?_⟩
          intro q e hq he hc
          obtain ⟨w1, w2⟩ := hP q e hq he hc
          have eq := b (q * 52 + e) (by omega)
          refine ⟨fun x1 x2 x3 t x4 => w1 x1 x2 (by rw [← eq]; exact x3) t (by rw [← eq]; exact x4), fun x1 x2 x3 s t y1 y2 y3 y4 => w2 x1 x2 (by rw [← eq]; exact x3) s t y1 y2 y3 (by rw [← eq]; exact y4)⟩
        · exact Or.inr ⟨a, by omega⟩
theorem zy_gl2 (hG : zy_GR g R b_part) (A : zl_AU g R m (zy_sg b_holds) G) (h01 : zy_01 m b_holds) {Pr : Nat → Int32} (hS : zy_SY g R Pr b_nullable b_first) (pr : ∀ i, zg_PR g R (g i)) {post : SY → Prop}
    (hp : ∀ ch (la : Nat → Int32), (∀ q e t, q < m → e < 52 → (zb (la (q * 52 + e)) t ↔ zl_LA g R (zy_sg b_holds q) e t)) → post (g_terms, g_nons, g_depth, g_built, g_clash, ch, nI R, nI m, g_size, g_logged, g_oldSize, g_oldLogged, b_part, b_levels, b_sides, b_productive, b_nullable, b_first, b_holds, la, b_stack, b_oldStack, b_log)) :
    ∀ f i (la : Nat → Int32), i ≤ 1248 → 1248 - i < f → (∀ c, c < i → la c = if c = 0 then 1 else 0) → wY_growLookaheads_2 post g_terms g_nons g_depth g_built g_clash g_changed (nI R) (nI m) g_size g_logged g_oldSize g_oldLogged f (nI i) b_part b_levels b_sides b_productive b_nullable b_first b_holds la b_stack b_oldStack b_log := by
  have m24 := A.2.1
  intro f
  induction f with
  | zero => intro i la _ h; omega
  | succ f ih =>
    intro i la hi hf hI
    refine pk_le 1248 i (fun h => ?_) (fun h => ?_)
    · refine ⟨9986, zy_gl37 hG A h01 hS pr hp 9986 0 1 la (by omega) (by omega) ?_ (fun q e t hq he hz => ?_) (Or.inr ⟨rfl, Nat.zero_le _⟩)⟩
      · rw [hI 0 (by omega), if_pos rfl]; exact zb_1.mpr rfl
      · rw [hI _ (by omega)] at hz
        by_cases w : q * 52 + e = 0
        · rw [if_pos w] at hz
          have t0 := zb_1.mp hz
          have q0 : q = 0 := by omega
          have e0 : e = 0 := by omega
          rw [t0, q0, e0, A.2.2.1]
          exact (zl_LA_c (g := g) (R := R)).1
        · rw [if_neg w] at hz; exact absurd hz zb_0
    · refine pk_eq i 0 (fun c => ⟨vp_in_nI (by omega) (by omega), fun la' el y ey => ?_⟩) (fun c => ⟨vp_in_nI (by omega) (by omega), fun la' el y ey => ?_⟩)
      · rw [za_c _ (by omega)] at el
        rw [ey, nI_1]
        refine ih (i + 1) la' (by omega) (by omega) (fun k hk => ?_)
        by_cases w : k = i
        · rw [w, el, pk_us, if_pos c]
        · rw [el, pk_un w]; exact hI k (by omega)
      · rw [za_c _ (by omega)] at el
        rw [ey, nI_1]
        refine ih (i + 1) la' (by omega) (by omega) (fun k hk => ?_)
        by_cases w : k = i
        · rw [w, el, pk_us, if_neg c]
        · rw [el, pk_un w]; exact hI k (by omega)
theorem zy_growLookaheads (hG : zy_GR g R b_part) (A : zl_AU g R m (zy_sg b_holds) G) (h01 : zy_01 m b_holds) {Pr : Nat → Int32} (hS : zy_SY g R Pr b_nullable b_first) (pr : ∀ i, zg_PR g R (g i)) {post : SY → Prop}
    (hp : ∀ ch (la : Nat → Int32), (∀ q e t, q < m → e < 52 → (zb (la (q * 52 + e)) t ↔ zl_LA g R (zy_sg b_holds q) e t)) → post (g_terms, g_nons, g_depth, g_built, g_clash, ch, nI R, nI m, g_size, g_logged, g_oldSize, g_oldLogged, b_part, b_levels, b_sides, b_productive, b_nullable, b_first, b_holds, la, b_stack, b_oldStack, b_log)) :
    wpY_growLookaheads post (g_terms, g_nons, g_depth, g_built, g_clash, g_changed, nI R, nI m, g_size, g_logged, g_oldSize, g_oldLogged, b_part, b_levels, b_sides, b_productive, b_nullable, b_first, b_holds, b_la, b_stack, b_oldStack, b_log) :=
  ⟨1249, zy_gl2 hG A h01 hS pr hp 1249 0 b_la (by omega) (by omega) (fun k h => by omega)⟩
end ZY
end
section
/-! Y: build -/
def zy_PI (g : Nat → Nat) (R m q e : Nat) (H : Nat → Int32) : Prop :=
  1 ≤ m ∧ m ≤ 24 ∧ zy_01 m H ∧ zy_sg H 0 = zg_ST g R ∧ (∀ p, p < m → zg_RC g R (zy_sg H p)) ∧ (∀ p p', p < m → p' < m → zy_sg H p = zy_sg H p' → p = p') ∧
  (∀ q' e', q' < m → q' < q ∨ (q' = q ∧ e' < e) → zy_sg H q' e' → zg_af g e' ≠ 0 → ∃ p, p < m ∧ zy_sg H p = zg_GT g R (zy_sg H q') (zg_af g e'))
noncomputable def zy_G (g : Nat → Nat) (R m : Nat) (H : Nat → Int32) (q x : Nat) : Nat := zc_m (fun p => p < m ∧ zy_sg H p = zg_GT g R (zy_sg H q) x)
def zy_BU (g : Nat → Nat) (R m : Nat) (H la : Nat → Int32) : Prop :=
  zl_AU g R m (zy_sg H) (zy_G g R m H) ∧ zy_01 m H ∧ (∀ q e t, q < m → e < 52 → (zb (la (q * 52 + e)) t ↔ zl_LA g R (zy_sg H q) e t))
section ZY
variable {g : Nat → Nat} {R : Nat}
theorem zy_PI_AU {m : Nat} {H : Nat → Int32} (h : zy_PI g R m m 0 H) : zl_AU g R m (zy_sg H) (zy_G g R m H) := by
  obtain ⟨h1, h2, h3, h4, h5, h6, h7⟩ := h
  refine ⟨h1, h2, h4, fun q x hq hd => ?_, h6, h5⟩
  obtain ⟨hx, e, he, ha⟩ := hd
  have ex := h7 q e hq (Or.inl hq) he (by rw [ha]; exact hx)
  rw [ha] at ex
  obtain ⟨p, p1, p2⟩ := pk_least (fun p => p < m ∧ zy_sg H p = zg_GT g R (zy_sg H q) x) ex
  have e : zy_G g R m H q x = p := zc_m_e p1 p2
  rw [e]; exact p1
theorem zy_sg_u {m p : Nat} {H H' : Nat → Int32} (h : ∀ i, i < m * 52 → H' i = H i) (hp : p < m) : zy_sg H' p = zy_sg H p := by
  funext e
  unfold zy_sg
  apply propext
  constructor
  · rintro ⟨a, b⟩; rw [h _ (by omega)] at b; exact ⟨a, b⟩
  · rintro ⟨a, b⟩; rw [← h _ (by omega)] at b; exact ⟨a, b⟩
theorem zy_PI_new (ok : zg_ok g R) {m q e x : Nat} {H H' : Nat → Int32} (h : zy_PI g R m q e H) (hm : m < 24) (hq : q < m) (he : zy_sg H q e) (ha : zg_af g e = x) (hx : x ≠ 0)
    (hn : ∀ p, 1 ≤ p → p < m → zy_sg H p ≠ zg_GT g R (zy_sg H q) x) (hw : zy_NW g R m H (zg_mv g (zy_sg H q) x) H') : zy_PI g R (m + 1) q (e + 1) H' := by
  obtain ⟨h1, h2, h3, h4, h5, h6, h7⟩ := h
  obtain ⟨w1, w2, w3⟩ := hw
  have w3 : zy_sg H' m = zg_GT g R (zy_sg H q) x := w3
  have old : ∀ p, p < m → zy_sg H' p = zy_sg H p := fun p hp => zy_sg_u w1 hp
  have hn' : ∀ p, p < m → zy_sg H p ≠ zg_GT g R (zy_sg H q) x := fun p hp => by
    rcases Nat.eq_zero_or_pos p with z | z
    · rw [z, h4]; exact fun z => zg_ST_GT hx z.symm
    · exact hn p z hp
  have rcn : zg_RC g R (zg_GT g R (zy_sg H q) x) := zg_RC_s (h5 q hq) ⟨hx, e, he, ha⟩
  refine ⟨by omega, by omega, fun p k hp hk => ?_, by rw [old 0 (by omega)]; exact h4, fun p hp => ?_, fun p p' hp hp' => ?_, fun q' e' hq' hc hs haf => ?_⟩
  · by_cases z : p = m
    · rw [z]; exact w2 k hk
    · rw [w1 _ (by omega)]; exact h3 p k (by omega) hk
  · by_cases z : p = m
    · rw [z, w3]; exact rcn
    · rw [old p (by omega)]; exact h5 p (by omega)
  · by_cases z : p = m
    · by_cases z' : p' = m
      · intro; omega
      · rw [z, w3, old p' (by omega)]; exact fun y => absurd y.symm (hn' p' (by omega))
    · by_cases z' : p' = m
      · rw [z', w3, old p (by omega)]; exact fun y => absurd y (hn' p (by omega))
      · rw [old p (by omega), old p' (by omega)]; exact h6 p p' (by omega) (by omega)
  · have q'm : q' < m := by omega
    rw [old q' q'm] at hs ⊢
    by_cases z : q' = q ∧ e' = e
    · obtain ⟨rfl, rfl⟩ := z
      rw [ha]; exact ⟨m, by omega, w3⟩
    · obtain ⟨p, p1, p2⟩ := h7 q' e' q'm (by omega) hs haf
      exact ⟨p, by omega, by rw [old p p1]; exact p2⟩
variable {g_terms g_nons g_depth g_built g_clash g_changed g_rules g_states g_size g_logged g_oldSize g_oldLogged : Int32} {b_part b_levels b_sides b_productive b_nullable b_first b_holds b_la b_stack b_oldStack b_log : Nat → Int32}
theorem zy_bd80 (hG : zy_GR g R b_part) {q : Nat} (hq24 : q < 24) {post : Int32 → SY → Prop} {J64 : Int32 → Int32 → Int32 → Int32 → Int32 → Int32 → Int32 → Int32 → Int32 → Int32 → Int32 → Int32 → Int32 → (Nat → Int32) → (Nat → Int32) → (Nat → Int32) → (Nat → Int32) → (Nat → Int32) → (Nat → Int32) → (Nat → Int32) → (Nat → Int32) → (Nat → Int32) → (Nat → Int32) → (Nat → Int32) → Prop}
    (hJ : ∀ m (H : Nat → Int32), q < m → zy_PI g R m (q + 1) 0 H → J64 (nI (q + 1)) g_terms g_nons g_depth g_built g_clash g_changed (nI R) (nI m) g_size g_logged g_oldSize g_oldLogged b_part b_levels b_sides b_productive b_nullable b_first H b_la b_stack b_oldStack b_log)
    (hF : ∀ m (H : Nat → Int32), zg_TM g R → post (-5) (g_terms, g_nons, g_depth, g_built, g_clash, g_changed, nI R, nI m, g_size, g_logged, g_oldSize, g_oldLogged, b_part, b_levels, b_sides, b_productive, b_nullable, b_first, H, b_la, b_stack, b_oldStack, b_log)) :
    ∀ f e m (H : Nat → Int32), e ≤ 52 → 52 - e < f → q < m → zy_PI g R m q e H → wY_build_80 post J64 (nI q) f (nI e) g_terms g_nons g_depth g_built g_clash g_changed (nI R) (nI m) g_size g_logged g_oldSize g_oldLogged b_part b_levels b_sides b_productive b_nullable b_first H b_la b_stack b_oldStack b_log := by
  have ok := hG.1
  intro f
  induction f with
  | zero => intro e m H _ h; omega
  | succ f ih =>
    intro e m H he hf hqm hP
    obtain ⟨h1, h2, h3, h4, h5, h6, h7⟩ := id hP
    have it := zg_RC_it ok (h5 q hqm)
    refine pk_le 52 e (fun h => ?_) (fun h => ?_)
    · intro y ey
      rw [ey, nI_1]
      refine hJ m H hqm ⟨h1, h2, h3, h4, h5, h6, fun q' e' hq' hc hs => h7 q' e' hq' ?_ hs⟩
      have := hs.1
      omega
    · refine zy_after hG hq24 h (fun z => (it e z).1) ?_
      have skip : ¬ (zy_sg H q e ∧ zg_af g e ≠ 0 ∧ ∀ p, p < m → zy_sg H p ≠ zg_GT g R (zy_sg H q) (zg_af g e)) → wY_build_80 post J64 (nI q) f (nI (e + 1)) g_terms g_nons g_depth g_built g_clash g_changed (nI R) (nI m) g_size g_logged g_oldSize g_oldLogged b_part b_levels b_sides b_productive b_nullable b_first H b_la b_stack b_oldStack b_log := by
        intro hn
        refine ih (e + 1) m H (by omega) (by omega) hqm ⟨h1, h2, h3, h4, h5, h6, fun q' e' hq' hc hs ha => ?_⟩
        by_cases z : q' = q ∧ e' = e
        · obtain ⟨rfl, rfl⟩ := z
          rcases Classical.em (∃ p, p < m ∧ zy_sg H p = zg_GT g R (zy_sg H q') (zg_af g e')) with w | w
          · exact w
          · exact absurd ⟨hs, ha, fun p a b => w ⟨p, a, b⟩⟩ hn
        · exact h7 q' e' hq' (by omega) hs ha
      rcases Classical.em (zy_sg H q e) with hs | hs
      · have eaf : zy_af g H q e = zg_af g e := by unfold zy_af; rw [zc_t hs]
        rw [eaf]
        have a16 := zg_af_16 ok e
        refine pk_eq (zg_af g e) 0 (fun c y ey => ?_) (fun c => ?_)
        · rw [ey, nI_1]; exact skip (fun z => z.2.1 c)
        · refine zy_go hG (by omega) h2 a16 (fun e he => (it e he).1) h3 (fun p p1 p2 => ?_) (fun p p1 p2 hx hS => ?_) (fun hn => ?_)
          · rcases zg_RC_c (h5 p p2) with z | ⟨S0, x0, a, b, cc⟩
            · have := h6 p 0 p2 (by omega) (z.trans h4.symm); omega
            · exact ⟨S0, x0, b.1, cc⟩
          · refine br_f (nI_pos (by omega)) (fun y ey => ?_)
            rw [ey, nI_1]
            exact skip (fun z => z.2.2 p p2 hS)
          · have hn' : ∀ p, 1 ≤ p → p < m → zy_sg H p ≠ zg_GT g R (zy_sg H q) (zg_af g e) := hn.elim (fun z => absurd z c) id
            refine br_t (by decide) (pk_eq m 24 (fun cm => ?_) (fun cm => ?_))
            · have hn'' : ∀ p, p < m → zy_sg H p ≠ zg_GT g R (zy_sg H q) (zg_af g e) := fun p hp => by
                rcases Nat.eq_zero_or_pos p with z | z
                · rw [z, h4]; exact fun z => zg_ST_GT c z.symm
                · exact hn' p z hp
              refine hF m H ⟨fun i => if i < 24 then zy_sg H i else zg_GT g R (zy_sg H q) (zg_af g e), fun i hi => ?_, fun i j hi hj => ?_⟩
              · by_cases w : i < 24
                · simp only [w, if_true]; exact h5 i (by omega)
                · simp only [w, if_false]; exact zg_RC_s (h5 q hqm) ⟨c, e, hs, rfl⟩
              · by_cases w : i < 24
                · by_cases w' : j < 24
                  · simp only [w, w', if_true]; exact h6 i j (by omega) (by omega)
                  · simp only [w, w', if_true, if_false]; exact fun z => absurd z (hn'' i (by omega))
                · by_cases w' : j < 24
                  · simp only [w, w', if_true, if_false]; exact fun z => absurd z.symm (hn'' j (by omega))
                  · intro _; omega
            · refine zy_addState hG (by omega) hqm c a16 (fun e he => (it e he).1) (fun H' hw => ?_)
              intro y ey
              rw [ey, nI_1]
              exact ih (e + 1) (m + 1) H' (by omega) (by omega) (by omega) (zy_PI_new ok hP (by omega) hqm hs rfl c hn' hw)
      · have eaf : zy_af g H q e = 0 := by unfold zy_af; rw [zc_f hs]
        rw [eaf]
        refine br_t rfl (fun y ey => ?_)
        rw [ey, nI_1]
        exact skip (fun z => hs z.1)
theorem zy_bd64 (hG : zy_GR g R b_part) {Pr : Nat → Int32} (hS : zy_SY g R Pr b_nullable b_first) (pr : ∀ i, zg_PR g R (g i)) {post : Int32 → SY → Prop}
    (hp : ∀ m ch (H la : Nat → Int32), zy_BU g R m H la → post (nI m) (g_terms, g_nons, g_depth, 1, g_clash, ch, nI R, nI m, g_size, g_logged, g_oldSize, g_oldLogged, b_part, b_levels, b_sides, b_productive, b_nullable, b_first, H, la, b_stack, b_oldStack, b_log))
    (hF : ∀ m (H : Nat → Int32), zg_TM g R → post (-5) (g_terms, g_nons, g_depth, g_built, g_clash, g_changed, nI R, nI m, g_size, g_logged, g_oldSize, g_oldLogged, b_part, b_levels, b_sides, b_productive, b_nullable, b_first, H, b_la, b_stack, b_oldStack, b_log)) :
    ∀ f q m (H : Nat → Int32), q ≤ m → 24 - q < f → zy_PI g R m q 0 H → wY_build_64 post f (nI q) g_terms g_nons g_depth g_built g_clash g_changed (nI R) (nI m) g_size g_logged g_oldSize g_oldLogged b_part b_levels b_sides b_productive b_nullable b_first H b_la b_stack b_oldStack b_log := by
  intro f
  induction f with
  | zero => intro q m H _ h; omega
  | succ f ih =>
    intro q m H hq hf hP
    have m24 := hP.2.1
    have fin : q = m → wY_build_139 post g_terms g_nons g_depth g_built g_clash g_changed (nI R) (nI m) g_size g_logged g_oldSize g_oldLogged b_part b_levels b_sides b_productive b_nullable b_first H b_la b_stack b_oldStack b_log := by
      intro e
      subst e
      have A := zy_PI_AU hP
      unfold wY_build_139
      refine zy_growLookaheads hG A hP.2.2.1 hS pr (fun ch la hl => ?_)
      exact hp q ch H la ⟨A, hP.2.2.1, hl⟩
    refine pk_le m q (fun h => fin (by omega)) (fun h => pk_le 24 q (fun h' => fin (by omega)) (fun h' => ?_))
    exact ⟨53, zy_bd80 hG h' (fun m' H' hm' hP' => ih (q + 1) m' H' (by omega) (by omega) hP') hF 53 0 m H (by omega) (by omega) h hP⟩
theorem zy_bd16 (hG : zy_GR g R b_part) {Nu Fi : Nat → Int32} (hS : zy_SY g R b_productive b_nullable b_first) {post : Int32 → SY → Prop}
    (hp : (∀ i, zg_PR g R (g i)) → ∀ m ch (H la : Nat → Int32), zy_BU g R m H la → post (nI m) (g_terms, g_nons, g_depth, 1, g_clash, ch, nI R, nI m, g_size, g_logged, g_oldSize, g_oldLogged, b_part, b_levels, b_sides, b_productive, b_nullable, b_first, H, la, b_stack, b_oldStack, b_log))
    (hF : (∀ i, zg_PR g R (g i)) → ∀ m (H : Nat → Int32), zg_TM g R → post (-5) (g_terms, g_nons, g_depth, g_built, g_clash, g_changed, nI R, nI m, g_size, g_logged, g_oldSize, g_oldLogged, b_part, b_levels, b_sides, b_productive, b_nullable, b_first, H, b_la, b_stack, b_oldStack, b_log))
    (h7 : ¬ (∀ i, zg_PR g R (g i)) → post (-7) (g_terms, g_nons, g_depth, g_built, g_clash, g_changed, nI R, g_states, g_size, g_logged, g_oldSize, g_oldLogged, b_part, b_levels, b_sides, b_productive, b_nullable, b_first, b_holds, b_la, b_stack, b_oldStack, b_log)) :
    ∀ f i, i ≤ 4 * R + 4 → 4 * R + 4 - i < f → (∀ j, j < i → zg_PR g R (g j)) → wY_build_16 post g_terms g_nons g_depth g_built g_clash g_changed (nI R) g_states g_size g_logged g_oldSize g_oldLogged b_part b_levels b_sides b_productive b_nullable b_first b_holds b_la b_stack b_oldStack b_log f (nI i) := by
  have ok := hG.1
  have r12 := ok.1
  intro f
  induction f with
  | zero => intro i _ h; omega
  | succ f ih =>
    intro i hi hf hj
    refine pk_le (4 * R + 4) i (fun h => ?_) (fun h => ?_) (za_m4 R 4)
    · have pr : ∀ i, zg_PR g R (g i) := fun j => by
        rcases Nat.lt_or_ge j (4 * R + 4) with z | z
        · exact hj j (by omega)
        · rw [ok.2.2.2.2.2.2.2.2.2 j z]; exact (zg_PR_c (g := g) (R := R)).1 0 (by omega)
      refine zy_addState0 hG (fun H hw => ?_)
      obtain ⟨w1, w2, w3⟩ := hw
      have w3 : zy_sg H 0 = zg_ST g R := w3
      refine ⟨25, zy_bd64 hG hS pr (hp pr) (hF pr) 25 0 1 H (by omega) (by omega) ⟨by omega, by omega, fun p k hp hk => ?_, w3, fun p hp => ?_, fun p p' _ _ _ => by omega, fun q' e' hq' hc => by omega⟩⟩
      · rw [show p = 0 by omega]; exact w2 k hk
      · rw [show p = 0 by omega, w3]; exact zg_RC_0
    · have gi := ok.2.2.2.2.2.2.1 i
      refine ⟨vp_in_nI (by omega) (by omega), ?_⟩
      rw [za_c _ (by omega), hG.2 _ h]
      refine ⟨vp_in_nI (by omega) (by omega), ?_⟩
      rw [za_c _ (by omega)]
      refine br_c (fun c => h7 (fun z => (hS _ gi).1.mpr (z i) c)) (fun c y ey => ?_)
      rw [ey, nI_1]
      exact ih (i + 1) (by omega) (by omega) (fun j hj' => by
        by_cases z : j = i
        · rw [z]; exact (hS _ gi).1.mp c
        · exact hj j (by omega))
theorem zy_build (hG : zy_GR g R b_part) {post : Int32 → SY → Prop}
    (h7 : ¬ (∀ i, zg_PR g R (g i)) → ∀ Pr Nu Fi : Nat → Int32, post (-7) (g_terms, g_nons, g_depth, 0, g_clash, g_changed, nI R, g_states, g_size, g_logged, g_oldSize, g_oldLogged, b_part, b_levels, b_sides, Pr, Nu, Fi, b_holds, b_la, b_stack, b_oldStack, b_log))
    (hF : (∀ i, zg_PR g R (g i)) → zg_TM g R → ∀ sc (Pr Nu Fi H : Nat → Int32), post (-5) (g_terms, g_nons, g_depth, 0, g_clash, g_changed, nI R, sc, g_size, g_logged, g_oldSize, g_oldLogged, b_part, b_levels, b_sides, Pr, Nu, Fi, H, b_la, b_stack, b_oldStack, b_log))
    (hp : (∀ i, zg_PR g R (g i)) → ∀ m ch (Pr Nu Fi H la : Nat → Int32), zy_BU g R m H la → post (nI m) (g_terms, g_nons, g_depth, 1, g_clash, ch, nI R, nI m, g_size, g_logged, g_oldSize, g_oldLogged, b_part, b_levels, b_sides, Pr, Nu, Fi, H, la, b_stack, b_oldStack, b_log)) :
    wpY_build post (g_terms, g_nons, g_depth, 0, g_clash, g_changed, nI R, g_states, g_size, g_logged, g_oldSize, g_oldLogged, b_part, b_levels, b_sides, b_productive, b_nullable, b_first, b_holds, b_la, b_stack, b_oldStack, b_log) := by
  unfold wpY_build
  refine br_t rfl ?_
  refine zy_growSymbols hG (fun Pr Nu Fi hS => ⟨4 * R + 5, ?_⟩)
  exact zy_bd16 (Nu := Nu) (Fi := Fi) hG hS (fun pr m ch H la h => hp pr m ch Pr Nu Fi H la h) (fun pr m H tm => hF pr tm _ Pr Nu Fi H) (fun pr => h7 pr Pr Nu Fi) (4 * R + 5) 0 (by omega) (by omega) (fun j h => by omega)
end ZY
end
section
/-! two numberings of one automaton; the stack of symbols and the run over it, in plain numbers -/
theorem zz_TM {g : Nat → Nat} {R n : Nat} {σ : Nat → Nat → Prop} {G : Nat → Nat → Nat} (A : zl_AU g R n σ G) (h : zg_TM g R) : False := by
  obtain ⟨τ, t1, t2⟩ := h
  have ex : ∀ i, i < 25 → ∃ s, s < n ∧ σ s = τ i := fun i hi => zl_sur A (t1 i hi)
  have sp : ∀ i, i < 25 → zc_m (fun s => s < n ∧ σ s = τ i) < n ∧ σ (zc_m (fun s => s < n ∧ σ s = τ i)) = τ i := fun i hi => by
    obtain ⟨p, p1, p2⟩ := pk_least _ (ex i hi)
    rw [zc_m_e p1 p2]; exact p1
  have := zm_inj (n := 25) (m := n) (fun i => zc_m (fun s => s < n ∧ σ s = τ i)) (fun i hi => (sp i hi).1) (fun i j hi hj e => t2 i j hi hj (by
    rw [← (sp i hi).2, ← (sp j hj).2]
    exact congrArg σ e))
  have := A.2.1
  omega
theorem zz_same {g : Nat → Nat} {R n m : Nat} {σ σ' : Nat → Nat → Prop} {G G' : Nat → Nat → Nat} (A : zl_AU g R n σ G) (B : zl_AU g R m σ' G') :
    n = m ∧ ∀ a : (Nat → Prop) → Nat, zm_s (fun s => a (σ s)) n = zm_s (fun q => a (σ' q)) m := by
  have sp : ∀ i, i < n → zc_m (fun q => q < m ∧ σ' q = σ i) < m ∧ σ' (zc_m (fun q => q < m ∧ σ' q = σ i)) = σ i := fun i hi => by
    obtain ⟨p, p1, p2⟩ := pk_least _ (zl_sur B (A.2.2.2.2.2 i hi))
    rw [zc_m_e p1 p2]; exact p1
  have sq : ∀ i, i < m → zc_m (fun q => q < n ∧ σ q = σ' i) < n ∧ σ (zc_m (fun q => q < n ∧ σ q = σ' i)) = σ' i := fun i hi => by
    obtain ⟨p, p1, p2⟩ := pk_least _ (zl_sur A (B.2.2.2.2.2 i hi))
    rw [zc_m_e p1 p2]; exact p1
  have key : ∀ a : Nat → Nat, zm_s (fun i => a (zc_m (fun q => q < m ∧ σ' q = σ i))) n = zm_s a m := zm_bij (fun i => zc_m (fun q => q < m ∧ σ' q = σ i)) (fun i => zc_m (fun q => q < n ∧ σ q = σ' i))
    (fun i hi => ⟨(sp i hi).1, A.2.2.2.2.1 _ _ (sq _ (sp i hi).1).1 hi ((sq _ (sp i hi).1).2.trans (sp i hi).2)⟩)
    (fun i hi => ⟨(sq i hi).1, B.2.2.2.2.1 _ _ (sp _ (sq i hi).1).1 hi ((sp _ (sq i hi).1).2.trans (sq i hi).2)⟩)
  refine ⟨?_, fun a => ?_⟩
  · have := key (fun _ => 1)
    rw [zm_s_const, zm_s_const] at this
    omega
  · rw [← key (fun q => a (σ' q))]
    exact zm_s_eq (fun i hi => by rw [(sp i hi).2])
def zp_tp (g : Nat → Nat) (R : Nat) (k : Nat → Nat) : Nat → Nat → Prop
  | 0 => zg_ST g R
  | i + 1 => zg_GT g R (zp_tp g R k i) (k i)
def zp_VS (g : Nat → Nat) (R : Nat) (k : Nat → Nat) (h : Nat) : Prop := ∀ i, i < h → zg_Df g (zp_tp g R k i) (k i)
section ZP
variable {g : Nat → Nat} {R : Nat} {lv sd : Nat → Int32} {D t : Nat}
theorem zp_tp_c {k k' : Nat → Nat} : ∀ i, (∀ j, j < i → k' j = k j) → zp_tp g R k' i = zp_tp g R k i
  | 0, _ => rfl
  | i + 1, h => by
    show zg_GT g R (zp_tp g R k' i) (k' i) = zg_GT g R (zp_tp g R k i) (k i)
    rw [zp_tp_c i (fun j hj => h j (by omega)), h i (by omega)]
theorem zp_RC {k : Nat → Nat} {h : Nat} (v : zp_VS g R k h) : ∀ i, i ≤ h → zg_RC g R (zp_tp g R k i)
  | 0, _ => zg_RC_0
  | i + 1, hi => zg_RC_s (zp_RC v i (by omega)) (v i (by omega))
theorem zp_VS_16 (ok : zg_ok g R) {k : Nat → Nat} {h i : Nat} (v : zp_VS g R k h) (hi : i < h) : k i < 16 ∧ k i ≠ 0 := by
  obtain ⟨a, e, _, b⟩ := v i hi
  exact ⟨by rw [← b]; exact zg_af_16 ok e, a⟩
theorem zp_VS_u {k : Nat → Nat} {h b x : Nat} (v : zp_VS g R k h) (hb : b ≤ h) (hx : zg_Df g (zp_tp g R k b) x) : zp_VS g R (zd_up k b x) (b + 1) := by
  intro i hi
  have e : zp_tp g R (zd_up k b x) i = zp_tp g R k i := zp_tp_c i (fun j hj => zd_un (by omega))
  rw [e]
  by_cases z : i = b
  · rw [z, zd_us]; exact hx
  · rw [zd_un z]; exact v i (by omega)
theorem zp_tp_u {k : Nat → Nat} {b x i : Nat} (h : i ≤ b) : zp_tp g R (zd_up k b x) i = zp_tp g R k i := zp_tp_c i (fun j hj => zd_un (by omega))
theorem zp_tp_s {k : Nat → Nat} {b x : Nat} : zp_tp g R (zd_up k b x) (b + 1) = zg_GT g R (zp_tp g R k b) x := by
  show zg_GT g R (zp_tp g R (zd_up k b x) b) (zd_up k b x b) = _
  rw [zp_tp_u (Nat.le_refl b), zd_us]
theorem zp_bk {k : Nat → Nat} {m : Nat} : ∀ d h, d < 4 → zp_tp g R k h (4 * m + d) → d ≤ h ∧ zp_tp g R k (h - d) (4 * m)
  | 0, h, _, z => ⟨by omega, z⟩
  | d + 1, h, hd, z => by
    cases h with
    | zero => have := zg_ST_m (g := g) (R := R) z; omega
    | succ h =>
      obtain ⟨f, a, b, c⟩ := zg_GT_k (show zg_GT g R (zp_tp g R k h) (k h) (4 * m + (d + 1)) from z) (by omega)
      have e : f = 4 * m + d := by omega
      subst e
      obtain ⟨u, v⟩ := zp_bk d h (by omega) a
      exact ⟨by omega, by rw [show h + 1 - (d + 1) = h - d by omega]; exact v⟩
theorem zp_red (ok : zg_ok g R) {k : Nat → Nat} {h m : Nat} (v : zp_VS g R k h) (m1 : 1 ≤ m) (hl : zl_LA g R (zp_tp g R k h) (4 * m + zg_ln g m) t) : zg_ln g m ≤ h ∧ zg_Df g (zp_tp g R k (h - zg_ln g m)) (g (4 * m)) := by
  obtain ⟨a, b⟩ := zp_bk (zg_ln g m) h (by have := zg_ln_le (g := g) m; omega) (zl_LA_S hl).2
  exact ⟨a, zg_RC_df ok (zp_RC v _ (by omega)) b m1⟩
theorem zc_dv32 (r12 : R ≤ 12) {S : Nat → Prop} (h : zc_dv g R lv sd S t = 32) : zg_Df g S t := by
  rcases Classical.em (zg_Df g S t) with d | d
  · exact d
  · exfalso
    rcases Classical.em (∃ r, zc_red g R S t r) with q | q
    · obtain ⟨m, m1, m2⟩ := pk_least _ q
      rw [(zc_some (lv := lv) (sd := sd) m1 m2).2.1 d] at h
      by_cases m0 : m = 0
      · rw [if_pos m0] at h; exact absurd h (by decide)
      · rw [if_neg m0] at h
        have := m1.1
        have := (nI_eq (a := m) (b := 32) (by omega) (by decide)).mp h
        omega
    · rw [(zc_none (lv := lv) (sd := sd) (fun r hr => q ⟨r, hr⟩)).2.1 d] at h
      exact absurd h (by decide)
/-- the run as a condition on its outcome -/
def zp_R (g : Nat → Nat) (R : Nat) (lv sd : Nat → Int32) (D t : Nat) (Q : Int32 → (Nat → Nat) → Nat → Nat → (Nat → Nat) → Prop) : Nat → (Nat → Nat) → Nat → Nat → (Nat → Nat) → Prop
  | 0 => fun k h lc lg => Q (-4) k h lc lg
  | f + 1 => fun k h lc lg =>
    (zc_dv g R lv sd (zp_tp g R k h) t = 0 → Q (-6) k h lc lg) ∧ (zc_dv g R lv sd (zp_tp g R k h) t = 64 → Q 2 k h lc lg) ∧
    (zc_dv g R lv sd (zp_tp g R k h) t = 32 → (h = D → Q (-4) k h lc lg) ∧ (h ≠ D → Q 1 (zd_up k h t) (h + 1) lc lg)) ∧
    (∀ m, 1 ≤ m → m ≤ R → zc_dv g R lv sd (zp_tp g R k h) t = nI m → zl_LA g R (zp_tp g R k h) (4 * m + zg_ln g m) t →
      (lc = 64 ∨ (zg_ln g m = 0 ∧ h = D) → Q (-4) k h lc lg) ∧ (¬ (lc = 64 ∨ (zg_ln g m = 0 ∧ h = D)) → zp_R g R lv sd D t Q f (zd_up k (h - zg_ln g m) (g (4 * m))) (h - zg_ln g m + 1) (lc + 1) (zd_up lg lc m)))
theorem zp_small {m c : Nat} (h : m ≤ 12) (hc : c = 32 ∨ c = 64 ∨ c = 0) (e : nI m = nI c) : m = c := (nI_eq (by omega) (by omega)).mp e
theorem zp_out (ok : zg_ok g R) (hD : D ≤ 32) : ∀ f (k : Nat → Nat) (h lc : Nat) (lg : Nat → Nat), zp_VS g R k h → h ≤ D → lc ≤ 64 → ∃ r k' h' lc' lg', (r = -4 ∨ r = -6 ∨ r = 1 ∨ r = 2) ∧ zp_VS g R k' h' ∧ h' ≤ D ∧ lc' ≤ 64 ∧ lc ≤ lc' ∧ (∀ i, i < lc → lg' i = lg i) ∧
    ∀ Q : Int32 → (Nat → Nat) → Nat → Nat → (Nat → Nat) → Prop, Q r k' h' lc' lg' → zp_R g R lv sd D t Q f k h lc lg := by
  have r12 := ok.1
  intro f
  induction f with
  | zero => intro k h lc lg v hh hl; exact ⟨-4, k, h, lc, lg, Or.inl rfl, v, hh, hl, by omega, fun _ _ => rfl, fun Q q => q⟩
  | succ f ih =>
    intro k h lc lg v hh hl
    generalize hd : zc_dv g R lv sd (zp_tp g R k h) t = d
    by_cases d0 : d = 0
    · refine ⟨-6, k, h, lc, lg, Or.inr (Or.inl rfl), v, hh, hl, by omega, fun _ _ => rfl, fun Q q => ⟨fun _ => q, fun z => ?_, fun z => ?_, fun m m1 m2 z _ => ?_⟩⟩
      · rw [hd, d0] at z; exact absurd z (by decide)
      · rw [hd, d0] at z; exact absurd z (by decide)
      · rw [hd, d0] at z; have := zp_small (m := m) (c := 0) (by omega) (by omega) z.symm; omega
    · by_cases d64 : d = 64
      · refine ⟨2, k, h, lc, lg, Or.inr (Or.inr (Or.inr rfl)), v, hh, hl, by omega, fun _ _ => rfl, fun Q q => ⟨fun z => ?_, fun _ => q, fun z => ?_, fun m m1 m2 z _ => ?_⟩⟩
        · rw [hd, d64] at z; exact absurd z (by decide)
        · rw [hd, d64] at z; exact absurd z (by decide)
        · rw [hd, d64] at z; have := zp_small (m := m) (c := 64) (by omega) (by omega) z.symm; omega
      · by_cases d32 : d = 32
        · have no : ∀ m, 1 ≤ m → m ≤ R → zc_dv g R lv sd (zp_tp g R k h) t = nI m → False := fun m m1 m2 z => by
            rw [hd, d32] at z; have := zp_small (m := m) (c := 32) (by omega) (by omega) z.symm; omega
          have df := zc_dv32 r12 (hd.trans d32)
          by_cases hD' : h = D
          · refine ⟨-4, k, h, lc, lg, Or.inl rfl, v, hh, hl, by omega, fun _ _ => rfl, fun Q q => ⟨fun z => ?_, fun z => ?_, fun _ => ⟨fun _ => q, fun z => absurd hD' z⟩, fun m m1 m2 z => (no m m1 m2 z).elim⟩⟩
            · rw [hd] at z; exact absurd z d0
            · rw [hd] at z; exact absurd z d64
          · refine ⟨1, zd_up k h t, h + 1, lc, lg, Or.inr (Or.inr (Or.inl rfl)), zp_VS_u v (Nat.le_refl h) df, by omega, hl, by omega, fun _ _ => rfl, fun Q q => ⟨fun z => ?_, fun z => ?_, fun _ => ⟨fun z => absurd z hD', fun _ => q⟩, fun m m1 m2 z => (no m m1 m2 z).elim⟩⟩
            · rw [hd] at z; exact absurd z d0
            · rw [hd] at z; exact absurd z d64
        · obtain ⟨m, m1, m2, m3, m4⟩ := zc_dv_red (lv := lv) (sd := sd) (S := zp_tp g R k h) (t := t) ok (by rw [hd]; exact d0) (by rw [hd]; exact d32) (by rw [hd]; exact d64)
          have uq : ∀ m', 1 ≤ m' → m' ≤ R → zc_dv g R lv sd (zp_tp g R k h) t = nI m' → m' = m := fun m' a b z => (nI_eq (by omega) (by omega)).mp (z.symm.trans m3)
          obtain ⟨p1, p2⟩ := zp_red ok v m1 m4
          by_cases c : lc = 64 ∨ (zg_ln g m = 0 ∧ h = D)
          · refine ⟨-4, k, h, lc, lg, Or.inl rfl, v, hh, hl, by omega, fun _ _ => rfl, fun Q q => ⟨fun z => ?_, fun z => ?_, fun z => ?_, fun m' a b z _ => ?_⟩⟩
            · rw [hd] at z; exact absurd z d0
            · rw [hd] at z; exact absurd z d64
            · rw [hd] at z; exact absurd z d32
            · have := uq m' a b z
              subst this
              exact ⟨fun _ => q, fun z => absurd c z⟩
          · obtain ⟨r, k', h', lc', lg', w1, w2, w3, w4, w5, w6, w7⟩ := ih (zd_up k (h - zg_ln g m) (g (4 * m))) (h - zg_ln g m + 1) (lc + 1) (zd_up lg lc m) (zp_VS_u v (by omega) p2) (by omega) (by omega)
            refine ⟨r, k', h', lc', lg', w1, w2, w3, w4, by omega, fun i hi => by rw [w6 i (by omega), zd_un (by omega)], fun Q q => ⟨fun z => ?_, fun z => ?_, fun z => ?_, fun m' a b z _ => ?_⟩⟩
            · rw [hd] at z; exact absurd z d0
            · rw [hd] at z; exact absurd z d64
            · rw [hd] at z; exact absurd z d32
            · have := uq m' a b z
              subst this
              exact ⟨fun z => absurd z c, fun _ => w7 Q q⟩
end ZP
end
section
/-! X: the real and the trial stack; run, commit -/
def zx_XS (g : Nat → Nat) (R n : Nat) (σ : Nat → Nat → Prop) (k : Nat → Nat) (h : Nat) (sy st : Nat → Int32) : Prop :=
  (∀ i, i < h → sy i = nI (k i)) ∧ ∀ i, 1 ≤ i → i ≤ h → ∃ s, s < n ∧ st i = nI s ∧ σ s = zp_tp g R k i
def zx_XC (g : Nat → Nat) (R n : Nat) (σ : Nat → Nat → Prop) (k : Nat → Nat) (h low : Nat) (sy st ts tt : Nat → Int32) : Prop :=
  low ≤ h ∧ (∀ i, i < h → (i < low → sy i = nI (k i)) ∧ (low ≤ i → ts i = nI (k i))) ∧
  (∀ i, 1 ≤ i → i ≤ h → (i ≤ low → ∃ s, s < n ∧ st i = nI s ∧ σ s = zp_tp g R k i) ∧ (low < i → ∃ s, s < n ∧ tt i = nI s ∧ σ s = zp_tp g R k i))
section ZX
variable {g : Nat → Nat} {R n : Nat} {G : Nat → Nat → Nat} {σ : Nat → Nat → Prop} {k : Nat → Nat} {h low : Nat} {f_maxRules f_maxStates f_maxNodes f_maxEdges f_maxSteps f_maxLog f_finished f_lastTerminal f_lastNonterminal f_depthLimit f_built f_ruleCount f_nullable f_stateCount f_edgeCount f_callSize f_pendingSize f_conflictCount f_height f_logSize f_low f_tip f_trialLog : Int32} {a_left a_length a_need a_rhs a_level a_side a_vanishing a_go a_follow a_head a_next a_target a_mark a_entry a_cursor a_callStack a_pending a_la a_base a_table a_check a_row a_symbols a_states a_log a_trialSymbols a_trialStates : Nat → Int32} {a_before a_corner a_sets : Nat → Int64}
theorem zx_XS_XC {sy st ts tt : Nat → Int32} (H : zx_XS g R n σ k h sy st) : zx_XC g R n σ k h h sy st ts tt :=
  ⟨Nat.le_refl _, fun i hi => ⟨fun _ => H.1 i hi, fun z => by omega⟩, fun i i1 i2 => ⟨fun _ => H.2 i i1 i2, fun z => by omega⟩⟩
theorem zx_topState (A : zl_AU g R n σ G) (H : zx_XS g R n σ k h a_symbols a_states) (h32 : h ≤ 32) {post : Int32 → Prop} (hp : ∀ s, s < n → σ s = zp_tp g R k h → post (nI s)) : wpX_topState post (f_maxRules, f_maxStates, f_maxNodes, f_maxEdges, f_maxSteps, f_maxLog, f_finished, f_lastTerminal, f_lastNonterminal, f_depthLimit, f_built, f_ruleCount, f_nullable, f_stateCount, f_edgeCount, f_callSize, f_pendingSize, f_conflictCount, nI h, f_logSize, f_low, f_tip, f_trialLog, a_left, a_length, a_need, a_rhs, a_level, a_side, a_before, a_corner, a_vanishing, a_sets, a_go, a_follow, a_head, a_next, a_target, a_mark, a_entry, a_cursor, a_callStack, a_pending, a_la, a_base, a_table, a_check, a_row, a_symbols, a_states, a_log, a_trialSymbols, a_trialStates) := by
  refine pk_eq h 0 (fun c => ?_) (fun c => ⟨vp_in_nI (by omega) (by omega), ?_⟩)
  · exact hp 0 A.1 (by rw [c]; exact A.2.2.1)
  · rw [za_c h (by omega)]
    obtain ⟨s, a, b, d⟩ := H.2 h (by omega) (Nat.le_refl _)
    rw [b]; exact hp s a d
theorem zx_trialTop (A : zl_AU g R n σ G) (H : zx_XC g R n σ k h low a_symbols a_states a_trialSymbols a_trialStates) (h32 : h ≤ 32) {post : Int32 → Prop} (hp : ∀ s, s < n → σ s = zp_tp g R k h → post (nI s)) : wpX_trialTop post (f_maxRules, f_maxStates, f_maxNodes, f_maxEdges, f_maxSteps, f_maxLog, f_finished, f_lastTerminal, f_lastNonterminal, f_depthLimit, f_built, f_ruleCount, f_nullable, f_stateCount, f_edgeCount, f_callSize, f_pendingSize, f_conflictCount, f_height, f_logSize, nI low, nI h, f_trialLog, a_left, a_length, a_need, a_rhs, a_level, a_side, a_before, a_corner, a_vanishing, a_sets, a_go, a_follow, a_head, a_next, a_target, a_mark, a_entry, a_cursor, a_callStack, a_pending, a_la, a_base, a_table, a_check, a_row, a_symbols, a_states, a_log, a_trialSymbols, a_trialStates) := by
  have hl := H.1
  refine pk_le h low (fun c => pk_eq h 0 (fun c' => ?_) (fun c' => ⟨vp_in_nI (by omega) (by omega), ?_⟩)) (fun c => ⟨vp_in_nI (by omega) (by omega), ?_⟩)
  · exact hp 0 A.1 (by rw [c']; exact A.2.2.1)
  · rw [za_c h (by omega)]
    obtain ⟨s, a, b, d⟩ := (H.2.2 h (by omega) (Nat.le_refl _)).1 c
    rw [b]; exact hp s a d
  · rw [za_c h (by omega)]
    obtain ⟨s, a, b, d⟩ := (H.2.2 h (by omega) (Nat.le_refl _)).2 c
    rw [b]; exact hp s a d
theorem zx_lay (A : zl_AU g R n σ G) (hgo : zx_GOA g n σ G a_go) (H : zx_XC g R n σ k h low a_symbols a_states a_trialSymbols a_trialStates) (h32 : h < 32) {x : Nat} (hx : x < 16) (hd : zg_Df g (zp_tp g R k h) x) {post : SX → Prop}
    (hp : ∀ ts tt : Nat → Int32, zx_XC g R n σ (zd_up k h x) (h + 1) low a_symbols a_states ts tt → post (f_maxRules, f_maxStates, f_maxNodes, f_maxEdges, f_maxSteps, f_maxLog, f_finished, f_lastTerminal, f_lastNonterminal, f_depthLimit, f_built, f_ruleCount, f_nullable, f_stateCount, f_edgeCount, f_callSize, f_pendingSize, f_conflictCount, f_height, f_logSize, nI low, nI (h + 1), f_trialLog, a_left, a_length, a_need, a_rhs, a_level, a_side, a_before, a_corner, a_vanishing, a_sets, a_go, a_follow, a_head, a_next, a_target, a_mark, a_entry, a_cursor, a_callStack, a_pending, a_la, a_base, a_table, a_check, a_row, a_symbols, a_states, a_log, ts, tt)) :
    wpX_lay post (f_maxRules, f_maxStates, f_maxNodes, f_maxEdges, f_maxSteps, f_maxLog, f_finished, f_lastTerminal, f_lastNonterminal, f_depthLimit, f_built, f_ruleCount, f_nullable, f_stateCount, f_edgeCount, f_callSize, f_pendingSize, f_conflictCount, f_height, f_logSize, nI low, nI h, f_trialLog, a_left, a_length, a_need, a_rhs, a_level, a_side, a_before, a_corner, a_vanishing, a_sets, a_go, a_follow, a_head, a_next, a_target, a_mark, a_entry, a_cursor, a_callStack, a_pending, a_la, a_base, a_table, a_check, a_row, a_symbols, a_states, a_log, a_trialSymbols, a_trialStates) (nI x) := by
  have n24 := A.2.1
  have hl := H.1
  unfold wpX_lay
  refine zx_trialTop A H (by omega) (fun s hs hσ => ?_)
  have df : zg_Df g (σ s) x := by rw [hσ]; exact hd
  have st := A.2.2.2.1 s x hs df
  refine ⟨vp_in_nI (by omega) (by omega), fun ts ets y ey => ?_⟩
  rw [za_c h (by omega)] at ets
  rw [nI_1] at ey
  subst ey
  rw [za_m16]
  refine ⟨vp_in_nI (by omega) (by omega), vp_in_nI (by omega) (by omega), fun tt ett => ?_⟩
  rw [za_c _ (by omega), za_c _ (by omega), (hgo s x hs hx).1 df] at ett
  refine hp ts tt ⟨by omega, fun i hi => ?_, fun i i1 i2 => ?_⟩
  · by_cases z : i = h
    · refine ⟨fun q => by omega, fun _ => ?_⟩
      rw [z, ets, pk_us, zd_us]
    · rw [zd_un z]
      refine ⟨(H.2.1 i (by omega)).1, fun q => ?_⟩
      rw [ets, pk_un z]; exact (H.2.1 i (by omega)).2 q
  · by_cases z : i = h + 1
    · refine ⟨fun q => by omega, fun _ => ⟨G s x, st.1, by rw [z, ett, pk_us], ?_⟩⟩
      rw [st.2, hσ, z, zp_tp_s]
    · rw [zp_tp_u (by omega)]
      refine ⟨(H.2.2 i i1 (by omega)).1, fun q => ?_⟩
      rw [ett, pk_un z]; exact (H.2.2 i i1 (by omega)).2 q
theorem zx_run26 {T D t h0 : Nat} (hT7 : T ≤ 7) (ht : t ≤ T) (hD : D ≤ 32) (hG : zx_GR g R a_left a_length a_need a_rhs) (A : zl_AU g R n σ G) (hgo : zx_GOA g n σ G a_go) (hTI : zx_TI (fun s => zx_rw g R T a_level a_side (σ s)) n a_base a_table a_check)
    {Q : Int32 → (Nat → Nat) → Nat → Nat → (Nat → Nat) → Prop} {post : Int32 → SX → Prop}
    (hQ : ∀ r (k : Nat → Nat) h lc lg low (log ts tt : Nat → Int32), Q r k h lc lg → zx_XC g R n σ k h low a_symbols a_states ts tt → (∀ i, i < lc → log i = nI (lg i)) → low ≤ h0 → post r (f_maxRules, f_maxStates, f_maxNodes, f_maxEdges, f_maxSteps, f_maxLog, f_finished, nI T, f_lastNonterminal, nI D, f_built, f_ruleCount, f_nullable, f_stateCount, f_edgeCount, f_callSize, f_pendingSize, f_conflictCount, f_height, f_logSize, nI low, nI h, nI lc, a_left, a_length, a_need, a_rhs, a_level, a_side, a_before, a_corner, a_vanishing, a_sets, a_go, a_follow, a_head, a_next, a_target, a_mark, a_entry, a_cursor, a_callStack, a_pending, a_la, a_base, a_table, a_check, a_row, a_symbols, a_states, log, ts, tt)) :
    ∀ f st (k : Nat → Nat) (h lc low : Nat) (lg : Nat → Nat) (log ts tt : Nat → Int32), st + f = 65 → zx_XC g R n σ k h low a_symbols a_states ts tt → (∀ i, i < lc → log i = nI (lg i)) → low ≤ h0 → zp_VS g R k h → h ≤ D → lc ≤ 64 →
      zp_R g R a_level a_side D t Q f k h lc lg → wX_run_26 post (nI t) (f + 1) (nI st) f_maxRules f_maxStates f_maxNodes f_maxEdges f_maxSteps f_maxLog f_finished (nI T) f_lastNonterminal (nI D) f_built f_ruleCount f_nullable f_stateCount f_edgeCount f_callSize f_pendingSize f_conflictCount f_height f_logSize (nI low) (nI h) (nI lc) a_left a_length a_need a_rhs a_level a_side a_before a_corner a_vanishing a_sets a_go a_follow a_head a_next a_target a_mark a_entry a_cursor a_callStack a_pending a_la a_base a_table a_check a_row a_symbols a_states log ts tt := by
  have ok := hG.1
  have r12 := ok.1
  have n24 := A.2.1
  intro f
  induction f with
  | zero =>
    intro st k h lc low lg log ts tt hst H hlg hlow v hh hl hR
    refine br_t ?_ (hQ _ k h lc lg low log ts tt hR H hlg hlow)
    rw [show st = 65 by omega]; decide
  | succ f ih =>
    intro st k h lc low lg log ts tt hst H hlg hlow v hh hl hR
    obtain ⟨q0, q64, q32, qm⟩ := hR
    refine br_f (nI_nlt (a := 64) (by omega) (by decide)) ?_
    refine zx_trialTop A H (by omega) (fun s hs hσ => ?_)
    refine zx_decision hs n24 hT7 ht hTI ?_
    rw [hσ]
    refine br_c (fun c => hQ _ k h lc lg low log ts tt (q0 c) H hlg hlow) (fun c0 => ?_)
    refine br_c (fun c => hQ _ k h lc lg low log ts tt (q64 c) H hlg hlow) (fun c64 => ?_)
    refine br_c (fun c => ?_) (fun c32 => ?_)
    · obtain ⟨u1, u2⟩ := q32 c
      refine pk_lt h D (fun ch => ?_) (fun ch => hQ _ k h lc lg low log ts tt (u1 (by omega)) H hlg hlow)
      refine zx_lay A hgo H (by omega) (by omega) (zc_dv32 r12 c) (fun ts' tt' H' => ?_)
      exact hQ _ _ (h + 1) lc lg low log ts' tt' (u2 (by omega)) H' hlg hlow
    · obtain ⟨m, m1, m2, m3, m4⟩ := zc_dv_red (lv := a_level) (sd := a_side) (S := zp_tp g R k h) (t := t) ok c0 c32 c64
      obtain ⟨u1, u2⟩ := qm m m1 m2 m3 m4
      obtain ⟨p1, p2⟩ := zp_red ok v m1 m4
      have l3 := zg_ln_le (g := g) m
      have g16 := ok.2.2.2.2.2.2.1 (4 * m)
      rw [m3]
      have full : (lc = 64 ∨ (zg_ln g m = 0 ∧ h = D)) → ((0 : Int32) = 0 → post (-4) (f_maxRules, f_maxStates, f_maxNodes, f_maxEdges, f_maxSteps, f_maxLog, f_finished, nI T, f_lastNonterminal, nI D, f_built, f_ruleCount, f_nullable, f_stateCount, f_edgeCount, f_callSize, f_pendingSize, f_conflictCount, f_height, f_logSize, nI low, nI h, nI lc, a_left, a_length, a_need, a_rhs, a_level, a_side, a_before, a_corner, a_vanishing, a_sets, a_go, a_follow, a_head, a_next, a_target, a_mark, a_entry, a_cursor, a_callStack, a_pending, a_la, a_base, a_table, a_check, a_row, a_symbols, a_states, log, ts, tt)) := fun z _ => hQ _ k h lc lg low log ts tt (u1 z) H hlg hlow
      refine pk_le 64 lc (fun c => br_t rfl (full (Or.inl (by omega)) rfl)) (fun c => ⟨vp_in_nI (by omega) (by omega), ?_⟩)
      rw [za_c m (by omega), hG.2.2.1 m m2]
      have go : ¬ (lc = 64 ∨ (zg_ln g m = 0 ∧ h = D)) → wX_reduce_31 (fun r_113 u => match u with | (f_maxRules, f_maxStates, f_maxNodes, f_maxEdges, f_maxSteps, f_maxLog, f_finished, f_lastTerminal, f_lastNonterminal, f_depthLimit, f_built, f_ruleCount, f_nullable, f_stateCount, f_edgeCount, f_callSize, f_pendingSize, f_conflictCount, f_height, f_logSize, f_low, f_tip, f_trialLog, a_left, a_length, a_need, a_rhs, a_level, a_side, a_before, a_corner, a_vanishing, a_sets, a_go, a_follow, a_head, a_next, a_target, a_mark, a_entry, a_cursor, a_callStack, a_pending, a_la, a_base, a_table, a_check, a_row, a_symbols, a_states, a_log, a_trialSymbols, a_trialStates) => ((r_113 = 0 → (post (-4) (f_maxRules, f_maxStates, f_maxNodes, f_maxEdges, f_maxSteps, f_maxLog, f_finished, f_lastTerminal, f_lastNonterminal, f_depthLimit, f_built, f_ruleCount, f_nullable, f_stateCount, f_edgeCount, f_callSize, f_pendingSize, f_conflictCount, f_height, f_logSize, f_low, f_tip, f_trialLog, a_left, a_length, a_need, a_rhs, a_level, a_side, a_before, a_corner, a_vanishing, a_sets, a_go, a_follow, a_head, a_next, a_target, a_mark, a_entry, a_cursor, a_callStack, a_pending, a_la, a_base, a_table, a_check, a_row, a_symbols, a_states, a_log, a_trialSymbols, a_trialStates))) ∧ (¬ r_113 = 0 → (∀ x2_168 : Int32, x2_168 = nI st + 1 → (wX_run_26 post (nI t) (f + 1) x2_168 f_maxRules f_maxStates f_maxNodes f_maxEdges f_maxSteps f_maxLog f_finished f_lastTerminal f_lastNonterminal f_depthLimit f_built f_ruleCount f_nullable f_stateCount f_edgeCount f_callSize f_pendingSize f_conflictCount f_height f_logSize f_low f_tip f_trialLog a_left a_length a_need a_rhs a_level a_side a_before a_corner a_vanishing a_sets a_go a_follow a_head a_next a_target a_mark a_entry a_cursor a_callStack a_pending a_la a_base a_table a_check a_row a_symbols a_states a_log a_trialSymbols a_trialStates))))) (nI m) f_maxRules f_maxStates f_maxNodes f_maxEdges f_maxSteps f_maxLog f_finished (nI T) f_lastNonterminal (nI D) f_built f_ruleCount f_nullable f_stateCount f_edgeCount f_callSize f_pendingSize f_conflictCount f_height f_logSize (nI low) (nI h) (nI lc) a_left a_length a_need a_rhs a_level a_side a_before a_corner a_vanishing a_sets a_go a_follow a_head a_next a_target a_mark a_entry a_cursor a_callStack a_pending a_la a_base a_table a_check a_row a_symbols a_states log ts tt := by
        intro z
        have tl : ∀ low' : Nat, low' ≤ h - zg_ln g m → low' ≤ low → (low' = h - zg_ln g m ∨ low' = low) → wX_reduce_65 (fun r_113 u => match u with | (f_maxRules, f_maxStates, f_maxNodes, f_maxEdges, f_maxSteps, f_maxLog, f_finished, f_lastTerminal, f_lastNonterminal, f_depthLimit, f_built, f_ruleCount, f_nullable, f_stateCount, f_edgeCount, f_callSize, f_pendingSize, f_conflictCount, f_height, f_logSize, f_low, f_tip, f_trialLog, a_left, a_length, a_need, a_rhs, a_level, a_side, a_before, a_corner, a_vanishing, a_sets, a_go, a_follow, a_head, a_next, a_target, a_mark, a_entry, a_cursor, a_callStack, a_pending, a_la, a_base, a_table, a_check, a_row, a_symbols, a_states, a_log, a_trialSymbols, a_trialStates) => ((r_113 = 0 → (post (-4) (f_maxRules, f_maxStates, f_maxNodes, f_maxEdges, f_maxSteps, f_maxLog, f_finished, f_lastTerminal, f_lastNonterminal, f_depthLimit, f_built, f_ruleCount, f_nullable, f_stateCount, f_edgeCount, f_callSize, f_pendingSize, f_conflictCount, f_height, f_logSize, f_low, f_tip, f_trialLog, a_left, a_length, a_need, a_rhs, a_level, a_side, a_before, a_corner, a_vanishing, a_sets, a_go, a_follow, a_head, a_next, a_target, a_mark, a_entry, a_cursor, a_callStack, a_pending, a_la, a_base, a_table, a_check, a_row, a_symbols, a_states, a_log, a_trialSymbols, a_trialStates))) ∧ (¬ r_113 = 0 → (∀ x2_168 : Int32, x2_168 = nI st + 1 → (wX_run_26 post (nI t) (f + 1) x2_168 f_maxRules f_maxStates f_maxNodes f_maxEdges f_maxSteps f_maxLog f_finished f_lastTerminal f_lastNonterminal f_depthLimit f_built f_ruleCount f_nullable f_stateCount f_edgeCount f_callSize f_pendingSize f_conflictCount f_height f_logSize f_low f_tip f_trialLog a_left a_length a_need a_rhs a_level a_side a_before a_corner a_vanishing a_sets a_go a_follow a_head a_next a_target a_mark a_entry a_cursor a_callStack a_pending a_la a_base a_table a_check a_row a_symbols a_states a_log a_trialSymbols a_trialStates))))) (nI m) f_maxRules f_maxStates f_maxNodes f_maxEdges f_maxSteps f_maxLog f_finished (nI T) f_lastNonterminal (nI D) f_built f_ruleCount f_nullable f_stateCount f_edgeCount f_callSize f_pendingSize f_conflictCount f_height f_logSize (nI low') (nI (h - zg_ln g m)) (nI lc) a_left a_length a_need a_rhs a_level a_side a_before a_corner a_vanishing a_sets a_go a_follow a_head a_next a_target a_mark a_entry a_cursor a_callStack a_pending a_la a_base a_table a_check a_row a_symbols a_states log ts tt := by
          intro low' l1 l2 l3'
          refine ⟨vp_in_nI (by omega) (by omega), ?_⟩
          rw [za_c m (by omega), hG.2.1 m m2]
          have H2 : zx_XC g R n σ k (h - zg_ln g m) low' a_symbols a_states ts tt := by
            refine ⟨l1, fun i hi => ⟨fun q => (H.2.1 i (by omega)).1 (by omega), fun q => (H.2.1 i (by omega)).2 (by omega)⟩, fun i i1 i2 => ⟨fun q => (H.2.2 i i1 (by omega)).1 (by omega), fun q => (H.2.2 i i1 (by omega)).2 (by omega)⟩⟩
          refine zx_lay A hgo H2 (by omega) g16 p2 (fun ts' tt' H' => ?_)
          refine ⟨vp_in_nI (by omega) (by omega), fun log' el y ey => ?_⟩
          rw [za_c lc (by omega)] at el
          rw [nI_1] at ey
          subst ey
          refine br_f (by decide) (fun y ey => ?_)
          rw [ey, nI_1]
          refine ih (st + 1) _ (h - zg_ln g m + 1) (lc + 1) low' (zd_up lg lc m) log' ts' tt' (by omega) H' (fun i hi => ?_) (by omega) (zp_VS_u v (by omega) p2) (by omega) (by omega) (u2 z)
          by_cases w : i = lc
          · rw [w, el, pk_us, zd_us]
          · rw [el, pk_un w, zd_un w]; exact hlg i (by omega)
        refine ⟨vp_in_nI (by omega) (by omega), fun y ey => ?_⟩
        rw [za_c m (by omega), hG.2.2.1 m m2, pk_sub p1] at ey
        subst ey
        have lh := H.1
        exact pk_le low (h - zg_ln g m) (fun c => tl low c (Nat.le_refl _) (Or.inr rfl)) (fun c => tl (h - zg_ln g m) (Nat.le_refl _) (by omega) (Or.inl rfl))
      refine pk_eq (zg_ln g m) 0 (fun c1 => pk_lt h D (fun c2 => go (fun z => by omega)) (fun c2 => br_t rfl (full (Or.inr ⟨c1, by omega⟩) rfl))) (fun c1 => go (fun z => by omega))
theorem zx_run {T D t h lc : Nat} {lg : Nat → Nat} (hT7 : T ≤ 7) (ht : t ≤ T) (hD : D ≤ 32) (hG : zx_GR g R a_left a_length a_need a_rhs) (A : zl_AU g R n σ G) (hgo : zx_GOA g n σ G a_go) (hTI : zx_TI (fun s => zx_rw g R T a_level a_side (σ s)) n a_base a_table a_check)
    (H : zx_XS g R n σ k h a_symbols a_states) (hlg : ∀ i, i < lc → a_log i = nI (lg i)) (v : zp_VS g R k h) (hh : h ≤ D) (hl : lc ≤ 64)
    {Q : Int32 → (Nat → Nat) → Nat → Nat → (Nat → Nat) → Prop} {post : Int32 → SX → Prop}
    (hQ : ∀ r (k : Nat → Nat) h1 lc1 lg low (log ts tt : Nat → Int32), Q r k h1 lc1 lg → zx_XC g R n σ k h1 low a_symbols a_states ts tt → (∀ i, i < lc1 → log i = nI (lg i)) → low ≤ h → post r (f_maxRules, f_maxStates, f_maxNodes, f_maxEdges, f_maxSteps, f_maxLog, f_finished, nI T, f_lastNonterminal, nI D, f_built, f_ruleCount, f_nullable, f_stateCount, f_edgeCount, f_callSize, f_pendingSize, f_conflictCount, nI h, nI lc, nI low, nI h1, nI lc1, a_left, a_length, a_need, a_rhs, a_level, a_side, a_before, a_corner, a_vanishing, a_sets, a_go, a_follow, a_head, a_next, a_target, a_mark, a_entry, a_cursor, a_callStack, a_pending, a_la, a_base, a_table, a_check, a_row, a_symbols, a_states, log, ts, tt))
    (hR : zp_R g R a_level a_side D t Q 65 k h lc lg) : wpX_run post (f_maxRules, f_maxStates, f_maxNodes, f_maxEdges, f_maxSteps, f_maxLog, f_finished, nI T, f_lastNonterminal, nI D, f_built, f_ruleCount, f_nullable, f_stateCount, f_edgeCount, f_callSize, f_pendingSize, f_conflictCount, nI h, nI lc, f_low, f_tip, f_trialLog, a_left, a_length, a_need, a_rhs, a_level, a_side, a_before, a_corner, a_vanishing, a_sets, a_go, a_follow, a_head, a_next, a_target, a_mark, a_entry, a_cursor, a_callStack, a_pending, a_la, a_base, a_table, a_check, a_row, a_symbols, a_states, a_log, a_trialSymbols, a_trialStates) (nI t) :=
  ⟨66, zx_run26 (h0 := h) hT7 ht hD hG A hgo hTI hQ 65 0 k h lc h lg a_log a_trialSymbols a_trialStates (by omega) (zx_XS_XC H) hlg (Nat.le_refl _) v hh hl hR⟩
theorem zx_cm5 {lc : Nat} (h32 : h ≤ 32) (H : zx_XC g R n σ k h low a_symbols a_states a_trialSymbols a_trialStates) {post : SX → Prop}
    (hp : ∀ sy st : Nat → Int32, zx_XS g R n σ k h sy st → post (f_maxRules, f_maxStates, f_maxNodes, f_maxEdges, f_maxSteps, f_maxLog, f_finished, f_lastTerminal, f_lastNonterminal, f_depthLimit, f_built, f_ruleCount, f_nullable, f_stateCount, f_edgeCount, f_callSize, f_pendingSize, f_conflictCount, nI h, nI lc, nI low, nI h, nI lc, a_left, a_length, a_need, a_rhs, a_level, a_side, a_before, a_corner, a_vanishing, a_sets, a_go, a_follow, a_head, a_next, a_target, a_mark, a_entry, a_cursor, a_callStack, a_pending, a_la, a_base, a_table, a_check, a_row, sy, st, a_log, a_trialSymbols, a_trialStates)) :
    ∀ f i (sy st : Nat → Int32), low ≤ i → i ≤ h → h - i < f → zx_XS g R n σ k i sy st → wX_commit_5 post f_maxRules f_maxStates f_maxNodes f_maxEdges f_maxSteps f_maxLog f_finished f_lastTerminal f_lastNonterminal f_depthLimit f_built f_ruleCount f_nullable f_stateCount f_edgeCount f_callSize f_pendingSize f_conflictCount f_height f_logSize (nI low) (nI h) (nI lc) f (nI i) a_left a_length a_need a_rhs a_level a_side a_before a_corner a_vanishing a_sets a_go a_follow a_head a_next a_target a_mark a_entry a_cursor a_callStack a_pending a_la a_base a_table a_check a_row sy st a_log a_trialSymbols a_trialStates := by
  intro f
  induction f with
  | zero => intro i sy st _ _ hf; omega
  | succ f ih =>
    intro i sy st hi hih hf HS
    refine pk_le h i (fun c => ?_) (fun c => ?_)
    · have e : i = h := by omega
      subst e
      exact hp sy st HS
    · rw [nI_1]
      refine ⟨vp_in_nI (by omega) (by omega), vp_in_nI (by omega) (by omega), fun sy' es => ⟨vp_in_nI (by omega) (by omega), vp_in_nI (by omega) (by omega), fun st' et y ey => ?_⟩⟩
      rw [za_c _ (by omega)] at es et
      rw [ey]
      refine ih (i + 1) sy' st' (by omega) (by omega) (by omega) ⟨fun j hj => ?_, fun j j1 j2 => ?_⟩
      · by_cases z : j = i
        · rw [z, es, pk_us]; exact (H.2.1 i c).2 hi
        · rw [es, pk_un z]; exact HS.1 j (by omega)
      · by_cases z : j = i + 1
        · rw [z, et, pk_us]; exact (H.2.2 (i + 1) (by omega) (by omega)).2 (by omega)
        · rw [et, pk_un z]; exact HS.2 j j1 (by omega)
theorem zx_commit {lc : Nat} (h32 : h ≤ 32) (H : zx_XC g R n σ k h low a_symbols a_states a_trialSymbols a_trialStates) {post : SX → Prop}
    (hp : ∀ sy st : Nat → Int32, zx_XS g R n σ k h sy st → post (f_maxRules, f_maxStates, f_maxNodes, f_maxEdges, f_maxSteps, f_maxLog, f_finished, f_lastTerminal, f_lastNonterminal, f_depthLimit, f_built, f_ruleCount, f_nullable, f_stateCount, f_edgeCount, f_callSize, f_pendingSize, f_conflictCount, nI h, nI lc, nI low, nI h, nI lc, a_left, a_length, a_need, a_rhs, a_level, a_side, a_before, a_corner, a_vanishing, a_sets, a_go, a_follow, a_head, a_next, a_target, a_mark, a_entry, a_cursor, a_callStack, a_pending, a_la, a_base, a_table, a_check, a_row, sy, st, a_log, a_trialSymbols, a_trialStates)) :
    wpX_commit post (f_maxRules, f_maxStates, f_maxNodes, f_maxEdges, f_maxSteps, f_maxLog, f_finished, f_lastTerminal, f_lastNonterminal, f_depthLimit, f_built, f_ruleCount, f_nullable, f_stateCount, f_edgeCount, f_callSize, f_pendingSize, f_conflictCount, f_height, f_logSize, nI low, nI h, nI lc, a_left, a_length, a_need, a_rhs, a_level, a_side, a_before, a_corner, a_vanishing, a_sets, a_go, a_follow, a_head, a_next, a_target, a_mark, a_entry, a_cursor, a_callStack, a_pending, a_la, a_base, a_table, a_check, a_row, a_symbols, a_states, a_log, a_trialSymbols, a_trialStates) :=
  ⟨h + 1, zx_cm5 h32 H hp (h + 1) low a_symbols a_states (Nat.le_refl _) H.1 (by omega) ⟨fun i hi => (H.2.1 i (by have := H.1; omega)).1 hi, fun i i1 i2 => (H.2.2 i i1 (by have := H.1; omega)).1 i2⟩⟩
end ZX
end
section
/-! Y: len, decide, top, action -/
def zy_DI (P : Nat → Prop) (R k : Nat) (x3 : Int32) (c : Nat) : Prop :=
  (((∀ r, k ≤ r → ¬ P r) ∧ x3 = -1) ∨ (∃ m, k ≤ m ∧ m ≤ R ∧ P m ∧ (∀ j, k ≤ j → j < m → ¬ P j) ∧ x3 = nI m)) ∧
  (c = 0 ↔ ∀ r, k ≤ r → ¬ P r) ∧ (2 ≤ c ↔ ∃ r r', r ≠ r' ∧ k ≤ r ∧ k ≤ r' ∧ P r ∧ P r') ∧ c + k ≤ R + 1
theorem zy_DI_n {P : Nat → Prop} {R k c : Nat} {x3 : Int32} (h : zy_DI P R (k + 1) x3 c) (hn : ¬ P k) : zy_DI P R k x3 c := by
  obtain ⟨h1, h2, h3, h4⟩ := h
  have nk : ∀ r, k ≤ r → P r → k + 1 ≤ r := fun r a b => by
    rcases Nat.lt_or_ge k r with z | z
    · omega
    · have : r = k := by omega
      subst this; exact absurd b hn
  refine ⟨?_, ?_, ?_, by omega⟩
  · rcases h1 with ⟨a, b⟩ | ⟨m, a, b, d, e, f⟩
    · exact Or.inl ⟨fun r z w => a r (nk r z w) w, b⟩
    · exact Or.inr ⟨m, by omega, b, d, fun j z w y => e j (nk j z y) w y, f⟩
  · rw [h2]; exact ⟨fun a r z w => a r (nk r z w) w, fun a r z => a r (by omega)⟩
  · rw [h3]
    constructor
    · rintro ⟨r, r', a, b, d, e⟩; exact ⟨r, r', a, by omega, by omega, e⟩
    · rintro ⟨r, r', a, b, d, e, f⟩; exact ⟨r, r', a, nk r b e, nk r' d f, e, f⟩
theorem zy_DI_s {P : Nat → Prop} {R k c : Nat} {x3 : Int32} (h : zy_DI P R (k + 1) x3 c) (hk : k ≤ R) (hp : P k) : zy_DI P R k (nI k) (c + 1) := by
  obtain ⟨h1, h2, h3, h4⟩ := h
  refine ⟨Or.inr ⟨k, Nat.le_refl _, hk, hp, fun j a b => by omega, rfl⟩, ⟨fun z => by omega, fun z => absurd hp (z k (Nat.le_refl _))⟩, ?_, by omega⟩
  constructor
  · intro z
    have c0 : ¬ ∀ r, k + 1 ≤ r → ¬ P r := fun w => by have := h2.mpr w; omega
    rcases Classical.em (∃ r, k + 1 ≤ r ∧ P r) with ⟨r, a, b⟩ | w
    · exact ⟨k, r, by omega, Nat.le_refl _, by omega, hp, b⟩
    · exact absurd (fun r a b => w ⟨r, a, b⟩) c0
  · rintro ⟨r, r', a, b, d, e, f⟩
    rcases Nat.eq_zero_or_pos c with z | z
    · have w := h2.mp z
      have e1 : r = k := by
        rcases Nat.lt_or_ge k r with y | y
        · exact absurd e (w r (by omega))
        · omega
      have e2 : r' = k := by
        rcases Nat.lt_or_ge k r' with y | y
        · exact absurd f (w r' (by omega))
        · omega
      omega
    · omega
section ZY
variable {g : Nat → Nat} {R m : Nat} {G : Nat → Nat → Nat} {g_terms g_nons g_depth g_built g_clash g_changed g_rules g_states g_size g_logged g_oldSize g_oldLogged : Int32} {b_part b_levels b_sides b_productive b_nullable b_first b_holds b_la b_stack b_oldStack b_log : Nat → Int32}
theorem zy_len (hG : zy_GR g R b_part) {r : Nat} (hr : r ≤ R) {post : Int32 → Prop} (hp : post (nI (zg_ln g r))) : wpY_len post (g_terms, g_nons, g_depth, g_built, g_clash, g_changed, g_rules, g_states, g_size, g_logged, g_oldSize, g_oldLogged, b_part, b_levels, b_sides, b_productive, b_nullable, b_first, b_holds, b_la, b_stack, b_oldStack, b_log) (nI r) := by
  have ok := hG.1
  have r12 := ok.1
  have g16 := ok.2.2.2.2.2.2.1
  have e1 : nI r * 4 + 1 = nI (4 * r + 1) := za_m4 r 1
  have e2 : nI r * 4 + 2 = nI (4 * r + 2) := za_m4 r 2
  have e3 : nI r * 4 + 3 = nI (4 * r + 3) := za_m4 r 3
  have b1 := g16 (4 * r + 1)
  have b2 := g16 (4 * r + 2)
  have b3 := g16 (4 * r + 3)
  unfold zg_ln at hp
  unfold wpY_len
  dsimp only
  rw [e1, e2, e3]
  refine ⟨vp_in_nI (by omega) (by omega), ?_⟩
  rw [za_c (4 * r + 1) (by omega), za_c (4 * r + 2) (by omega), za_c (4 * r + 3) (by omega), hG.2 _ (by omega), hG.2 _ (by omega), hG.2 _ (by omega)]
  refine pk_eq (g (4 * r + 1)) 0 (fun c => ?_) (fun c => ⟨vp_in_nI (by omega) (by omega), pk_eq (g (4 * r + 2)) 0 (fun c' => ?_) (fun c' => ⟨vp_in_nI (by omega) (by omega), pk_eq (g (4 * r + 3)) 0 (fun c2 => ?_) (fun c2 => ?_)⟩)⟩)
  · rw [if_pos c] at hp; exact hp
  · rw [if_neg c, if_pos c'] at hp; exact hp
  · rw [if_neg c, if_neg c', if_pos c2] at hp; exact hp
  · rw [if_neg c, if_neg c', if_neg c2] at hp; exact hp
theorem zy_dc143 (hG : zy_GR g R b_part) {t p : Nat} (ht : t < 8) (hp' : p ≤ R) {post : Int32 → SY → Prop} {z0 : Int32}
    (h0 : (b_levels t = 0 ∨ zc_own g b_levels p = 0) → post 32 (g_terms, g_nons, g_depth, g_built, 1, g_changed, g_rules, g_states, g_size, g_logged, g_oldSize, g_oldLogged, b_part, b_levels, b_sides, b_productive, b_nullable, b_first, b_holds, b_la, b_stack, b_oldStack, b_log)) (h1 : ¬ (b_levels t = 0 ∨ zc_own g b_levels p = 0) → post (zc_rs b_levels b_sides (zc_own g b_levels p) p t) (g_terms, g_nons, g_depth, g_built, z0, g_changed, g_rules, g_states, g_size, g_logged, g_oldSize, g_oldLogged, b_part, b_levels, b_sides, b_productive, b_nullable, b_first, b_holds, b_la, b_stack, b_oldStack, b_log)) :
    ∀ f j, j ≤ 3 → 3 - j < f → wY_decide_143 post (nI t) (nI p) g_terms g_nons g_depth g_built z0 g_changed g_rules g_states g_size g_logged g_oldSize g_oldLogged b_part b_levels b_sides b_productive b_nullable b_first b_holds b_la b_stack b_oldStack b_log f (zc_ow g b_levels p j) (nI (4 * p + 1 + j)) := by
  have ok := hG.1
  have r12 := ok.1
  have g16 := ok.2.2.2.2.2.2.1
  intro f
  induction f with
  | zero => intro j _ h; omega
  | succ f ih =>
    intro j hj hf
    refine pk_le (4 * p + 4) (4 * p + 1 + j) (fun h => ?_) (fun h => ?_) (za_m4 p 4)
    · have e : j = 3 := by omega
      subst e
      rw [zc_ow3]
      refine ⟨vp_in_nI (by omega) (by omega), ?_⟩
      rw [za_c t (by omega)]
      refine br_c (fun c => h0 (Or.inl c)) (fun c => br_c (fun c' => h0 (Or.inr c')) (fun c' => ⟨vp_in_nI (by omega) (by omega), ?_⟩))
      have nn : ¬ (b_levels t = 0 ∨ zc_own g b_levels p = 0) := fun z => z.elim c c'
      have h1 := h1 nn
      unfold zc_rs at h1
      rw [if_neg nn] at h1
      refine br_c (fun c1 => ⟨vp_in_nI (by omega) (by omega), ?_⟩) (fun c1 => ⟨vp_in_nI (by omega) (by omega), ?_⟩)
      · rw [if_pos c1] at h1
        refine br_c (fun c2 => ?_) (fun c2 => ⟨vp_in_nI (by omega) (by omega), br_c (fun c3 => ?_) (fun c3 => ?_)⟩)
        · rw [if_pos c2] at h1; exact h1
        · rw [if_neg c2, if_pos c3] at h1; exact h1
        · rw [if_neg c2, if_neg c3] at h1; exact h1
      · rw [if_neg c1] at h1
        refine br_c (fun c2 => ?_) (fun c2 => ?_)
        · rw [if_pos c2] at h1; exact h1
        · rw [if_neg c2] at h1; exact h1
    · have gi := g16 (4 * p + 1 + j)
      have ep : b_part (nI (4 * p + 1 + j)).toNatClampNeg = nI (g (4 * p + 1 + j)) := by rw [za_c _ (by omega)]; exact hG.2 _ (by omega)
      have eo : zc_ow g b_levels p (j + 1) = if 0 < g (4 * p + 1 + j) ∧ g (4 * p + 1 + j) < 8 then b_levels (g (4 * p + 1 + j)) else zc_ow g b_levels p j := rfl
      refine ⟨vp_in_nI (by omega) (by omega), ?_⟩
      rw [ep]
      refine pk_le (g (4 * p + 1 + j)) 0 (fun c y ey => ?_) (fun c => ⟨vp_in_nI (by omega) (by omega), pk_le 8 (g (4 * p + 1 + j)) (fun c' y ey => ?_) (fun c' => ⟨vp_in_nI (by omega) (by omega), vp_in_nI (by omega) (by omega), fun w ew y ey => ?_⟩)⟩)
      · rw [if_neg (by omega)] at eo
        rw [ey, nI_1, ← eo]
        exact ih (j + 1) (by omega) (by omega)
      · rw [if_neg (by omega)] at eo
        rw [ey, nI_1, ← eo]
        exact ih (j + 1) (by omega) (by omega)
      · rw [if_pos ⟨c, c'⟩] at eo
        rw [za_c _ (by omega), ← eo] at ew
        rw [ey, ew, nI_1]
        exact ih (j + 1) (by omega) (by omega)
theorem zy_dc14 (hG : zy_GR g R b_part) (A : zl_AU g R m (zy_sg b_holds) G) (h01 : zy_01 m b_holds) (hla : ∀ q e t, q < m → e < 52 → (zb (b_la (q * 52 + e)) t ↔ zl_LA g R (zy_sg b_holds q) e t)) {q t : Nat} (hq : q < m) (ht : t < 8) {post : Int32 → SY → Prop}
    (hp : post (zc_dv g R b_levels b_sides (zy_sg b_holds q) t) (g_terms, g_nons, g_depth, g_built, zc_if (zc_cl g R b_levels (zy_sg b_holds q) t) 1 0, g_changed, nI R, nI m, g_size, g_logged, g_oldSize, g_oldLogged, b_part, b_levels, b_sides, b_productive, b_nullable, b_first, b_holds, b_la, b_stack, b_oldStack, b_log)) :
    ∀ f k x3 c, k ≤ R + 1 → k < f → zy_DI (zc_red g R (zy_sg b_holds q) t) R k x3 c → wY_decide_14 post (nI q) (nI t) 0 g_terms g_nons g_depth g_built g_clash g_changed (nI R) (nI m) g_size g_logged g_oldSize g_oldLogged b_part b_levels b_sides b_productive b_nullable b_first b_holds b_la b_stack b_oldStack b_log f x3 (nI c) (nI k - 1) := by
  have ok := hG.1
  have r12 := ok.1
  have m24 := A.2.1
  intro f
  induction f with
  | zero => intro k x3 c _ h; omega
  | succ f ih =>
    intro k x3 c hk hf hD
    rcases Nat.eq_zero_or_pos k with k0 | k0
    · subst k0
      obtain ⟨d1, d2, d3, d4⟩ := hD
      refine br_t za_neg ?_
      have fin : ∀ z : Int32, (z = 0 → ¬ zg_Df g (zy_sg b_holds q) t) → (z ≠ 0 → zg_Df g (zy_sg b_holds q) t) → wY_decide_87 post (nI t) x3 (nI c) 0 z g_terms g_nons g_depth g_built g_clash g_changed (nI R) (nI m) g_size g_logged g_oldSize g_oldLogged b_part b_levels b_sides b_productive b_nullable b_first b_holds b_la b_stack b_oldStack b_log := by
        intro z hz1 hz2
        have j101 : ∀ w : Int32, (w = 0 ∧ ¬ 2 ≤ c) ∨ (w = 1 ∧ 2 ≤ c) → wY_decide_101 post (nI t) x3 0 z w g_terms g_nons g_depth g_built g_clash g_changed (nI R) (nI m) g_size g_logged g_oldSize g_oldLogged b_part b_levels b_sides b_productive b_nullable b_first b_holds b_la b_stack b_oldStack b_log := by
          intro w hw
          refine ⟨?_, ?_, ?_⟩
          · rcases hw with ⟨e, _⟩ | ⟨e, _⟩ <;> rw [e]
            · exact narrow_b0
            · exact narrow_b1
          · rcases hw with ⟨e, _⟩ | ⟨e, _⟩ <;> rw [e] <;> decide
          · rcases d1 with ⟨a, b⟩ | ⟨p, a1, a2, a3, a4, a5⟩
            · have nr : ∀ r, ¬ zc_red g R (zy_sg b_holds q) t r := fun r => a r (by omega)
              obtain ⟨s1, s2, s3⟩ := zc_none (lv := b_levels) (sd := b_sides) nr
              rw [zc_f s3] at hp
              have w0 : w = 0 := by
                rcases hw with ⟨e, _⟩ | ⟨_, e⟩
                · exact e
                · obtain ⟨r, _, _, _, _, y, _⟩ := d3.mp e
                  exact absurd y (nr r)
              rw [b, w0]
              refine br_f (by decide) (br_c (fun cz => ?_) (fun cz => ?_))
              · rw [s2 (hz1 cz)] at hp; exact hp
              · rw [s1 (hz2 cz)] at hp; exact hp
            · have a4' : ∀ j, j < p → ¬ zc_red g R (zy_sg b_holds q) t j := fun j hj => a4 j (by omega) hj
              obtain ⟨s1, s2, s3⟩ := zc_some (lv := b_levels) (sd := b_sides) a3 a4'
              have wsev : (∃ r, p < r ∧ zc_red g R (zy_sg b_holds q) t r) ↔ 2 ≤ c := by
                rw [d3]
                constructor
                · rintro ⟨r, y1, y2⟩; exact ⟨p, r, by omega, by omega, by omega, a3, y2⟩
                · rintro ⟨r, r', y1, _, _, y2, y3⟩
                  rcases Nat.lt_trichotomy r p with u | u | u
                  · exact absurd y2 (a4' r u)
                  · refine ⟨r', ?_, y3⟩
                    rcases Nat.lt_trichotomy r' p with u' | u' | u'
                    · exact absurd y3 (a4' r' u')
                    · omega
                    · exact u'
                  · exact ⟨r, u, y2⟩
              rw [a5]
              refine br_t (nI_pos' (by omega)) (br_c (fun cz => ?_) (fun cz => ?_))
              · have nd := hz1 cz
                have ec : zc_if (zc_cl g R b_levels (zy_sg b_holds q) t) (1 : Int32) 0 = w := by
                  rcases hw with ⟨e, e2⟩ | ⟨e, e2⟩
                  · rw [e, zc_f]; rw [s3]; rintro (y | y)
                    · exact e2 (wsev.mp y)
                    · exact nd y.1
                  · rw [e, zc_t]; rw [s3]; exact Or.inl (wsev.mpr e2)
                rw [s2 nd, ec] at hp
                refine pk_eq p 0 (fun e => ?_) (fun e => ?_)
                · rw [if_pos e] at hp; exact hp
                · rw [if_neg e] at hp; exact hp
              · have dd := hz2 cz
                rw [s1 dd] at hp
                intro y ey
                rw [show nI p * 4 + 1 = nI (4 * p + 1) from za_m4 p 1] at ey
                rw [ey]
                refine ⟨4, zy_dc143 hG ht a2 (fun y => ?_) (fun y => ?_) 4 0 (by omega) (by omega)⟩
                · rw [zc_t (s3.mpr (Or.inr ⟨dd, y⟩))] at hp
                  unfold zc_rs at hp
                  rw [if_pos y] at hp
                  exact hp
                · have ec : zc_if (zc_cl g R b_levels (zy_sg b_holds q) t) (1 : Int32) 0 = w := by
                    rcases hw with ⟨e, e2⟩ | ⟨e, e2⟩
                    · rw [e, zc_f]; rw [s3]; rintro (y' | y')
                      · exact e2 (wsev.mp y')
                      · exact y y'.2
                    · rw [e, zc_t]; rw [s3]; exact Or.inl (wsev.mpr e2)
                  rw [ec] at hp
                  exact hp
        exact pk_le c 1 (fun y => j101 0 (Or.inl ⟨rfl, by omega⟩)) (fun y => j101 1 (Or.inr ⟨rfl, by omega⟩))
      refine zy_goA hG A h01 hq (by omega) (fun d => ?_) (fun d => ?_)
      · have st := A.2.2.2.1 q t hq d
        exact br_f (nI_pos (by omega)) (fin 1 (fun z => absurd z (by decide)) (fun _ => d))
      · exact br_t (by decide) (fin 0 (fun _ => d) (fun z => absurd rfl z))
    · obtain ⟨r, rfl⟩ : ∃ r, k = r + 1 := ⟨k - 1, by omega⟩
      have hr : r ≤ R := by omega
      have l3 := zg_ln_le (g := g) r
      rw [nI_pred]
      refine br_f (nI_pos (by omega)) ?_
      refine zy_len hG hr (fun x7 e7 => ?_)
      have e7' : nI q * 52 + nI r * 4 + nI (zg_ln g r) = nI (q * 52 + (4 * r + zg_ln g r)) := by
        rw [za_x4, za_m52, nI_add, Nat.add_assoc]
      rw [e7'] at e7
      subst e7
      have lt52 : 4 * r + zg_ln g r < 52 := by omega
      refine ⟨vp_in_nI (by omega) (by omega), ?_⟩
      rw [za_c _ (by omega)]
      have la := hla q (4 * r + zg_ln g r) t hq lt52
      have red : zc_red g R (zy_sg b_holds q) t r ↔ zb (b_la (q * 52 + (4 * r + zg_ln g r))) t := by
        rw [la]
        exact ⟨fun z => z.2, fun z => ⟨hr, z⟩⟩
      refine br_c (fun c1 y ey => ?_) (fun c1 => ⟨vp_in_nI (by omega) (by omega), br_c (fun c2 y ey => ?_) (fun c2 y ey z ez => ?_)⟩)
      · rw [ey, za_dec]
        exact ih r x3 c (by omega) (by omega) (zy_DI_n hD (fun z => (zl_LA_S z.2).2.2 c1))
      · rw [zb_get (by omega)] at c2
        rw [ey, za_dec]
        exact ih r x3 c (by omega) (by omega) (zy_DI_n hD (fun z => c2 (red.mp z)))
      · rw [zb_get (by omega)] at c2
        rw [ez, ey, za_dec, nI_1]
        exact ih r (nI r) (c + 1) (by omega) (by omega) (zy_DI_s hD hr (red.mpr (Classical.not_not.mp c2)))
theorem zy_decide (hG : zy_GR g R b_part) (A : zl_AU g R m (zy_sg b_holds) G) (h01 : zy_01 m b_holds) (hla : ∀ q e t, q < m → e < 52 → (zb (b_la (q * 52 + e)) t ↔ zl_LA g R (zy_sg b_holds q) e t)) {q t : Nat} (hq : q < m) (ht : t < 8) {post : Int32 → SY → Prop}
    (hp : post (zc_dv g R b_levels b_sides (zy_sg b_holds q) t) (g_terms, g_nons, g_depth, g_built, zc_if (zc_cl g R b_levels (zy_sg b_holds q) t) 1 0, g_changed, nI R, nI m, g_size, g_logged, g_oldSize, g_oldLogged, b_part, b_levels, b_sides, b_productive, b_nullable, b_first, b_holds, b_la, b_stack, b_oldStack, b_log)) :
    wpY_decide post (g_terms, g_nons, g_depth, g_built, g_clash, g_changed, nI R, nI m, g_size, g_logged, g_oldSize, g_oldLogged, b_part, b_levels, b_sides, b_productive, b_nullable, b_first, b_holds, b_la, b_stack, b_oldStack, b_log) (nI q) (nI t) := by
  refine ⟨R + 2, ?_⟩
  have key := zy_dc14 (g_clash := g_clash) (post := post) hG A h01 hla hq ht hp (R + 2) (R + 1) (-1) 0 (by omega) (by omega) ⟨Or.inl ⟨fun r a b => by have := b.1; omega, rfl⟩, ⟨fun _ r a b => by have := b.1; omega, fun _ => rfl⟩, ⟨fun z => by omega, fun ⟨r, r', _, a, _, b, _⟩ => by have := b.1; omega⟩, by omega⟩
  rw [nI_pred] at key
  exact key
theorem zy_top4 (hG : zy_GR g R b_part) (A : zl_AU g R m (zy_sg b_holds) G) (h01 : zy_01 m b_holds) {k : Nat → Nat} {h : Nat} (h32 : h ≤ 32) (v : zp_VS g R k h) (hst : ∀ i, i < h → b_stack i = nI (k i)) {post : Int32 → Prop}
    (hp : ∀ q, q < m → zy_sg b_holds q = zp_tp g R k h → post (nI q)) :
    ∀ f i q, i ≤ h → h - i < f → q < m → zy_sg b_holds q = zp_tp g R k i → wY_top_4 post g_terms g_nons g_depth g_built g_clash g_changed g_rules (nI m) (nI h) g_logged g_oldSize g_oldLogged b_part b_levels b_sides b_productive b_nullable b_first b_holds b_la b_stack b_oldStack b_log f (nI q) (nI i) := by
  intro f
  induction f with
  | zero => intro i q _ h; omega
  | succ f ih =>
    intro i q hi hf hq hs
    refine pk_le h i (fun c => ?_) (fun c => ⟨vp_in_nI (by omega) (by omega), ?_⟩)
    · have e : i = h := by omega
      subst e
      exact hp q hq hs
    · rw [za_c i (by omega), hst i c]
      have df : zg_Df g (zy_sg b_holds q) (k i) := by rw [hs]; exact v i c
      have st := A.2.2.2.1 q _ hq df
      refine zy_goA hG A h01 hq (zp_VS_16 hG.1 v c).1 (fun _ y ey => ?_) (fun d => absurd df d)
      rw [ey, nI_1]
      exact ih (i + 1) _ (by omega) (by omega) st.1 (by rw [st.2, hs]; rfl)
theorem zy_top (hG : zy_GR g R b_part) (A : zl_AU g R m (zy_sg b_holds) G) (h01 : zy_01 m b_holds) {k : Nat → Nat} {h : Nat} (h32 : h ≤ 32) (v : zp_VS g R k h) (hst : ∀ i, i < h → b_stack i = nI (k i)) {post : Int32 → Prop}
    (hp : ∀ q, q < m → zy_sg b_holds q = zp_tp g R k h → post (nI q)) : wpY_top post (g_terms, g_nons, g_depth, g_built, g_clash, g_changed, g_rules, nI m, nI h, g_logged, g_oldSize, g_oldLogged, b_part, b_levels, b_sides, b_productive, b_nullable, b_first, b_holds, b_la, b_stack, b_oldStack, b_log) :=
  ⟨h + 1, zy_top4 hG A h01 h32 v hst hp (h + 1) 0 0 (by omega) (by omega) A.1 A.2.2.1⟩
theorem zy_action (hG : zy_GR g R b_part) (A : zl_AU g R m (zy_sg b_holds) G) (h01 : zy_01 m b_holds) (hla : ∀ q e t, q < m → e < 52 → (zb (b_la (q * 52 + e)) t ↔ zl_LA g R (zy_sg b_holds q) e t)) {k : Nat → Nat} {h T t : Nat} (hT7 : T ≤ 7) (ht : t ≤ T) (h32 : h ≤ 32) (v : zp_VS g R k h) (hst : ∀ i, i < h → b_stack i = nI (k i)) {post : Int32 → SY → Prop}
    (hp : ∀ cl, post (zc_dv g R b_levels b_sides (zp_tp g R k h) t) (nI T, g_nons, g_depth, 1, cl, g_changed, nI R, nI m, nI h, g_logged, g_oldSize, g_oldLogged, b_part, b_levels, b_sides, b_productive, b_nullable, b_first, b_holds, b_la, b_stack, b_oldStack, b_log)) :
    wpY_action post (nI T, g_nons, g_depth, 1, g_clash, g_changed, nI R, nI m, nI h, g_logged, g_oldSize, g_oldLogged, b_part, b_levels, b_sides, b_productive, b_nullable, b_first, b_holds, b_la, b_stack, b_oldStack, b_log) (nI t) := by
  unfold wpY_action
  refine br_f (by decide) (br_f (nI_pos (by omega)) (br_t (nI_le ht (by omega)) ?_))
  refine zy_top hG A h01 h32 v hst (fun q hq hs => ?_)
  refine zy_decide hG A h01 hla hq (by omega) ?_
  rw [hs]
  exact hp _
end ZY
end
section
/-! Y: conflicts, run, undo -/
section ZY
variable {g : Nat → Nat} {R m : Nat} {G : Nat → Nat → Nat} {g_terms g_nons g_depth g_built g_clash g_changed g_rules g_states g_size g_logged g_oldSize g_oldLogged : Int32} {b_part b_levels b_sides b_productive b_nullable b_first b_holds b_la b_stack b_oldStack b_log : Nat → Int32}
theorem zy_cf21 (hG : zy_GR g R b_part) (A : zl_AU g R m (zy_sg b_holds) G) (h01 : zy_01 m b_holds) (hla : ∀ q e t, q < m → e < 52 → (zb (b_la (q * 52 + e)) t ↔ zl_LA g R (zy_sg b_holds q) e t)) {T : Nat} (hT7 : T ≤ 7) {q c : Nat} (hq : q < m)
    {post : Int32 → SY → Prop} {J4 : Int32 → Int32 → Int32 → Int32 → Int32 → Int32 → Int32 → Int32 → Int32 → Int32 → Int32 → Int32 → Int32 → Int32 → (Nat → Int32) → (Nat → Int32) → (Nat → Int32) → (Nat → Int32) → (Nat → Int32) → (Nat → Int32) → (Nat → Int32) → (Nat → Int32) → (Nat → Int32) → (Nat → Int32) → (Nat → Int32) → Prop}
    (hJ : ∀ cl, J4 (nI (c + zm_s (fun t => zm_b (zc_cl g R b_levels (zy_sg b_holds q) t)) (T + 1))) (nI (q + 1)) (nI T) g_nons g_depth 1 cl g_changed (nI R) (nI m) g_size g_logged g_oldSize g_oldLogged b_part b_levels b_sides b_productive b_nullable b_first b_holds b_la b_stack b_oldStack b_log) :
    ∀ f i cl, i ≤ T + 1 → T + 1 - i < f → wY_conflicts_21 post J4 (nI q) f (nI (c + zm_s (fun t => zm_b (zc_cl g R b_levels (zy_sg b_holds q) t)) i)) (nI i) (nI T) g_nons g_depth 1 cl g_changed (nI R) (nI m) g_size g_logged g_oldSize g_oldLogged b_part b_levels b_sides b_productive b_nullable b_first b_holds b_la b_stack b_oldStack b_log := by
  have m24 := A.2.1
  intro f
  induction f with
  | zero => intro i cl _ h; omega
  | succ f ih =>
    intro i cl hi hf
    refine pk_lt T i (fun h => ?_) (fun h => ?_)
    · have e : i = T + 1 := by omega
      subst e
      intro y ey
      rw [ey, nI_1]
      exact hJ cl
    · refine zy_decide hG A h01 hla hq (by omega) ?_
      have es : zm_s (fun t => zm_b (zc_cl g R b_levels (zy_sg b_holds q) t)) (i + 1) = zm_s (fun t => zm_b (zc_cl g R b_levels (zy_sg b_holds q) t)) i + zm_b (zc_cl g R b_levels (zy_sg b_holds q) i) := rfl
      rcases Classical.em (zc_cl g R b_levels (zy_sg b_holds q) i) with z | z
      · refine br_f (by rw [zc_t z]; decide) (fun y ey w ew => ?_)
        rw [ew, ey, nI_1, nI_1, Nat.add_assoc]
        rw [zm_b_t z] at es
        rw [← es]
        exact ih (i + 1) _ (by omega) (by omega)
      · refine br_t (zc_f z) (fun y ey => ?_)
        rw [ey, nI_1]
        have es2 : zm_s (fun t => zm_b (zc_cl g R b_levels (zy_sg b_holds q) t)) (i + 1) = zm_s (fun t => zm_b (zc_cl g R b_levels (zy_sg b_holds q) t)) i := by
          rw [es, zm_b_f z, Nat.add_zero]
        rw [← es2]
        exact ih (i + 1) _ (by omega) (by omega)
theorem zy_cf4 (hG : zy_GR g R b_part) (A : zl_AU g R m (zy_sg b_holds) G) (h01 : zy_01 m b_holds) (hla : ∀ q e t, q < m → e < 52 → (zb (b_la (q * 52 + e)) t ↔ zl_LA g R (zy_sg b_holds q) e t)) {T : Nat} (hT7 : T ≤ 7)
    {post : Int32 → SY → Prop} (hp : ∀ cl, post (nI (zm_s (fun q => zm_s (fun t => zm_b (zc_cl g R b_levels (zy_sg b_holds q) t)) (T + 1)) m)) (nI T, g_nons, g_depth, 1, cl, g_changed, nI R, nI m, g_size, g_logged, g_oldSize, g_oldLogged, b_part, b_levels, b_sides, b_productive, b_nullable, b_first, b_holds, b_la, b_stack, b_oldStack, b_log)) :
    ∀ f q cl, q ≤ m → m - q < f → wY_conflicts_4 post f (nI (zm_s (fun q => zm_s (fun t => zm_b (zc_cl g R b_levels (zy_sg b_holds q) t)) (T + 1)) q)) (nI q) (nI T) g_nons g_depth 1 cl g_changed (nI R) (nI m) g_size g_logged g_oldSize g_oldLogged b_part b_levels b_sides b_productive b_nullable b_first b_holds b_la b_stack b_oldStack b_log := by
  have m24 := A.2.1
  intro f
  induction f with
  | zero => intro q cl _ h; omega
  | succ f ih =>
    intro q cl hq hf
    refine br_f (by decide) (pk_le m q (fun h => ?_) (fun h => ?_))
    · have e : q = m := by omega
      subst e
      exact br_f (by decide) (hp cl)
    · exact ⟨T + 2, zy_cf21 hG A h01 hla hT7 h (fun cl' => ih (q + 1) cl' (by omega) (by omega)) (T + 2) 0 cl (by omega) (by omega)⟩
theorem zy_conflicts (hG : zy_GR g R b_part) (A : zl_AU g R m (zy_sg b_holds) G) (h01 : zy_01 m b_holds) (hla : ∀ q e t, q < m → e < 52 → (zb (b_la (q * 52 + e)) t ↔ zl_LA g R (zy_sg b_holds q) e t)) {T : Nat} (hT7 : T ≤ 7)
    {post : Int32 → SY → Prop} (hp : ∀ cl, post (nI (zm_s (fun q => zm_s (fun t => zm_b (zc_cl g R b_levels (zy_sg b_holds q) t)) (T + 1)) m)) (nI T, g_nons, g_depth, 1, cl, g_changed, nI R, nI m, g_size, g_logged, g_oldSize, g_oldLogged, b_part, b_levels, b_sides, b_productive, b_nullable, b_first, b_holds, b_la, b_stack, b_oldStack, b_log)) :
    wpY_conflicts post (nI T, g_nons, g_depth, 1, g_clash, g_changed, nI R, nI m, g_size, g_logged, g_oldSize, g_oldLogged, b_part, b_levels, b_sides, b_productive, b_nullable, b_first, b_holds, b_la, b_stack, b_oldStack, b_log) :=
  ⟨m + 1, zy_cf4 hG A h01 hla hT7 hp (m + 1) 0 g_clash (by omega) (by omega)⟩
theorem zy_run44 (hG : zy_GR g R b_part) (A : zl_AU g R m (zy_sg b_holds) G) (h01 : zy_01 m b_holds) (hla : ∀ q e t, q < m → e < 52 → (zb (b_la (q * 52 + e)) t ↔ zl_LA g R (zy_sg b_holds q) e t)) {T D t : Nat} (hT7 : T ≤ 7) (ht : t ≤ T) (hD : D ≤ 32)
    {Q : Int32 → (Nat → Nat) → Nat → Nat → (Nat → Nat) → Prop} {post : Int32 → SY → Prop}
    (hQ : ∀ r (k : Nat → Nat) h lc lg cl (sk log : Nat → Int32), Q r k h lc lg → (∀ i, i < h → sk i = nI (k i)) → (∀ i, i < lc → log i = nI (lg i)) → post r (nI T, g_nons, nI D, 1, cl, g_changed, nI R, nI m, nI h, nI lc, g_oldSize, g_oldLogged, b_part, b_levels, b_sides, b_productive, b_nullable, b_first, b_holds, b_la, sk, b_oldStack, log)) :
    ∀ f st (k : Nat → Nat) (h lc : Nat) (lg : Nat → Nat) cl (sk log : Nat → Int32), st + f = 65 → (∀ i, i < h → sk i = nI (k i)) → (∀ i, i < lc → log i = nI (lg i)) → zp_VS g R k h → h ≤ D → lc ≤ 64 →
      zp_R g R b_levels b_sides D t Q f k h lc lg → wY_run_44 post (nI t) (f + 1) (nI st) (nI T) g_nons (nI D) 1 cl g_changed (nI R) (nI m) (nI h) (nI lc) g_oldSize g_oldLogged b_part b_levels b_sides b_productive b_nullable b_first b_holds b_la sk b_oldStack log := by
  have ok := hG.1
  have r12 := ok.1
  intro f
  induction f with
  | zero =>
    intro st k h lc lg cl sk log hst hs hlg v hh hl hR
    refine br_t ?_ (hQ _ k h lc lg cl sk log hR hs hlg)
    rw [show st = 65 by omega]; decide
  | succ f ih =>
    intro st k h lc lg cl sk log hst hs hlg v hh hl hR
    obtain ⟨q0, q64, q32, qm⟩ := hR
    refine br_f (nI_nlt (a := 64) (by omega) (by decide)) ?_
    refine zy_action hG A h01 hla hT7 ht (by omega) v hs (fun cl' => ?_)
    refine br_c (fun c => hQ _ k h lc lg cl' sk log (q0 c) hs hlg) (fun c0 => ?_)
    refine br_c (fun c => hQ _ k h lc lg cl' sk log (q64 c) hs hlg) (fun c64 => ?_)
    refine br_c (fun c => ?_) (fun c32 => ?_)
    · obtain ⟨u1, u2⟩ := q32 c
      refine pk_eq h D (fun ch => hQ _ k h lc lg cl' sk log (u1 ch) hs hlg) (fun ch => ?_)
      rw [c]
      refine br_t rfl (fun y ey => ⟨vp_in_nI (by omega) (by omega), fun sk' es => ?_⟩)
      rw [nI_1] at ey
      rw [za_c h (by omega)] at es
      subst ey
      refine hQ _ _ (h + 1) lc lg cl' sk' log (u2 ch) (fun i hi => ?_) hlg
      by_cases w : i = h
      · rw [w, es, pk_us, zd_us]
      · rw [es, pk_un w, zd_un w]; exact hs i (by omega)
    · obtain ⟨p, m1, m2, m3, m4⟩ := zc_dv_red (lv := b_levels) (sd := b_sides) (S := zp_tp g R k h) (t := t) ok c0 c32 c64
      obtain ⟨u1, u2⟩ := qm p m1 m2 m3 m4
      obtain ⟨p1, p2⟩ := zp_red ok v m1 m4
      have l3 := zg_ln_le (g := g) p
      rw [m3] at c32 ⊢
      refine pk_eq lc 64 (fun c => hQ _ k h lc lg cl' sk log (u1 (Or.inl c)) hs hlg) (fun c => ?_)
      refine zy_len hG m2 ?_
      have go : ¬ (lc = 64 ∨ (zg_ln g p = 0 ∧ h = D)) → wY_run_122 post (wY_run_44 post (nI t) (f + 1)) (nI t) (nI st) (nI p) (nI T) g_nons (nI D) 1 cl' g_changed (nI R) (nI m) (nI h) (nI lc) g_oldSize g_oldLogged b_part b_levels b_sides b_productive b_nullable b_first b_holds b_la sk b_oldStack log := by
        intro z
        refine br_f c32 ?_
        refine zy_len hG m2 (fun y ey w ew => ?_)
        rw [pk_sub p1] at ey
        subst ey
        rw [nI_1] at ew
        subst ew
        rw [za_x4]
        refine ⟨vp_in_nI (by omega) (by omega), vp_in_nI (by omega) (by omega), fun sk' es y ey => ⟨vp_in_nI (by omega) (by omega), fun log' el w ew => ?_⟩⟩
        rw [za_c _ (by omega), za_c _ (by omega), hG.2 _ (by omega)] at es
        rw [za_c lc (by omega)] at el
        rw [nI_1] at ey
        subst ey
        rw [ew, nI_1]
        refine ih (st + 1) _ (h - zg_ln g p + 1) (lc + 1) (zd_up lg lc p) cl' sk' log' (by omega) (fun i hi => ?_) (fun i hi => ?_) (zp_VS_u v (by omega) p2) (by omega) (by omega) (u2 z)
        · by_cases w : i = h - zg_ln g p
          · rw [w, es, pk_us, zd_us]
          · rw [es, pk_un w, zd_un w]; exact hs i (by omega)
        · by_cases w : i = lc
          · rw [w, el, pk_us, zd_us]
          · rw [el, pk_un w, zd_un w]; exact hlg i (by omega)
      refine pk_eq (zg_ln g p) 0 (fun c1 => pk_eq h D (fun c2 => hQ _ k h lc lg cl' sk log (u1 (Or.inr ⟨c1, c2⟩)) hs hlg) (fun c2 => go (fun z => by omega))) (fun c1 => go (fun z => by omega))
theorem zy_rn18 (hG : zy_GR g R b_part) {t : Nat} {post : Int32 → SY → Prop}
    (hp : ∀ os : Nat → Int32, (∀ i, i < 32 → os i = b_stack i) → ∃ n, wY_run_44 post (nI t) n 0 g_terms g_nons g_depth g_built g_clash g_changed g_rules g_states g_size g_logged g_oldSize g_oldLogged b_part b_levels b_sides b_productive b_nullable b_first b_holds b_la b_stack os b_log) :
    ∀ f i (os : Nat → Int32), i ≤ 32 → 32 - i < f → (∀ j, j < i → os j = b_stack j) → wY_run_18 post (nI t) g_terms g_nons g_depth g_built g_clash g_changed g_rules g_states g_size g_logged g_oldSize g_oldLogged f (nI i) b_part b_levels b_sides b_productive b_nullable b_first b_holds b_la b_stack os b_log := by
  intro f
  induction f with
  | zero => intro i os _ h; omega
  | succ f ih =>
    intro i os hi hf ho
    refine pk_le 32 i (fun h => hp os (fun j hj => ho j (by omega))) (fun h => ⟨vp_in_nI (by omega) (by omega), vp_in_nI (by omega) (by omega), fun os' eo y ey => ?_⟩)
    rw [za_c i (by omega)] at eo
    rw [ey, nI_1]
    refine ih (i + 1) os' (by omega) (by omega) (fun j hj => ?_)
    by_cases w : j = i
    · rw [w, eo, pk_us]
    · rw [eo, pk_un w]; exact ho j (by omega)
theorem zy_run (hG : zy_GR g R b_part) (A : zl_AU g R m (zy_sg b_holds) G) (h01 : zy_01 m b_holds) (hla : ∀ q e t, q < m → e < 52 → (zb (b_la (q * 52 + e)) t ↔ zl_LA g R (zy_sg b_holds q) e t)) {T D t h lc : Nat} {k lg : Nat → Nat} (hT7 : T ≤ 7) (ht : t ≤ T) (hD : D ≤ 32)
    (hs : ∀ i, i < h → b_stack i = nI (k i)) (hlg : ∀ i, i < lc → b_log i = nI (lg i)) (v : zp_VS g R k h) (hh : h ≤ D) (hl : lc ≤ 64)
    {Q : Int32 → (Nat → Nat) → Nat → Nat → (Nat → Nat) → Prop} {post : Int32 → SY → Prop}
    (hQ : ∀ r (k : Nat → Nat) h1 lc1 lg cl (os sk log : Nat → Int32), Q r k h1 lc1 lg → (∀ i, i < h1 → sk i = nI (k i)) → (∀ i, i < lc1 → log i = nI (lg i)) → (∀ i, i < 32 → os i = b_stack i) → post r (nI T, g_nons, nI D, 1, cl, g_changed, nI R, nI m, nI h1, nI lc1, nI h, nI lc, b_part, b_levels, b_sides, b_productive, b_nullable, b_first, b_holds, b_la, sk, os, log))
    (hR : zp_R g R b_levels b_sides D t Q 65 k h lc lg) : wpY_run post (nI T, g_nons, nI D, 1, g_clash, g_changed, nI R, nI m, nI h, nI lc, g_oldSize, g_oldLogged, b_part, b_levels, b_sides, b_productive, b_nullable, b_first, b_holds, b_la, b_stack, b_oldStack, b_log) (nI t) :=
  ⟨33, zy_rn18 hG (fun os ho => ⟨66, zy_run44 hG A h01 hla hT7 ht hD (fun r k h1 lc1 lg cl sk log q1 q2 q3 => hQ r k h1 lc1 lg cl os sk log q1 q2 q3 ho) 65 0 k h lc lg g_clash b_stack b_log (by omega) hs hlg v hh hl hR⟩) 33 0 b_oldStack (by omega) (by omega) (fun j h => by omega)⟩
theorem zy_un18 {post : SY → Prop} (hp : ∀ sk : Nat → Int32, (∀ i, i < 32 → sk i = b_oldStack i) → post (g_terms, g_nons, g_depth, g_built, g_clash, g_changed, g_rules, g_states, g_size, g_logged, g_oldSize, g_oldLogged, b_part, b_levels, b_sides, b_productive, b_nullable, b_first, b_holds, b_la, sk, b_oldStack, b_log)) :
    ∀ f i (sk : Nat → Int32), i ≤ 32 → 32 - i < f → (∀ j, j < i → sk j = b_oldStack j) → wY_undo_18 post g_terms g_nons g_depth g_built g_clash g_changed g_rules g_states g_size g_logged g_oldSize g_oldLogged f (nI i) b_part b_levels b_sides b_productive b_nullable b_first b_holds b_la sk b_oldStack b_log := by
  intro f
  induction f with
  | zero => intro i sk _ h; omega
  | succ f ih =>
    intro i sk hi hf ho
    refine pk_le 32 i (fun h => hp sk (fun j hj => ho j (by omega))) (fun h => ⟨vp_in_nI (by omega) (by omega), vp_in_nI (by omega) (by omega), fun sk' eo y ey => ?_⟩)
    rw [za_c i (by omega)] at eo
    rw [ey, nI_1]
    refine ih (i + 1) sk' (by omega) (by omega) (fun j hj => ?_)
    by_cases w : j = i
    · rw [w, eo, pk_us]
    · rw [eo, pk_un w]; exact ho j (by omega)
theorem zy_undo {post : SY → Prop} (hp : ∀ sk : Nat → Int32, (∀ i, i < 32 → sk i = b_oldStack i) → post (g_terms, g_nons, g_depth, g_built, g_clash, g_changed, g_rules, g_states, g_oldSize, g_oldLogged, g_oldSize, g_oldLogged, b_part, b_levels, b_sides, b_productive, b_nullable, b_first, b_holds, b_la, sk, b_oldStack, b_log)) : wpY_undo post (g_terms, g_nons, g_depth, g_built, g_clash, g_changed, g_rules, g_states, g_size, g_logged, g_oldSize, g_oldLogged, b_part, b_levels, b_sides, b_productive, b_nullable, b_first, b_holds, b_la, b_stack, b_oldStack, b_log) :=
  ⟨33, zy_un18 hp 33 0 b_stack (by omega) (by omega) (fun j h => by omega)⟩
end ZY
end
section
/-! a rule is written: both sides; X: startRule, append, wipe, rule, clamp, init -/
def zg_app (g : Nat → Nat) (r x : Nat) : Nat → Nat := if x = 0 then g else zd_up g (4 * r + 1 + zg_ln g r) x
def zg_pk (g : Nat → Nat) (r : Nat) : Prop := (g (4 * r + 1) = 0 → g (4 * r + 2) = 0) ∧ (g (4 * r + 2) = 0 → g (4 * r + 3) = 0)
theorem zg_app_0 {g : Nat → Nat} {r : Nat} : zg_app g r 0 = g := if_pos rfl
theorem zg_app_e {g : Nat → Nat} {r x : Nat} (h : x ≠ 0) : zg_app g r x = zd_up g (4 * r + 1 + zg_ln g r) x := if_neg h
theorem zg_ln_z {g : Nat → Nat} {r : Nat} (p : zg_pk g r) : ∀ d, zg_ln g r ≤ d → d < 3 → g (4 * r + 1 + d) = 0 := by
  intro d h1 h2
  unfold zg_ln at h1
  obtain ⟨p1, p2⟩ := p
  have e : d = 0 ∨ d = 1 ∨ d = 2 := by omega
  by_cases z1 : g (4 * r + 1) = 0
  · rcases e with e | e | e <;> subst e
    · exact z1
    · exact p1 z1
    · exact p2 (p1 z1)
  · rw [if_neg z1] at h1
    by_cases z2 : g (4 * r + 2) = 0
    · rcases e with e | e | e <;> subst e
      · rw [if_pos z2] at h1; omega
      · exact z2
      · exact p2 z2
    · rw [if_neg z2] at h1
      by_cases z3 : g (4 * r + 3) = 0
      · rcases e with e | e | e <;> subst e
        · rw [if_pos z3] at h1; omega
        · rw [if_pos z3] at h1; omega
        · exact z3
      · rw [if_neg z3] at h1; omega
theorem zg_app_ln {g : Nat → Nat} {r x : Nat} (p : zg_pk g r) (hx : x ≠ 0) (hl : zg_ln g r < 3) : zg_ln (zg_app g r x) r = zg_ln g r + 1 ∧ zg_pk (zg_app g r x) r := by
  rw [zg_app_e hx]
  have p1 := p.1
  have p2 := p.2
  unfold zg_ln at hl ⊢
  unfold zg_pk
  by_cases z1 : g (4 * r + 1) = 0
  · have z2 := p1 z1
    have z3 := p2 z2
    rw [if_pos z1]
    have e1 : zd_up g (4 * r + 1 + 0) x (4 * r + 1) = x := zd_us
    have e2 : zd_up g (4 * r + 1 + 0) x (4 * r + 2) = 0 := by rw [zd_un (by omega)]; exact z2
    have e3 : zd_up g (4 * r + 1 + 0) x (4 * r + 3) = 0 := by rw [zd_un (by omega)]; exact z3
    rw [e1, e2, e3, if_neg hx, if_pos rfl]
    exact ⟨rfl, fun z => absurd z hx, fun _ => rfl⟩
  · rw [if_neg z1] at hl ⊢
    by_cases z2 : g (4 * r + 2) = 0
    · have z3 := p2 z2
      rw [if_pos z2]
      have e1 : zd_up g (4 * r + 1 + 1) x (4 * r + 1) = g (4 * r + 1) := zd_un (by omega)
      have e2 : zd_up g (4 * r + 1 + 1) x (4 * r + 2) = x := zd_us
      have e3 : zd_up g (4 * r + 1 + 1) x (4 * r + 3) = 0 := by rw [zd_un (by omega)]; exact z3
      rw [e1, e2, e3, if_neg z1, if_neg hx, if_pos rfl]
      exact ⟨rfl, fun z => absurd z z1, fun z => absurd z hx⟩
    · rw [if_neg z2] at hl ⊢
      by_cases z3 : g (4 * r + 3) = 0
      · rw [if_pos z3]
        have e1 : zd_up g (4 * r + 1 + 2) x (4 * r + 1) = g (4 * r + 1) := zd_un (by omega)
        have e2 : zd_up g (4 * r + 1 + 2) x (4 * r + 2) = g (4 * r + 2) := zd_un (by omega)
        have e3 : zd_up g (4 * r + 1 + 2) x (4 * r + 3) = x := zd_us
        rw [e1, e2, e3, if_neg z1, if_neg z2, if_neg hx]
        exact ⟨rfl, fun z => absurd z z1, fun z => absurd z z2⟩
      · rw [if_neg z3] at hl; omega
theorem zg_okApp {g : Nat → Nat} {R r x : Nat} (ok : zg_ok g R) (r1 : 1 ≤ r) (r2 : r ≤ R) (hx : x < 16) (hl : x ≠ 0 → zg_ln g r < 3) : zg_ok (zg_app g r x) R := by
  by_cases x0 : x = 0
  · rw [x0, zg_app_0]; exact ok
  · have l3 := hl x0
    obtain ⟨o1, o2, o3, o4, o5, o6, o7, o8, o9, o10⟩ := id ok
    have al := zg_app_ln (g := g) (r := r) (x := x) ⟨o8 r, o9 r⟩ x0 l3
    have old : ∀ i, i ≠ 4 * r + 1 + zg_ln g r → zg_app g r x i = g i := fun i hi => by rw [zg_app_e x0, zd_un hi]
    refine ⟨o1, by rw [old 0 (by omega)]; exact o2, by rw [old 1 (by omega)]; exact o3, by rw [old 2 (by omega)]; exact o4, by rw [old 3 (by omega)]; exact o5, fun r' a b => by rw [old _ (by omega)]; exact o6 r' a b, fun i => ?_, fun r' => ?_, fun r' => ?_, fun i hi => by rw [old i (by omega)]; exact o10 i hi⟩
    · by_cases z : i = 4 * r + 1 + zg_ln g r
      · rw [zg_app_e x0, z, zd_us]; exact hx
      · rw [old i z]; exact o7 i
    · by_cases z : r' = r
      · rw [z]; exact al.2.1
      · rw [old _ (by omega), old _ (by omega)]; exact o8 r'
    · by_cases z : r' = r
      · rw [z]; exact al.2.2
      · rw [old _ (by omega), old _ (by omega)]; exact o9 r'
theorem zg_okStart {g : Nat → Nat} {R l : Nat} (ok : zg_ok g R) (hR : R < 12) (l8 : 8 ≤ l) (l16 : l < 16) : zg_ok (zd_up g (4 * (R + 1)) l) (R + 1) ∧ zg_ln (zd_up g (4 * (R + 1)) l) (R + 1) = 0 := by
  obtain ⟨o1, o2, o3, o4, o5, o6, o7, o8, o9, o10⟩ := id ok
  refine ⟨⟨by omega, by rw [zd_un (by omega)]; exact o2, by rw [zd_un (by omega)]; exact o3, by rw [zd_un (by omega)]; exact o4, by rw [zd_un (by omega)]; exact o5, fun r a b => ?_, fun i => ?_, fun r => by rw [zd_un (by omega), zd_un (by omega)]; exact o8 r, fun r => by rw [zd_un (by omega), zd_un (by omega)]; exact o9 r, fun i hi => by rw [zd_un (by omega)]; exact o10 i (by omega)⟩, ?_⟩
  · by_cases z : r = R + 1
    · rw [z, zd_us]; exact l8
    · rw [zd_un (by omega)]; exact o6 r a (by omega)
  · by_cases z : i = 4 * (R + 1)
    · rw [z, zd_us]; exact l16
    · rw [zd_un z]; exact o7 i
  · unfold zg_ln
    rw [zd_un (by omega), o10 _ (by omega), if_pos rfl]
def zx_R1 (g : Nat → Nat) (r : Nat) (a_left a_length a_need a_rhs : Nat → Int32) : Prop :=
  a_left r = nI (g (4 * r)) ∧ a_length r = nI (zg_ln g r) ∧ (∀ x, zb (a_need r) x ↔ x ≠ 0 ∧ ∃ d, d < 3 ∧ g (4 * r + 1 + d) = x) ∧ (∀ d, d < 4 → a_rhs (4 * r + d) = nI (zg_af g (4 * r + d)))
def zx_oth (r : Nat) (a_length a_need a_rhs L N Rh : Nat → Int32) : Prop := ∀ r', r' ≠ r → L r' = a_length r' ∧ N r' = a_need r' ∧ ∀ d, d < 4 → Rh (4 * r' + d) = a_rhs (4 * r' + d)
section ZX
variable {g : Nat → Nat} {f_maxRules f_maxStates f_maxNodes f_maxEdges f_maxSteps f_maxLog f_finished f_lastTerminal f_lastNonterminal f_depthLimit f_built f_ruleCount f_nullable f_stateCount f_edgeCount f_callSize f_pendingSize f_conflictCount f_height f_logSize f_low f_tip f_trialLog : Int32} {a_left a_length a_need a_rhs a_level a_side a_vanishing a_go a_follow a_head a_next a_target a_mark a_entry a_cursor a_callStack a_pending a_la a_base a_table a_check a_row a_symbols a_states a_log a_trialSymbols a_trialStates : Nat → Int32} {a_before a_corner a_sets : Nat → Int64}
theorem zx_append {post : SX → Prop} {r x : Nat} (hr : r ≤ 12) (hx : x < 16) (p : zg_pk g r) (hl : x ≠ 0 → zg_ln g r < 3) (h : zx_R1 g r a_left a_length a_need a_rhs)
    (hp : ∀ L N Rh : Nat → Int32, zx_R1 (zg_app g r x) r a_left L N Rh → zx_oth r a_length a_need a_rhs L N Rh → post (f_maxRules, f_maxStates, f_maxNodes, f_maxEdges, f_maxSteps, f_maxLog, f_finished, f_lastTerminal, f_lastNonterminal, f_depthLimit, f_built, f_ruleCount, f_nullable, f_stateCount, f_edgeCount, f_callSize, f_pendingSize, f_conflictCount, f_height, f_logSize, f_low, f_tip, f_trialLog, a_left, L, N, Rh, a_level, a_side, a_before, a_corner, a_vanishing, a_sets, a_go, a_follow, a_head, a_next, a_target, a_mark, a_entry, a_cursor, a_callStack, a_pending, a_la, a_base, a_table, a_check, a_row, a_symbols, a_states, a_log, a_trialSymbols, a_trialStates)) : wpX_append post (f_maxRules, f_maxStates, f_maxNodes, f_maxEdges, f_maxSteps, f_maxLog, f_finished, f_lastTerminal, f_lastNonterminal, f_depthLimit, f_built, f_ruleCount, f_nullable, f_stateCount, f_edgeCount, f_callSize, f_pendingSize, f_conflictCount, f_height, f_logSize, f_low, f_tip, f_trialLog, a_left, a_length, a_need, a_rhs, a_level, a_side, a_before, a_corner, a_vanishing, a_sets, a_go, a_follow, a_head, a_next, a_target, a_mark, a_entry, a_cursor, a_callStack, a_pending, a_la, a_base, a_table, a_check, a_row, a_symbols, a_states, a_log, a_trialSymbols, a_trialStates) (nI r) (nI x) := by
  obtain ⟨h1, h2, h3, h4⟩ := h
  refine pk_eq x 0 (fun c => ?_) (fun c => ?_)
  · refine hp a_length a_need a_rhs ?_ (fun r' _ => ⟨rfl, rfl, fun d _ => rfl⟩)
    rw [c, zg_app_0]; exact ⟨h1, h2, h3, h4⟩
  · have l3 := hl c
    have al := zg_app_ln p c l3
    rw [za_c r (by omega), h2, za_m4]
    refine ⟨vp_in_nI (by omega) (by omega), vp_in_nI (by omega) (by omega), fun Rh eR => ⟨vp_in_nI (by omega) (by omega), vp_in_nI (by omega) (by omega), fun L eL => ⟨vp_in_nI (by omega) (by omega), vp_in_nI (by omega) (by omega), fun N eN => ?_⟩⟩⟩
    rw [za_c _ (by omega)] at eR
    rw [nI_1] at eL
    refine hp L N Rh ⟨?_, ?_, fun y => ?_, fun d hd => ?_⟩ (fun r' hr' => ⟨by rw [eL, pk_un hr'], by rw [eN, pk_un hr'], fun d hd => by rw [eR, pk_un (by omega)]⟩)
    · rw [zg_app_e c, zd_un (by omega)]; exact h1
    · rw [eL, pk_us, al.1]
    · rw [eN, pk_us, zb_or, h3 y, zb_sh (by omega), zg_app_e c]
      constructor
      · rintro (⟨a, d, b, e⟩ | a)
        · refine ⟨a, d, b, ?_⟩
          have : d ≠ zg_ln g r := fun z => a (by rw [← e, z]; exact zg_ln_z p _ (Nat.le_refl _) l3)
          rw [zd_un (by omega)]; exact e
        · exact ⟨by omega, zg_ln g r, l3, by rw [a, zd_us]⟩
      · rintro ⟨a, d, b, e⟩
        by_cases z : d = zg_ln g r
        · rw [z, zd_us] at e; exact Or.inr e.symm
        · rw [zd_un (by omega)] at e; exact Or.inl ⟨a, d, b, e⟩
    · by_cases z : d = zg_ln g r
      · rw [z, eR, pk_us, zg_af_m (by omega), zg_app_e c, show 4 * r + zg_ln g r + 1 = 4 * r + 1 + zg_ln g r by omega, zd_us]
      · rw [eR, pk_un (by omega), h4 d hd]
        unfold zg_af
        by_cases w : (4 * r + d) % 4 < 3
        · rw [if_pos w, if_pos w, zg_app_e c, zd_un (by omega)]
        · rw [if_neg w, if_neg w]
theorem zx_sr23 {post : SX → Prop} {r : Nat} (hr : r ≤ 12) (hp : ∀ Rh : Nat → Int32, (∀ d, d < 4 → Rh (4 * r + d) = 0) → (∀ e, e / 4 ≠ r → Rh e = a_rhs e) → post (f_maxRules, f_maxStates, f_maxNodes, f_maxEdges, f_maxSteps, f_maxLog, f_finished, f_lastTerminal, f_lastNonterminal, f_depthLimit, f_built, f_ruleCount, f_nullable, f_stateCount, f_edgeCount, f_callSize, f_pendingSize, f_conflictCount, f_height, f_logSize, f_low, f_tip, f_trialLog, a_left, a_length, a_need, Rh, a_level, a_side, a_before, a_corner, a_vanishing, a_sets, a_go, a_follow, a_head, a_next, a_target, a_mark, a_entry, a_cursor, a_callStack, a_pending, a_la, a_base, a_table, a_check, a_row, a_symbols, a_states, a_log, a_trialSymbols, a_trialStates)) :
    ∀ f i (Rh : Nat → Int32), i ≤ 4 → 4 - i < f → (∀ d, d < i → Rh (4 * r + d) = 0) → (∀ e, e / 4 ≠ r → Rh e = a_rhs e) → wX_startRule_23 post (nI r) f_maxRules f_maxStates f_maxNodes f_maxEdges f_maxSteps f_maxLog f_finished f_lastTerminal f_lastNonterminal f_depthLimit f_built f_ruleCount f_nullable f_stateCount f_edgeCount f_callSize f_pendingSize f_conflictCount f_height f_logSize f_low f_tip f_trialLog f (nI i) a_left a_length a_need Rh a_level a_side a_before a_corner a_vanishing a_sets a_go a_follow a_head a_next a_target a_mark a_entry a_cursor a_callStack a_pending a_la a_base a_table a_check a_row a_symbols a_states a_log a_trialSymbols a_trialStates := by
  intro f
  induction f with
  | zero => intro i Rh _ h; omega
  | succ f ih =>
    intro i Rh hi hf h1 h2
    refine pk_le 4 i (fun h => hp Rh (fun d hd => h1 d (by omega)) h2) (fun h => ?_)
    rw [za_m4]
    refine ⟨vp_in_nI (by omega) (by omega), fun Rh' eR y ey => ?_⟩
    rw [za_c _ (by omega)] at eR
    rw [ey, nI_1]
    refine ih (i + 1) Rh' (by omega) (by omega) (fun d hd => ?_) (fun e he => ?_)
    · by_cases z : d = i
      · rw [z, eR, pk_us]
      · rw [eR, pk_un (by omega)]; exact h1 d (by omega)
    · rw [eR, pk_un (by omega)]; exact h2 e he
theorem zx_startRule {post : SX → Prop} {r l : Nat} (hr : r ≤ 12) (hz : g (4 * r) = l ∧ g (4 * r + 1) = 0 ∧ g (4 * r + 2) = 0 ∧ g (4 * r + 3) = 0)
    (hp : ∀ Lf L N Rh : Nat → Int32, zx_R1 g r Lf L N Rh → (∀ r', r' ≠ r → Lf r' = a_left r') → zx_oth r a_length a_need a_rhs L N Rh → post (f_maxRules, f_maxStates, f_maxNodes, f_maxEdges, f_maxSteps, f_maxLog, f_finished, f_lastTerminal, f_lastNonterminal, f_depthLimit, f_built, f_ruleCount, f_nullable, f_stateCount, f_edgeCount, f_callSize, f_pendingSize, f_conflictCount, f_height, f_logSize, f_low, f_tip, f_trialLog, Lf, L, N, Rh, a_level, a_side, a_before, a_corner, a_vanishing, a_sets, a_go, a_follow, a_head, a_next, a_target, a_mark, a_entry, a_cursor, a_callStack, a_pending, a_la, a_base, a_table, a_check, a_row, a_symbols, a_states, a_log, a_trialSymbols, a_trialStates)) : wpX_startRule post (f_maxRules, f_maxStates, f_maxNodes, f_maxEdges, f_maxSteps, f_maxLog, f_finished, f_lastTerminal, f_lastNonterminal, f_depthLimit, f_built, f_ruleCount, f_nullable, f_stateCount, f_edgeCount, f_callSize, f_pendingSize, f_conflictCount, f_height, f_logSize, f_low, f_tip, f_trialLog, a_left, a_length, a_need, a_rhs, a_level, a_side, a_before, a_corner, a_vanishing, a_sets, a_go, a_follow, a_head, a_next, a_target, a_mark, a_entry, a_cursor, a_callStack, a_pending, a_la, a_base, a_table, a_check, a_row, a_symbols, a_states, a_log, a_trialSymbols, a_trialStates) (nI r) (nI l) := by
  obtain ⟨z0, z1, z2, z3⟩ := hz
  refine ⟨vp_in_nI (by omega) (by omega), fun Lf eLf => ⟨vp_in_nI (by omega) (by omega), fun L eL => ⟨vp_in_nI (by omega) (by omega), fun N eN => ⟨5, ?_⟩⟩⟩⟩
  rw [za_c r (by omega)] at eLf eL eN
  refine zx_sr23 hr (fun Rh h1 h2 => hp Lf L N Rh ⟨by rw [eLf, pk_us, z0], ?_, fun x => ?_, fun d hd => ?_⟩ (fun r' hr' => by rw [eLf, pk_un hr']) (fun r' hr' => ⟨by rw [eL, pk_un hr'], by rw [eN, pk_un hr'], fun d hd => h2 _ (by omega)⟩)) 5 0 a_rhs (by omega) (by omega) (fun d h => by omega) (fun e _ => rfl)
  · rw [eL, pk_us]; unfold zg_ln; rw [if_pos z1]; rfl
  · rw [eN, pk_us]
    refine ⟨fun z => absurd z zb_0, fun ⟨a, d, b, e⟩ => ?_⟩
    exfalso
    rcases (show d = 0 ∨ d = 1 ∨ d = 2 by omega) with w | w | w <;> subst w
    · exact a (e.symm.trans z1)
    · exact a (e.symm.trans z2)
    · exact a (e.symm.trans z3)
  · rw [h1 d hd]
    unfold zg_af
    rcases (show d = 0 ∨ d = 1 ∨ d = 2 ∨ d = 3 by omega) with w | w | w | w <;> subst w
    · rw [if_pos (by omega), z1]; rfl
    · rw [if_pos (by omega), show 4 * r + 1 + 1 = 4 * r + 2 from rfl, z2]; rfl
    · rw [if_pos (by omega), show 4 * r + 2 + 1 = 4 * r + 3 from rfl, z3]; rfl
    · rw [if_neg (by omega)]; rfl
theorem zx_wp35 {post : SX → Prop} (hp : ∀ lv sd : Nat → Int32, (∀ t, lv t = if t < 8 then 0 else a_level t) → (∀ t, sd t = if t < 8 then 0 else a_side t) → post (f_maxRules, f_maxStates, f_maxNodes, f_maxEdges, f_maxSteps, f_maxLog, f_finished, f_lastTerminal, f_lastNonterminal, f_depthLimit, f_built, f_ruleCount, f_nullable, f_stateCount, f_edgeCount, f_callSize, f_pendingSize, f_conflictCount, f_height, f_logSize, f_low, f_tip, f_trialLog, a_left, a_length, a_need, a_rhs, lv, sd, a_before, a_corner, a_vanishing, a_sets, a_go, a_follow, a_head, a_next, a_target, a_mark, a_entry, a_cursor, a_callStack, a_pending, a_la, a_base, a_table, a_check, a_row, a_symbols, a_states, a_log, a_trialSymbols, a_trialStates)) :
    ∀ f i (lv sd : Nat → Int32), i ≤ 8 → 8 - i < f → (∀ t, lv t = if t < i then 0 else a_level t) → (∀ t, sd t = if t < i then 0 else a_side t) → wX_wipe_35 post f_maxRules f_maxStates f_maxNodes f_maxEdges f_maxSteps f_maxLog f_finished f_lastTerminal f_lastNonterminal f_depthLimit f_built f_ruleCount f_nullable f_stateCount f_edgeCount f_callSize f_pendingSize f_conflictCount f_height f_logSize f_low f_tip f_trialLog f (nI i) a_left a_length a_need a_rhs lv sd a_before a_corner a_vanishing a_sets a_go a_follow a_head a_next a_target a_mark a_entry a_cursor a_callStack a_pending a_la a_base a_table a_check a_row a_symbols a_states a_log a_trialSymbols a_trialStates := by
  intro f
  induction f with
  | zero => intro i lv sd _ h; omega
  | succ f ih =>
    intro i lv sd hi hf h1 h2
    refine pk_le 8 i (fun h => ?_) (fun h => ⟨vp_in_nI (by omega) (by omega), fun lv' el => ⟨vp_in_nI (by omega) (by omega), fun sd' es y ey => ?_⟩⟩)
    · have e : i = 8 := by omega
      subst e
      exact hp lv sd h1 h2
    · rw [za_c i (by omega)] at el es
      rw [ey, nI_1]
      refine ih (i + 1) lv' sd' (by omega) (by omega) (fun t => ?_) (fun t => ?_)
      · by_cases z : t = i
        · rw [z, el, pk_us, if_pos (by omega)]
        · rw [el, pk_un z, h1 t]
          by_cases w : t < i
          · rw [if_pos w, if_pos (by omega)]
          · rw [if_neg w, if_neg (by omega)]
      · by_cases z : t = i
        · rw [z, es, pk_us, if_pos (by omega)]
        · rw [es, pk_un z, h2 t]
          by_cases w : t < i
          · rw [if_pos w, if_pos (by omega)]
          · rw [if_neg w, if_neg (by omega)]
def zg_g0 : Nat → Nat := zd_up (fun _ => 0) 1 8
theorem zg_g0_ok : zg_ok zg_g0 0 := by
  have z : ∀ i, i ≠ 1 → zg_g0 i = 0 := fun i hi => zd_un hi
  have o : zg_g0 1 = 8 := zd_us
  refine ⟨by omega, z 0 (by omega), o, z 2 (by omega), z 3 (by omega), fun r a b => by omega, fun i => ?_, fun r h => z _ (by omega), fun r h => z _ (by omega), fun i hi => z i (by omega)⟩
  by_cases e : i = 1
  · rw [e, o]; omega
  · rw [z i e]; omega
theorem zx_wipe {post : SX → Prop} (hp : ∀ Lf L N Rh lv sd : Nat → Int32, zx_GR zg_g0 0 Lf L N Rh → (∀ t, lv t = if t < 8 then 0 else a_level t) → (∀ t, sd t = if t < 8 then 0 else a_side t) →
      post (f_maxRules, f_maxStates, f_maxNodes, f_maxEdges, f_maxSteps, f_maxLog, f_finished, f_lastTerminal, f_lastNonterminal, f_depthLimit, 0, nI 0, f_nullable, f_stateCount, f_edgeCount, f_callSize, f_pendingSize, f_conflictCount, nI 0, nI 0, f_low, f_tip, f_trialLog, Lf, L, N, Rh, lv, sd, a_before, a_corner, a_vanishing, a_sets, a_go, a_follow, a_head, a_next, a_target, a_mark, a_entry, a_cursor, a_callStack, a_pending, a_la, a_base, a_table, a_check, a_row, a_symbols, a_states, a_log, a_trialSymbols, a_trialStates)) : wpX_wipe post (f_maxRules, f_maxStates, f_maxNodes, f_maxEdges, f_maxSteps, f_maxLog, f_finished, f_lastTerminal, f_lastNonterminal, f_depthLimit, f_built, f_ruleCount, f_nullable, f_stateCount, f_edgeCount, f_callSize, f_pendingSize, f_conflictCount, f_height, f_logSize, f_low, f_tip, f_trialLog, a_left, a_length, a_need, a_rhs, a_level, a_side, a_before, a_corner, a_vanishing, a_sets, a_go, a_follow, a_head, a_next, a_target, a_mark, a_entry, a_cursor, a_callStack, a_pending, a_la, a_base, a_table, a_check, a_row, a_symbols, a_states, a_log, a_trialSymbols, a_trialStates) := by
  unfold wpX_wipe
  refine zx_startRule (g := fun _ => 0) (r := 0) (l := 0) (by omega) ⟨rfl, rfl, rfl, rfl⟩ (fun Lf L N Rh h1 h2 h3 => ?_)
  have l0 : zg_ln (fun _ => 0) 0 = 0 := rfl
  refine zx_append (g := fun _ => 0) (r := 0) (x := 8) (by omega) (by omega) ⟨fun _ => rfl, fun _ => rfl⟩ (fun _ => by rw [l0]; omega) h1 (fun L' N' Rh' k1 k2 => ?_)
  have e0 : zg_app (fun _ => 0) 0 8 = zg_g0 := by rw [zg_app_e (by omega), l0]; rfl
  rw [e0] at k1
  refine ⟨9, zx_wp35 (fun lv sd h1 h2 => hp Lf L' N' Rh' lv sd ?_ h1 h2) 9 0 a_level a_side (by omega) (by omega) (fun t => by rw [if_neg (by omega)]) (fun t => by rw [if_neg (by omega)])⟩
  obtain ⟨q1, q2, q3, q4⟩ := k1
  refine ⟨zg_g0_ok, fun r hr => ?_, fun r hr => ?_, fun r x hr => ?_, fun e he => ?_⟩
  · rw [show r = 0 by omega]; exact q1
  · rw [show r = 0 by omega]; exact q2
  · rw [show r = 0 by omega]; exact q3 x
  · have := q4 e (by omega)
    rw [show 4 * 0 + e = e by omega] at this
    exact this
end ZX
end
section
/-! symbols, rule, wipe and the constructors of both sides -/
def zs_sy (T N : Nat) (x : Int32) : Prop := ∃ j, x = nI j ∧ ((1 ≤ j ∧ j ≤ T) ∨ (8 ≤ j ∧ j ≤ 7 + N))
def zs_gd (T N : Nat) (v1 v2 v3 v4 : Int32) : Prop := (∃ l, v1 = nI l ∧ 8 ≤ l ∧ l ≤ 7 + N) ∧ (v2 = 0 ∨ zs_sy T N v2) ∧ (v3 = 0 ∨ zs_sy T N v3) ∧ (v4 = 0 ∨ zs_sy T N v4)
def zg_new (g : Nat → Nat) (R l a b c : Nat) : Nat → Nat := zg_app (zg_app (zg_app (zd_up g (4 * (R + 1)) l) (R + 1) a) (R + 1) b) (R + 1) c
theorem zs_cases (x : Int32) : x < 0 ∨ ∃ j, j < 2 ^ 31 ∧ x = nI j := by
  by_cases h : x < 0
  · exact Or.inl h
  · exact Or.inr (nI_of h)
theorem zs_neg {T N : Nat} {x : Int32} (hT : T ≤ 7) (hN : N ≤ 8) (h : x < 0) : ¬ zs_sy T N x := by
  rintro ⟨j, rfl, q⟩
  exact nI_pos (show j < 2 ^ 31 by omega) h
theorem zs_nat {T N j : Nat} (hT : T ≤ 7) (hN : N ≤ 8) (hj : j < 2 ^ 31) : zs_sy T N (nI j) ↔ (1 ≤ j ∧ j ≤ T) ∨ (8 ≤ j ∧ j ≤ 7 + N) := by
  constructor
  · rintro ⟨j', e, q⟩
    have := (nI_eq hj (by omega)).mp e
    subst this; exact q
  · intro q; exact ⟨j, rfl, q⟩
theorem zs_zs {T N : Nat} {x : Int32} (hT : T ≤ 7) (hN : N ≤ 8) (h : x = 0 ∨ zs_sy T N x) : ∃ j, j < 16 ∧ x = nI j := by
  rcases h with h | ⟨j, e, q⟩
  · exact ⟨0, by omega, h⟩
  · exact ⟨j, by omega, e⟩
theorem zs_lt {x y : Int32} (h : x < 0) (hy : 0 ≤ y) : x < y := by
  rw [Int32.lt_iff_toInt_lt] at h ⊢
  rw [Int32.le_iff_toInt_le] at hy
  omega
section ZL
variable {T N : Nat} {f_maxRules f_maxStates f_maxNodes f_maxEdges f_maxSteps f_maxLog f_finished f_lastTerminal f_lastNonterminal f_depthLimit f_built f_ruleCount f_nullable f_stateCount f_edgeCount f_callSize f_pendingSize f_conflictCount f_height f_logSize f_low f_tip f_trialLog : Int32} {a_left a_length a_need a_rhs a_level a_side a_vanishing a_go a_follow a_head a_next a_target a_mark a_entry a_cursor a_callStack a_pending a_la a_base a_table a_check a_row a_symbols a_states a_log a_trialSymbols a_trialStates : Nat → Int32} {a_before a_corner a_sets : Nat → Int64}
theorem zx_isSymbol (hT : T ≤ 7) (hN : N ≤ 8) {x : Int32} {post : Int32 → Prop} (h1 : zs_sy T N x → post 1) (h0 : ¬ zs_sy T N x → post 0) : wpX_isSymbol post (f_maxRules, f_maxStates, f_maxNodes, f_maxEdges, f_maxSteps, f_maxLog, f_finished, nI T, nI (7 + N), f_depthLimit, f_built, f_ruleCount, f_nullable, f_stateCount, f_edgeCount, f_callSize, f_pendingSize, f_conflictCount, f_height, f_logSize, f_low, f_tip, f_trialLog, a_left, a_length, a_need, a_rhs, a_level, a_side, a_before, a_corner, a_vanishing, a_sets, a_go, a_follow, a_head, a_next, a_target, a_mark, a_entry, a_cursor, a_callStack, a_pending, a_la, a_base, a_table, a_check, a_row, a_symbols, a_states, a_log, a_trialSymbols, a_trialStates) x := by
  rcases zs_cases x with hx | ⟨j, hj, rfl⟩
  · refine br_t (zs_lt hx (by decide)) ?_
    exact br_t (zs_lt hx (by decide)) (h0 (zs_neg hT hN hx))
  · have nat := zs_nat (j := j) hT hN hj
    have j13 : ¬ (1 ≤ j ∧ j ≤ T) → wX_isSymbol_13 post (nI j) f_maxRules f_maxStates f_maxNodes f_maxEdges f_maxSteps f_maxLog f_finished (nI T) (nI (7 + N)) f_depthLimit f_built f_ruleCount f_nullable f_stateCount f_edgeCount f_callSize f_pendingSize f_conflictCount f_height f_logSize f_low f_tip f_trialLog a_left a_length a_need a_rhs a_level a_side a_before a_corner a_vanishing a_sets a_go a_follow a_head a_next a_target a_mark a_entry a_cursor a_callStack a_pending a_la a_base a_table a_check a_row a_symbols a_states a_log a_trialSymbols a_trialStates := by
      intro q
      refine pk_lt j 8 (fun c => h0 (fun z => by have := nat.mp z; omega)) (fun c => pk_lt (7 + N) j (fun c' => h0 (fun z => by have := nat.mp z; omega)) (fun c' => h1 (nat.mpr (Or.inr ⟨c, c'⟩))))
    refine pk_lt j 1 (fun c => j13 (by omega)) (fun c => pk_le j T (fun c' => h1 (nat.mpr (Or.inl ⟨c, c'⟩))) (fun c' => j13 (by omega)))
theorem zx_zeroOrSymbol (hT : T ≤ 7) (hN : N ≤ 8) {x : Int32} {post : Int32 → Prop} (h1 : (x = 0 ∨ zs_sy T N x) → post 1) (h0 : ¬ (x = 0 ∨ zs_sy T N x) → post 0) : wpX_zeroOrSymbol post (f_maxRules, f_maxStates, f_maxNodes, f_maxEdges, f_maxSteps, f_maxLog, f_finished, nI T, nI (7 + N), f_depthLimit, f_built, f_ruleCount, f_nullable, f_stateCount, f_edgeCount, f_callSize, f_pendingSize, f_conflictCount, f_height, f_logSize, f_low, f_tip, f_trialLog, a_left, a_length, a_need, a_rhs, a_level, a_side, a_before, a_corner, a_vanishing, a_sets, a_go, a_follow, a_head, a_next, a_target, a_mark, a_entry, a_cursor, a_callStack, a_pending, a_la, a_base, a_table, a_check, a_row, a_symbols, a_states, a_log, a_trialSymbols, a_trialStates) x := by
  refine br_c (fun c => h1 (Or.inl c)) (fun c => ?_)
  refine zx_isSymbol hT hN (fun z => br_f (by decide) (h1 (Or.inr z))) (fun z => br_t rfl (h0 (fun w => w.elim c z)))
theorem zx_R1_GR {g : Nat → Nat} {R : Nat} {Lf L N' Rh : Nat → Int32} (ok : zg_ok g R) (h : ∀ r, r ≤ R → zx_R1 g r Lf L N' Rh) : zx_GR g R Lf L N' Rh := by
  refine ⟨ok, fun r hr => (h r hr).1, fun r hr => (h r hr).2.1, fun r x hr => (h r hr).2.2.1 x, fun e he => ?_⟩
  have := (h (e / 4) (by omega)).2.2.2 (e % 4) (by omega)
  rw [show 4 * (e / 4) + e % 4 = e by omega] at this
  exact this
theorem zx_GR_R1 {g : Nat → Nat} {R : Nat} {Lf L N' Rh : Nat → Int32} (h : zx_GR g R Lf L N' Rh) : ∀ r, r ≤ R → zx_R1 g r Lf L N' Rh :=
  fun r hr => ⟨h.2.1 r hr, h.2.2.1 r hr, fun x => h.2.2.2.1 r x hr, fun d hd => h.2.2.2.2 _ (by omega)⟩
theorem zx_R1_c {g g' : Nat → Nat} {r : Nat} {Lf L N' Rh Lf2 L2 N2 Rh2 : Nat → Int32} (h : zx_R1 g r Lf L N' Rh) (e1 : Lf2 r = Lf r) (e2 : L2 r = L r) (e3 : N2 r = N' r) (e4 : ∀ d, d < 4 → Rh2 (4 * r + d) = Rh (4 * r + d)) (eg : ∀ d, d < 4 → g' (4 * r + d) = g (4 * r + d)) : zx_R1 g' r Lf2 L2 N2 Rh2 := by
  obtain ⟨h1, h2, h3, h4⟩ := h
  have g0 := eg 0 (by omega)
  have g1 := eg 1 (by omega)
  have g2 := eg 2 (by omega)
  have g3 := eg 3 (by omega)
  rw [Nat.add_zero] at g0
  refine ⟨by rw [e1, h1, g0], by rw [e2, h2]; unfold zg_ln; rw [g1, g2, g3], fun x => ?_, fun d hd => ?_⟩
  · rw [e3, h3 x]
    constructor
    · rintro ⟨a, d, b, c⟩; exact ⟨a, d, b, by rw [Nat.add_assoc, eg (1 + d) (by omega), ← Nat.add_assoc]; exact c⟩
    · rintro ⟨a, d, b, c⟩; exact ⟨a, d, b, by rw [Nat.add_assoc, eg (1 + d) (by omega), ← Nat.add_assoc] at c; exact c⟩
  · rw [e4 d hd, h4 d hd]
    unfold zg_af
    by_cases w : (4 * r + d) % 4 < 3
    · rw [if_pos w, if_pos w]
      have := eg (d + 1) (by omega)
      rw [← Nat.add_assoc] at this
      rw [this]
    · rw [if_neg w, if_neg w]
theorem zg_app_o {g : Nat → Nat} {r x i : Nat} (hl : x ≠ 0 → zg_ln g r < 3) (h : i / 4 ≠ r ∨ i % 4 = 0) : zg_app g r x i = g i := by
  by_cases z : x = 0
  · rw [z, zg_app_0]
  · have := hl z
    rw [zg_app_e z, zd_un]
    omega
theorem zg_app_le {g : Nat → Nat} {r x : Nat} (p : zg_pk g r) (hl : x ≠ 0 → zg_ln g r < 3) : zg_ln (zg_app g r x) r ≤ zg_ln g r + 1 := by
  by_cases z : x = 0
  · rw [z, zg_app_0]; omega
  · rw [(zg_app_ln p z (hl z)).1]; exact Nat.le_refl _
theorem zg_new_ok {g : Nat → Nat} {R l a b c : Nat} (ok : zg_ok g R) (hR : R < 12) (l8 : 8 ≤ l) (l16 : l < 16) (ha : a < 16) (hb : b < 16) (hc : c < 16) :
    zg_ok (zd_up g (4 * (R + 1)) l) (R + 1) ∧ zg_ln (zd_up g (4 * (R + 1)) l) (R + 1) = 0 ∧
    zg_ok (zg_app (zd_up g (4 * (R + 1)) l) (R + 1) a) (R + 1) ∧ zg_ln (zg_app (zd_up g (4 * (R + 1)) l) (R + 1) a) (R + 1) ≤ 1 ∧
    zg_ok (zg_app (zg_app (zd_up g (4 * (R + 1)) l) (R + 1) a) (R + 1) b) (R + 1) ∧ zg_ln (zg_app (zg_app (zd_up g (4 * (R + 1)) l) (R + 1) a) (R + 1) b) (R + 1) ≤ 2 ∧
    zg_ok (zg_new g R l a b c) (R + 1) ∧ (∀ i, i / 4 ≠ R + 1 → zg_new g R l a b c i = g i) := by
  obtain ⟨o0, e0⟩ := zg_okStart ok hR l8 l16
  have o1 := zg_okApp (x := a) o0 (by omega) (Nat.le_refl _) ha (fun _ => by omega)
  have e1 := zg_app_le (x := a) ⟨o0.2.2.2.2.2.2.2.1 (R + 1), o0.2.2.2.2.2.2.2.2.1 (R + 1)⟩ (fun _ => by omega)
  have o2 := zg_okApp (x := b) o1 (by omega) (Nat.le_refl _) hb (fun _ => by omega)
  have e2 := zg_app_le (x := b) ⟨o1.2.2.2.2.2.2.2.1 (R + 1), o1.2.2.2.2.2.2.2.2.1 (R + 1)⟩ (fun _ => by omega)
  have o3 := zg_okApp (x := c) o2 (by omega) (Nat.le_refl _) hc (fun _ => by omega)
  refine ⟨o0, e0, o1, by omega, o2, by omega, o3, fun i hi => ?_⟩
  unfold zg_new
  rw [zg_app_o (fun _ => by omega) (Or.inl hi), zg_app_o (fun _ => by omega) (Or.inl hi), zg_app_o (fun _ => by omega) (Or.inl hi), zd_un (by omega)]
end ZL
section ZL
variable {g : Nat → Nat} {R T N : Nat} {f_maxRules f_maxStates f_maxNodes f_maxEdges f_maxSteps f_maxLog f_finished f_lastTerminal f_lastNonterminal f_depthLimit f_built f_ruleCount f_nullable f_stateCount f_edgeCount f_callSize f_pendingSize f_conflictCount f_height f_logSize f_low f_tip f_trialLog : Int32} {a_left a_length a_need a_rhs a_level a_side a_vanishing a_go a_follow a_head a_next a_target a_mark a_entry a_cursor a_callStack a_pending a_la a_base a_table a_check a_row a_symbols a_states a_log a_trialSymbols a_trialStates : Nat → Int32} {a_before a_corner a_sets : Nat → Int64}
theorem zx_rule (hT : T ≤ 7) (hN : N ≤ 8) (hG : zx_GR g R a_left a_length a_need a_rhs) {v1 v2 v3 v4 : Int32} {post : Int32 → SX → Prop}
    (hb : ¬ zs_gd T N v1 v2 v3 v4 → post (-3) (f_maxRules, f_maxStates, f_maxNodes, f_maxEdges, f_maxSteps, f_maxLog, f_finished, nI T, nI (7 + N), f_depthLimit, 0, nI R, f_nullable, f_stateCount, f_edgeCount, f_callSize, f_pendingSize, f_conflictCount, f_height, f_logSize, f_low, f_tip, f_trialLog, a_left, a_length, a_need, a_rhs, a_level, a_side, a_before, a_corner, a_vanishing, a_sets, a_go, a_follow, a_head, a_next, a_target, a_mark, a_entry, a_cursor, a_callStack, a_pending, a_la, a_base, a_table, a_check, a_row, a_symbols, a_states, a_log, a_trialSymbols, a_trialStates)) (hf : zs_gd T N v1 v2 v3 v4 → R = 12 → post (-4) (f_maxRules, f_maxStates, f_maxNodes, f_maxEdges, f_maxSteps, f_maxLog, f_finished, nI T, nI (7 + N), f_depthLimit, 0, nI R, f_nullable, f_stateCount, f_edgeCount, f_callSize, f_pendingSize, f_conflictCount, f_height, f_logSize, f_low, f_tip, f_trialLog, a_left, a_length, a_need, a_rhs, a_level, a_side, a_before, a_corner, a_vanishing, a_sets, a_go, a_follow, a_head, a_next, a_target, a_mark, a_entry, a_cursor, a_callStack, a_pending, a_la, a_base, a_table, a_check, a_row, a_symbols, a_states, a_log, a_trialSymbols, a_trialStates))
    (hp : ∀ l a b c, v1 = nI l → v2 = nI a → v3 = nI b → v4 = nI c → 8 ≤ l → l < 16 → a < 16 → b < 16 → c < 16 → zs_gd T N v1 v2 v3 v4 → R < 12 → ∀ Lf L Nd Rh : Nat → Int32, zx_GR (zg_new g R l a b c) (R + 1) Lf L Nd Rh →
      post (nI (R + 1)) (f_maxRules, f_maxStates, f_maxNodes, f_maxEdges, f_maxSteps, f_maxLog, f_finished, nI T, nI (7 + N), f_depthLimit, 0, nI (R + 1), f_nullable, f_stateCount, f_edgeCount, f_callSize, f_pendingSize, f_conflictCount, f_height, f_logSize, f_low, f_tip, f_trialLog, Lf, L, Nd, Rh, a_level, a_side, a_before, a_corner, a_vanishing, a_sets, a_go, a_follow, a_head, a_next, a_target, a_mark, a_entry, a_cursor, a_callStack, a_pending, a_la, a_base, a_table, a_check, a_row, a_symbols, a_states, a_log, a_trialSymbols, a_trialStates)) :
    wpX_rule post (f_maxRules, f_maxStates, f_maxNodes, f_maxEdges, f_maxSteps, f_maxLog, f_finished, nI T, nI (7 + N), f_depthLimit, 0, nI R, f_nullable, f_stateCount, f_edgeCount, f_callSize, f_pendingSize, f_conflictCount, f_height, f_logSize, f_low, f_tip, f_trialLog, a_left, a_length, a_need, a_rhs, a_level, a_side, a_before, a_corner, a_vanishing, a_sets, a_go, a_follow, a_head, a_next, a_target, a_mark, a_entry, a_cursor, a_callStack, a_pending, a_la, a_base, a_table, a_check, a_row, a_symbols, a_states, a_log, a_trialSymbols, a_trialStates) v1 v2 v3 v4 := by
  have r12 := hG.1.1
  refine br_t rfl (br_c (fun c1 => hb (fun z => ?_)) (fun c1 => br_c (fun c2 => ?_) (fun c2 => hb (fun z => ?_))))
  · obtain ⟨⟨l, e, a, b⟩, _⟩ := z
    rw [e] at c1
    exact nI_nlt (a := l) (b := 8) a (by omega) c1
  · obtain ⟨l, hl, e1⟩ := nI_of (x := v1) (fun z => c1 (zs_lt z (by decide)))
    subst e1
    have l8 : 8 ≤ l := by
      rcases Nat.lt_or_ge l 8 with q | q
      · exact absurd (nI_lt (a := l) (b := 8) q (by decide)) c1
      · exact q
    have lN := (nI_leI hl (by omega)).mp c2
    refine zx_zeroOrSymbol hT hN (fun s2 => br_f (by decide) ?_) (fun s2 => br_t rfl (hb (fun z => s2 z.2.1)))
    refine zx_zeroOrSymbol hT hN (fun s3 => br_f (by decide) ?_) (fun s3 => br_t rfl (hb (fun z => s3 z.2.2.1)))
    refine zx_zeroOrSymbol hT hN (fun s4 => br_f (by decide) ?_) (fun s4 => br_t rfl (hb (fun z => s4 z.2.2.2)))
    have gd : zs_gd T N (nI l) v2 v3 v4 := ⟨⟨l, rfl, l8, lN⟩, s2, s3, s4⟩
    refine pk_lt R 12 (fun hR => ?_) (fun hR => hf gd (by omega))
    obtain ⟨a, ha, e2⟩ := zs_zs hT hN s2
    obtain ⟨b, hb', e3⟩ := zs_zs hT hN s3
    obtain ⟨c, hc, e4⟩ := zs_zs hT hN s4
    subst e2; subst e3; subst e4
    obtain ⟨o0, n0, o1, n1, o2, n2, o3, oth⟩ := zg_new_ok (a := a) (b := b) (c := c) hG.1 hR l8 (by omega) ha hb' hc
    have pk : ∀ {g : Nat → Nat}, zg_ok g (R + 1) → zg_pk g (R + 1) := fun o => ⟨o.2.2.2.2.2.2.2.1 _, o.2.2.2.2.2.2.2.2.1 _⟩
    intro y ey
    rw [nI_1] at ey
    subst ey
    have zz := hG.1.2.2.2.2.2.2.2.2.2
    refine zx_startRule (g := zd_up g (4 * (R + 1)) l) (by omega) ⟨zd_us, by rw [zd_un (by omega)]; exact zz _ (by omega), by rw [zd_un (by omega)]; exact zz _ (by omega), by rw [zd_un (by omega)]; exact zz _ (by omega)⟩ (fun Lf L Nd Rh k1 k2 k3 => ?_)
    refine zx_append (by omega) ha (pk o0) (fun _ => by omega) k1 (fun L1 N1 Rh1 j1 j2 => ?_)
    refine zx_append (by omega) hb' (pk o1) (fun _ => by omega) j1 (fun L2 N2 Rh2 i1 i2 => ?_)
    refine zx_append (by omega) hc (pk o2) (fun _ => by omega) i1 (fun L3 N3 Rh3 h1 h2 => ?_)
    refine hp l a b c rfl rfl rfl rfl l8 (by omega) ha hb' hc gd hR Lf L3 N3 Rh3 (zx_R1_GR o3 (fun r hr => ?_))
    by_cases e : r = R + 1
    · rw [e]; exact h1
    · refine zx_R1_c (zx_GR_R1 hG r (by omega)) (k2 r e) ?_ ?_ (fun d hd => ?_) (fun d hd => oth _ (by omega))
      · rw [(h2 r e).1, (i2 r e).1, (j2 r e).1, (k3 r e).1]
      · rw [(h2 r e).2.1, (i2 r e).2.1, (j2 r e).2.1, (k3 r e).2.1]
      · rw [(h2 r e).2.2 d hd, (i2 r e).2.2 d hd, (j2 r e).2.2 d hd, (k3 r e).2.2 d hd]
  · obtain ⟨⟨l, e, a, b⟩, _⟩ := z
    rw [e] at c2
    exact c2 (nI_le b (by omega))
end ZL
section ZM
variable {g : Nat → Nat} {R T N : Nat} {g_terms g_nons g_depth g_built g_clash g_changed g_rules g_states g_size g_logged g_oldSize g_oldLogged : Int32} {b_part b_levels b_sides b_productive b_nullable b_first b_holds b_la b_stack b_oldStack b_log : Nat → Int32}
theorem zy_isSymbol (hT : T ≤ 7) (hN : N ≤ 8) {x : Int32} {post : Int32 → Prop} (h1 : zs_sy T N x → post 1) (h0 : ¬ zs_sy T N x → post 0) : wpY_isSymbol post (nI T, nI N, g_depth, g_built, g_clash, g_changed, g_rules, g_states, g_size, g_logged, g_oldSize, g_oldLogged, b_part, b_levels, b_sides, b_productive, b_nullable, b_first, b_holds, b_la, b_stack, b_oldStack, b_log) x := by
  rcases zs_cases x with hx | ⟨j, hj, rfl⟩
  · refine br_t (zs_lt hx (by decide)) ?_
    exact br_t (zs_lt hx (by decide)) (h0 (zs_neg hT hN hx))
  · have nat := zs_nat (j := j) hT hN hj
    have j13 : ¬ (1 ≤ j ∧ j ≤ T) → wY_isSymbol_13 post (nI j) (nI T) (nI N) g_depth g_built g_clash g_changed g_rules g_states g_size g_logged g_oldSize g_oldLogged b_part b_levels b_sides b_productive b_nullable b_first b_holds b_la b_stack b_oldStack b_log := by
      intro q
      refine pk_lt j 8 (fun c => h0 (fun z => by have := nat.mp z; omega)) (fun c => pk_le (8 + N) j (fun c' => h0 (fun z => by have := nat.mp z; omega)) (fun c' => h1 (nat.mpr (Or.inr ⟨c, by omega⟩))) (za_8 N))
    refine pk_lt j 1 (fun c => j13 (by omega)) (fun c => pk_le j T (fun c' => h1 (nat.mpr (Or.inl ⟨c, c'⟩))) (fun c' => j13 (by omega)))
def zy_Y1 (g : Nat → Nat) (r : Nat) (P0 P : Nat → Int32) : Prop := (∀ j, j < 4 → P (4 * r + j) = nI (g (4 * r + j))) ∧ ∀ i, i < 4 * r → P i = P0 i
theorem zy_Y1_a {r x : Nat} {P0 P P' : Nat → Int32} (h : zy_Y1 g r P0 P) (hx : x ≠ 0) (hl : zg_ln g r < 3) (e : P' = upd P (4 * r + zg_ln g r + 1) (nI x)) : zy_Y1 (zg_app g r x) r P0 P' := by
  refine ⟨fun j hj => ?_, fun i hi => by rw [e, pk_un (by omega)]; exact h.2 i hi⟩
  rw [zg_app_e hx]
  by_cases z : j = zg_ln g r + 1
  · rw [z, e, ← Nat.add_assoc, pk_us, show 4 * r + zg_ln g r + 1 = 4 * r + 1 + zg_ln g r by omega, zd_us]
  · rw [e, pk_un (by omega), zd_un (by omega)]; exact h.1 j hj
theorem zy_rule (hT : T ≤ 7) (hN : N ≤ 8) (hG : zy_GR g R b_part) {v1 v2 v3 v4 : Int32} {post : Int32 → SY → Prop}
    (hb : ¬ zs_gd T N v1 v2 v3 v4 → post (-3) (nI T, nI N, g_depth, 0, g_clash, g_changed, nI R, g_states, g_size, g_logged, g_oldSize, g_oldLogged, b_part, b_levels, b_sides, b_productive, b_nullable, b_first, b_holds, b_la, b_stack, b_oldStack, b_log)) (hf : zs_gd T N v1 v2 v3 v4 → R = 12 → post (-4) (nI T, nI N, g_depth, 0, g_clash, g_changed, nI R, g_states, g_size, g_logged, g_oldSize, g_oldLogged, b_part, b_levels, b_sides, b_productive, b_nullable, b_first, b_holds, b_la, b_stack, b_oldStack, b_log))
    (hp : ∀ l a b c, v1 = nI l → v2 = nI a → v3 = nI b → v4 = nI c → 8 ≤ l → l < 16 → a < 16 → b < 16 → c < 16 → zs_gd T N v1 v2 v3 v4 → R < 12 → ∀ P : Nat → Int32, zy_GR (zg_new g R l a b c) (R + 1) P →
      post (nI (R + 1)) (nI T, nI N, g_depth, 0, g_clash, g_changed, nI (R + 1), g_states, g_size, g_logged, g_oldSize, g_oldLogged, P, b_levels, b_sides, b_productive, b_nullable, b_first, b_holds, b_la, b_stack, b_oldStack, b_log)) :
    wpY_rule post (nI T, nI N, g_depth, 0, g_clash, g_changed, nI R, g_states, g_size, g_logged, g_oldSize, g_oldLogged, b_part, b_levels, b_sides, b_productive, b_nullable, b_first, b_holds, b_la, b_stack, b_oldStack, b_log) v1 v2 v3 v4 := by
  have r12 := hG.1.1
  refine br_t rfl (br_c (fun c1 => hb (fun z => ?_)) (fun c1 => ?_))
  · obtain ⟨⟨l, e, a, b⟩, _⟩ := z
    rw [e] at c1
    exact nI_nlt (a := l) (b := 8) a (by omega) c1
  obtain ⟨l, hl, e1⟩ := nI_of (x := v1) (fun z => c1 (zs_lt z (by decide)))
  subst e1
  have l8 : 8 ≤ l := by
    rcases Nat.lt_or_ge l 8 with q | q
    · exact absurd (nI_lt (a := l) (b := 8) q (by decide)) c1
    · exact q
  refine zy_isSymbol hT hN (fun s1 => br_f (by decide) ?_) (fun s1 => br_t rfl (hb (fun ⟨⟨l', e, a, b⟩, _⟩ => s1 ⟨l', e, Or.inr ⟨a, b⟩⟩)))
  have lN : l ≤ 7 + N := by have := (zs_nat hT hN hl).mp s1; omega
  have j68 : (v2 = 0 ∨ zs_sy T N v2) → (v3 = 0 ∨ zs_sy T N v3) → (v4 = 0 ∨ zs_sy T N v4) → wY_rule_68 post (nI l) v2 v3 v4 (nI T) (nI N) g_depth 0 g_clash g_changed (nI R) g_states g_size g_logged g_oldSize g_oldLogged b_part b_levels b_sides b_productive b_nullable b_first b_holds b_la b_stack b_oldStack b_log := by
    intro s2 s3 s4
    have gd : zs_gd T N (nI l) v2 v3 v4 := ⟨⟨l, rfl, l8, lN⟩, s2, s3, s4⟩
    refine pk_eq R 12 (fun hR => hf gd hR) (fun hR => ?_)
    obtain ⟨a, ha, e2⟩ := zs_zs hT hN s2
    obtain ⟨b, hb', e3⟩ := zs_zs hT hN s3
    obtain ⟨c, hc, e4⟩ := zs_zs hT hN s4
    subst e2; subst e3; subst e4
    obtain ⟨o0, n0, o1, n1, o2, n2, o3, oth⟩ := zg_new_ok (a := a) (b := b) (c := c) hG.1 (by omega) l8 (by omega) ha hb' hc
    intro y ey
    rw [nI_1] at ey
    subst ey
    intro x5 e5
    rw [za_x4] at e5
    subst e5
    have p3 : nI (4 * (R + 1)) + 3 = nI (4 * (R + 1) + 3) := nI_add _ 3
    have p2 : nI (4 * (R + 1)) + 2 = nI (4 * (R + 1) + 2) := nI_add _ 2
    have p1 : nI (4 * (R + 1)) + 1 = nI (4 * (R + 1) + 1) := nI_add _ 1
    rw [p3, p2, p1]
    refine ⟨vp_in_nI (by omega) (by omega), fun P1 q1 => ⟨vp_in_nI (by omega) (by omega), fun P2 q2 => ⟨vp_in_nI (by omega) (by omega), fun P3 q3 => ⟨vp_in_nI (by omega) (by omega), fun P4 q4 => ?_⟩⟩⟩⟩
    rw [za_c _ (by omega)] at q1 q2 q3 q4
    have zz := hG.1.2.2.2.2.2.2.2.2.2
    have Y0 : zy_Y1 (zd_up g (4 * (R + 1)) l) (R + 1) b_part P4 := by
      refine ⟨fun j hj => ?_, fun i hi => by rw [q4, pk_un (by omega), q3, pk_un (by omega), q2, pk_un (by omega), q1, pk_un (by omega)]⟩
      rcases (show j = 0 ∨ j = 1 ∨ j = 2 ∨ j = 3 by omega) with w | w | w | w <;> subst w
      · show P4 (4 * (R + 1)) = nI (zd_up g (4 * (R + 1)) l (4 * (R + 1)))
        rw [q4, pk_un (by omega), q3, pk_un (by omega), q2, pk_un (by omega), q1, pk_us, zd_us]
      · rw [q4, pk_us, zd_un (by omega), zz _ (by omega)]; rfl
      · rw [q4, pk_un (by omega), q3, pk_us, zd_un (by omega), zz _ (by omega)]; rfl
      · rw [q4, pk_un (by omega), q3, pk_un (by omega), q2, pk_us, zd_un (by omega), zz _ (by omega)]; rfl
    have j166 : ∀ P : Nat → Int32, zy_Y1 (zg_app (zg_app (zd_up g (4 * (R + 1)) l) (R + 1) a) (R + 1) b) (R + 1) b_part P → wY_rule_166 post (nI c) (nI (4 * (R + 1) + zg_ln (zg_app (zg_app (zd_up g (4 * (R + 1)) l) (R + 1) a) (R + 1) b) (R + 1))) (nI T) (nI N) g_depth 0 g_clash g_changed (nI (R + 1)) g_states g_size g_logged g_oldSize g_oldLogged P b_levels b_sides b_productive b_nullable b_first b_holds b_la b_stack b_oldStack b_log := by
      intro P hP
      have fin : ∀ P' : Nat → Int32, zy_Y1 (zg_new g R l a b c) (R + 1) b_part P' → post (nI (R + 1)) (nI T, nI N, g_depth, 0, g_clash, g_changed, nI (R + 1), g_states, g_size, g_logged, g_oldSize, g_oldLogged, P', b_levels, b_sides, b_productive, b_nullable, b_first, b_holds, b_la, b_stack, b_oldStack, b_log) := by
        intro P' hP'
        refine hp l a b c rfl rfl rfl rfl l8 (by omega) ha hb' hc gd (by omega) P' ⟨o3, fun i hi => ?_⟩
        rcases Nat.lt_or_ge i (4 * (R + 1)) with w | w
        · rw [hP'.2 i w, oth i (by omega)]; exact hG.2 i (by omega)
        · have := hP'.1 (i - 4 * (R + 1)) (by omega)
          rw [show 4 * (R + 1) + (i - 4 * (R + 1)) = i by omega] at this
          exact this
      refine pk_eq c 0 (fun c0 => fin P ?_) (fun c0 y ey => ?_)
      · unfold zg_new; rw [c0, zg_app_0]; exact hP
      · rw [nI_1] at ey
        subst ey
        refine ⟨vp_in_nI (by omega) (by omega), fun P' eP => fin P' ?_⟩
        rw [za_c _ (by omega)] at eP
        exact zy_Y1_a hP c0 (by omega) eP
    have j151 : ∀ P : Nat → Int32, zy_Y1 (zg_app (zd_up g (4 * (R + 1)) l) (R + 1) a) (R + 1) b_part P → wY_rule_151 post (nI b) (nI c) (nI (4 * (R + 1) + zg_ln (zg_app (zd_up g (4 * (R + 1)) l) (R + 1) a) (R + 1))) (nI T) (nI N) g_depth 0 g_clash g_changed (nI (R + 1)) g_states g_size g_logged g_oldSize g_oldLogged P b_levels b_sides b_productive b_nullable b_first b_holds b_la b_stack b_oldStack b_log := by
      intro P hP
      refine pk_eq b 0 (fun c0 => ?_) (fun c0 y ey => ?_)
      · have := j166 P (by rw [c0, zg_app_0]; exact hP)
        rw [c0, zg_app_0] at this
        exact this
      · rw [nI_1] at ey
        subst ey
        refine ⟨vp_in_nI (by omega) (by omega), fun P' eP => ?_⟩
        rw [za_c _ (by omega)] at eP
        have := j166 P' (zy_Y1_a hP c0 (by omega) eP)
        rw [(zg_app_ln ⟨o1.2.2.2.2.2.2.2.1 _, o1.2.2.2.2.2.2.2.2.1 _⟩ c0 (by omega)).1, ← Nat.add_assoc] at this
        exact this
    refine pk_eq a 0 (fun c0 => ?_) (fun c0 y ey => ?_)
    · have := j151 P4 (by rw [c0, zg_app_0]; exact Y0)
      rw [c0, zg_app_0, n0, Nat.add_zero] at this
      exact this
    · subst ey
      refine ⟨vp_in_nI (by omega) (by omega), fun P' eP => ?_⟩
      rw [za_c _ (by omega)] at eP
      have := j151 P' (zy_Y1_a Y0 c0 (by omega) (by rw [n0]; exact eP))
      rw [(zg_app_ln ⟨o0.2.2.2.2.2.2.2.1 _, o0.2.2.2.2.2.2.2.2.1 _⟩ c0 (by omega)).1, n0] at this
      exact this
  have j51 : (v2 = 0 ∨ zs_sy T N v2) → (v3 = 0 ∨ zs_sy T N v3) → wY_rule_51 post (nI l) v2 v3 v4 (nI T) (nI N) g_depth 0 g_clash g_changed (nI R) g_states g_size g_logged g_oldSize g_oldLogged b_part b_levels b_sides b_productive b_nullable b_first b_holds b_la b_stack b_oldStack b_log := by
    intro s2 s3
    refine br_c (fun c => j68 s2 s3 (Or.inl c)) (fun c => ?_)
    exact zy_isSymbol hT hN (fun z => br_f (by decide) (j68 s2 s3 (Or.inr z))) (fun z => br_t rfl (hb (fun w => w.2.2.2.elim c z)))
  have j39 : (v2 = 0 ∨ zs_sy T N v2) → wY_rule_39 post (nI l) v2 v3 v4 (nI T) (nI N) g_depth 0 g_clash g_changed (nI R) g_states g_size g_logged g_oldSize g_oldLogged b_part b_levels b_sides b_productive b_nullable b_first b_holds b_la b_stack b_oldStack b_log := by
    intro s2
    refine br_c (fun c => j51 s2 (Or.inl c)) (fun c => ?_)
    exact zy_isSymbol hT hN (fun z => br_f (by decide) (j51 s2 (Or.inr z))) (fun z => br_t rfl (hb (fun w => w.2.2.1.elim c z)))
  refine br_c (fun c => j39 (Or.inl c)) (fun c => ?_)
  exact zy_isSymbol hT hN (fun z => br_f (by decide) (j39 (Or.inr z))) (fun z => br_t rfl (hb (fun w => w.2.1.elim c z)))
theorem zy_wp30 {post : SY → Prop} (hp : ∀ lv sd : Nat → Int32, (∀ t, lv t = if t < 8 then 0 else b_levels t) → (∀ t, sd t = if t < 8 then 0 else b_sides t) → post (g_terms, g_nons, g_depth, g_built, g_clash, g_changed, g_rules, g_states, g_size, g_logged, g_oldSize, g_oldLogged, b_part, lv, sd, b_productive, b_nullable, b_first, b_holds, b_la, b_stack, b_oldStack, b_log)) :
    ∀ f i (lv sd : Nat → Int32), i ≤ 8 → 8 - i < f → (∀ t, lv t = if t < i then 0 else b_levels t) → (∀ t, sd t = if t < i then 0 else b_sides t) → wY_wipe_30 post g_terms g_nons g_depth g_built g_clash g_changed g_rules g_states g_size g_logged g_oldSize g_oldLogged f (nI i) b_part lv sd b_productive b_nullable b_first b_holds b_la b_stack b_oldStack b_log := by
  intro f
  induction f with
  | zero => intro i lv sd _ h; omega
  | succ f ih =>
    intro i lv sd hi hf h1 h2
    refine pk_le 8 i (fun h => ?_) (fun h => ⟨vp_in_nI (by omega) (by omega), fun sd' es => ⟨vp_in_nI (by omega) (by omega), fun lv' el y ey => ?_⟩⟩)
    · have e : i = 8 := by omega
      subst e
      exact hp lv sd h1 h2
    · rw [za_c i (by omega)] at el es
      rw [ey, nI_1]
      refine ih (i + 1) lv' sd' (by omega) (by omega) (fun t => ?_) (fun t => ?_)
      · by_cases z : t = i
        · rw [z, el, pk_us, if_pos (by omega)]
        · rw [el, pk_un z, h1 t]
          by_cases w : t < i
          · rw [if_pos w, if_pos (by omega)]
          · rw [if_neg w, if_neg (by omega)]
      · by_cases z : t = i
        · rw [z, es, pk_us, if_pos (by omega)]
        · rw [es, pk_un z, h2 t]
          by_cases w : t < i
          · rw [if_pos w, if_pos (by omega)]
          · rw [if_neg w, if_neg (by omega)]
theorem zy_wipe (h0 : b_part 0 = 0) (h2 : b_part 2 = 0) (h3 : b_part 3 = 0) {post : SY → Prop} (hp : ∀ P lv sd : Nat → Int32, zy_GR zg_g0 0 P → (∀ t, lv t = if t < 8 then 0 else b_levels t) → (∀ t, sd t = if t < 8 then 0 else b_sides t) →
      post (g_terms, g_nons, g_depth, 0, g_clash, g_changed, nI 0, g_states, nI 0, nI 0, g_oldSize, g_oldLogged, P, lv, sd, b_productive, b_nullable, b_first, b_holds, b_la, b_stack, b_oldStack, b_log)) : wpY_wipe post (g_terms, g_nons, g_depth, g_built, g_clash, g_changed, g_rules, g_states, g_size, g_logged, g_oldSize, g_oldLogged, b_part, b_levels, b_sides, b_productive, b_nullable, b_first, b_holds, b_la, b_stack, b_oldStack, b_log) := by
  intro P eP
  refine ⟨9, zy_wp30 (fun lv sd k1 k2 => hp P lv sd ⟨zg_g0_ok, fun i hi => ?_⟩ k1 k2) 9 0 b_levels b_sides (by omega) (by omega) (fun t => by rw [if_neg (by omega)]) (fun t => by rw [if_neg (by omega)])⟩
  rcases (show i = 0 ∨ i = 1 ∨ i = 2 ∨ i = 3 by omega) with w | w | w | w <;> subst w
  · rw [eP, pk_un (by omega)]; exact h0
  · rw [eP, pk_us]; rfl
  · rw [eP, pk_un (by omega)]; exact h2
  · rw [eP, pk_un (by omega)]; exact h3
end ZM
end
section
/-! the relation -/
def zr_F (T N D R h lc : Nat) (g k lg : Nat → Nat) (a_left a_length a_need a_rhs a_symbols a_log b_part b_stack b_log : Nat → Int32) : Prop :=
  (1 ≤ T ∧ T ≤ 7 ∧ 1 ≤ N ∧ N ≤ 8 ∧ 4 ≤ D ∧ D ≤ 32 ∧ h ≤ D ∧ lc ≤ 64) ∧ zx_GR g R a_left a_length a_need a_rhs ∧ zy_GR g R b_part ∧
  (∀ i, i < h → a_symbols i = nI (k i)) ∧ (∀ i, i < h → b_stack i = nI (k i)) ∧ (∀ i, i < lc → a_log i = nI (lg i)) ∧ (∀ i, i < lc → b_log i = nI (lg i))
def zr_B (T R h n : Nat) (g k : Nat → Nat) (cc : Int32) (a_level a_side : Nat → Int32) (a_sets : Nat → Int64) (a_go a_la a_base a_table a_check a_symbols a_states b_holds b_la : Nat → Int32) : Prop :=
  zx_BU g R T n a_level a_side a_sets a_go a_la a_base a_table a_check cc ∧ zy_BU g R n b_holds b_la ∧ zp_VS g R k h ∧ zx_XS g R n (zx_sg a_sets) k h a_symbols a_states
/-- both objects hold the same grammar, ranks, stack of symbols and log; once built, each numbers the reachable item sets and has their lookaheads -/
def i_Rel (k : Nat) (u : SX) (v : SY) : Prop := match u with
  | (f_maxRules, f_maxStates, f_maxNodes, f_maxEdges, f_maxSteps, f_maxLog, f_finished, f_lastTerminal, f_lastNonterminal, f_depthLimit, f_built, f_ruleCount, f_nullable, f_stateCount, f_edgeCount, f_callSize, f_pendingSize, f_conflictCount, f_height, f_logSize, f_low, f_tip, f_trialLog, a_left, a_length, a_need, a_rhs, a_level, a_side, a_before, a_corner, a_vanishing, a_sets, a_go, a_follow, a_head, a_next, a_target, a_mark, a_entry, a_cursor, a_callStack, a_pending, a_la, a_base, a_table, a_check, a_row, a_symbols, a_states, a_log, a_trialSymbols, a_trialStates) => match v with
    | (g_terms, g_nons, g_depth, g_built, g_clash, g_changed, g_rules, g_states, g_size, g_logged, g_oldSize, g_oldLogged, b_part, b_levels, b_sides, b_productive, b_nullable, b_first, b_holds, b_la, b_stack, b_oldStack, b_log) => ∃ (T N D R h lc n : Nat) (g kk lg : Nat → Nat),
      (f_lastTerminal = nI T ∧ f_lastNonterminal = nI (7 + N) ∧ f_depthLimit = nI D ∧ f_ruleCount = nI R ∧ f_height = nI h ∧ f_logSize = nI lc) ∧
      (g_terms = nI T ∧ g_nons = nI N ∧ g_depth = nI D ∧ g_rules = nI R ∧ g_size = nI h ∧ g_logged = nI lc ∧ b_levels = a_level ∧ b_sides = a_side) ∧
      zr_F T N D R h lc g kk lg a_left a_length a_need a_rhs a_symbols a_log b_part b_stack b_log ∧
      ((f_built = 0 ∧ g_built = 0 ∧ h = 0 ∧ lc = 0) ∨ (f_built = 1 ∧ g_built = 1 ∧ f_stateCount = nI n ∧ g_states = nI n ∧ zr_B T R h n g kk f_conflictCount a_level a_side a_sets a_go a_la a_base a_table a_check a_symbols a_states b_holds b_la))
theorem zr_el {kt : Nat} {u : SX} {v : SY} {P : SX → SY → Prop} (I : i_Rel kt u v)
    (h0 : ∀ (f_maxRules f_maxStates f_maxNodes f_maxEdges f_maxSteps f_maxLog f_finished f_lastTerminal f_lastNonterminal f_depthLimit f_built f_ruleCount f_nullable f_stateCount f_edgeCount f_callSize f_pendingSize f_conflictCount f_height f_logSize f_low f_tip f_trialLog : Int32) (a_left a_length a_need a_rhs a_level a_side a_vanishing a_go a_follow a_head a_next a_target a_mark a_entry a_cursor a_callStack a_pending a_la a_base a_table a_check a_row a_symbols a_states a_log a_trialSymbols a_trialStates : Nat → Int32) (a_before a_corner a_sets : Nat → Int64) (g_terms g_nons g_depth g_built g_clash g_changed g_rules g_states g_size g_logged g_oldSize g_oldLogged : Int32) (b_part b_levels b_sides b_productive b_nullable b_first b_holds b_la b_stack b_oldStack b_log : Nat → Int32) (T N D R : Nat) (g kk lg : Nat → Nat), zr_F T N D R 0 0 g kk lg a_left a_length a_need a_rhs a_symbols a_log b_part b_stack b_log → P (f_maxRules, f_maxStates, f_maxNodes, f_maxEdges, f_maxSteps, f_maxLog, f_finished, nI T, nI (7 + N), nI D, 0, nI R, f_nullable, f_stateCount, f_edgeCount, f_callSize, f_pendingSize, f_conflictCount, nI 0, nI 0, f_low, f_tip, f_trialLog, a_left, a_length, a_need, a_rhs, a_level, a_side, a_before, a_corner, a_vanishing, a_sets, a_go, a_follow, a_head, a_next, a_target, a_mark, a_entry, a_cursor, a_callStack, a_pending, a_la, a_base, a_table, a_check, a_row, a_symbols, a_states, a_log, a_trialSymbols, a_trialStates) (nI T, nI N, nI D, 0, g_clash, g_changed, nI R, g_states, nI 0, nI 0, g_oldSize, g_oldLogged, b_part, a_level, a_side, b_productive, b_nullable, b_first, b_holds, b_la, b_stack, b_oldStack, b_log))
    (h1 : ∀ (f_maxRules f_maxStates f_maxNodes f_maxEdges f_maxSteps f_maxLog f_finished f_lastTerminal f_lastNonterminal f_depthLimit f_built f_ruleCount f_nullable f_stateCount f_edgeCount f_callSize f_pendingSize f_conflictCount f_height f_logSize f_low f_tip f_trialLog : Int32) (a_left a_length a_need a_rhs a_level a_side a_vanishing a_go a_follow a_head a_next a_target a_mark a_entry a_cursor a_callStack a_pending a_la a_base a_table a_check a_row a_symbols a_states a_log a_trialSymbols a_trialStates : Nat → Int32) (a_before a_corner a_sets : Nat → Int64) (g_terms g_nons g_depth g_built g_clash g_changed g_rules g_states g_size g_logged g_oldSize g_oldLogged : Int32) (b_part b_levels b_sides b_productive b_nullable b_first b_holds b_la b_stack b_oldStack b_log : Nat → Int32) (T N D R h lc n : Nat) (g kk lg : Nat → Nat), zr_F T N D R h lc g kk lg a_left a_length a_need a_rhs a_symbols a_log b_part b_stack b_log →
      zr_B T R h n g kk f_conflictCount a_level a_side a_sets a_go a_la a_base a_table a_check a_symbols a_states b_holds b_la → P (f_maxRules, f_maxStates, f_maxNodes, f_maxEdges, f_maxSteps, f_maxLog, f_finished, nI T, nI (7 + N), nI D, 1, nI R, f_nullable, nI n, f_edgeCount, f_callSize, f_pendingSize, f_conflictCount, nI h, nI lc, f_low, f_tip, f_trialLog, a_left, a_length, a_need, a_rhs, a_level, a_side, a_before, a_corner, a_vanishing, a_sets, a_go, a_follow, a_head, a_next, a_target, a_mark, a_entry, a_cursor, a_callStack, a_pending, a_la, a_base, a_table, a_check, a_row, a_symbols, a_states, a_log, a_trialSymbols, a_trialStates) (nI T, nI N, nI D, 1, g_clash, g_changed, nI R, nI n, nI h, nI lc, g_oldSize, g_oldLogged, b_part, a_level, a_side, b_productive, b_nullable, b_first, b_holds, b_la, b_stack, b_oldStack, b_log)) : P u v := by
  obtain ⟨f_maxRules, f_maxStates, f_maxNodes, f_maxEdges, f_maxSteps, f_maxLog, f_finished, f_lastTerminal, f_lastNonterminal, f_depthLimit, f_built, f_ruleCount, f_nullable, f_stateCount, f_edgeCount, f_callSize, f_pendingSize, f_conflictCount, f_height, f_logSize, f_low, f_tip, f_trialLog, a_left, a_length, a_need, a_rhs, a_level, a_side, a_before, a_corner, a_vanishing, a_sets, a_go, a_follow, a_head, a_next, a_target, a_mark, a_entry, a_cursor, a_callStack, a_pending, a_la, a_base, a_table, a_check, a_row, a_symbols, a_states, a_log, a_trialSymbols, a_trialStates⟩ := u
  obtain ⟨g_terms, g_nons, g_depth, g_built, g_clash, g_changed, g_rules, g_states, g_size, g_logged, g_oldSize, g_oldLogged, b_part, b_levels, b_sides, b_productive, b_nullable, b_first, b_holds, b_la, b_stack, b_oldStack, b_log⟩ := v
  obtain ⟨T, N, D, R, h, lc, n, g, kk, lg, ⟨x1, x2, x3, x4, x5, x6⟩, ⟨y1, y2, y3, y4, y5, y6, y7, y8⟩, hF, hB⟩ := I
  subst x1; subst x2; subst x3; subst x4; subst x5; subst x6; subst y1; subst y2; subst y3; subst y4; subst y5; subst y6; subst y7; subst y8
  rcases hB with ⟨b1, b2, b3, b4⟩ | ⟨b1, b2, b3, b4, b5⟩
  · subst b1; subst b2; subst b3; subst b4
    exact h0 f_maxRules f_maxStates f_maxNodes f_maxEdges f_maxSteps f_maxLog f_finished 0 0 0 0 0 f_nullable f_stateCount f_edgeCount f_callSize f_pendingSize f_conflictCount 0 0 f_low f_tip f_trialLog a_left a_length a_need a_rhs b_levels b_sides a_vanishing a_go a_follow a_head a_next a_target a_mark a_entry a_cursor a_callStack a_pending a_la a_base a_table a_check a_row a_symbols a_states a_log a_trialSymbols a_trialStates a_before a_corner a_sets 0 0 0 0 g_clash g_changed 0 g_states 0 0 g_oldSize g_oldLogged b_part b_levels b_sides b_productive b_nullable b_first b_holds b_la b_stack b_oldStack b_log T N D R g kk lg hF
  · subst b1; subst b2; subst b3; subst b4
    exact h1 f_maxRules f_maxStates f_maxNodes f_maxEdges f_maxSteps f_maxLog f_finished 0 0 0 0 0 f_nullable 0 f_edgeCount f_callSize f_pendingSize f_conflictCount 0 0 f_low f_tip f_trialLog a_left a_length a_need a_rhs b_levels b_sides a_vanishing a_go a_follow a_head a_next a_target a_mark a_entry a_cursor a_callStack a_pending a_la a_base a_table a_check a_row a_symbols a_states a_log a_trialSymbols a_trialStates a_before a_corner a_sets 0 0 0 0 g_clash g_changed 0 0 0 0 g_oldSize g_oldLogged b_part b_levels b_sides b_productive b_nullable b_first b_holds b_la b_stack b_oldStack b_log T N D R h lc n g kk lg hF b5
section ZR
variable {kt T N D R h lc n : Nat} {g kk lg : Nat → Nat} {f_maxRules f_maxStates f_maxNodes f_maxEdges f_maxSteps f_maxLog f_finished f_lastTerminal f_lastNonterminal f_depthLimit f_built f_ruleCount f_nullable f_stateCount f_edgeCount f_callSize f_pendingSize f_conflictCount f_height f_logSize f_low f_tip f_trialLog : Int32} {a_left a_length a_need a_rhs a_level a_side a_vanishing a_go a_follow a_head a_next a_target a_mark a_entry a_cursor a_callStack a_pending a_la a_base a_table a_check a_row a_symbols a_states a_log a_trialSymbols a_trialStates : Nat → Int32} {a_before a_corner a_sets : Nat → Int64} {g_terms g_nons g_depth g_built g_clash g_changed g_rules g_states g_size g_logged g_oldSize g_oldLogged : Int32} {b_part b_levels b_sides b_productive b_nullable b_first b_holds b_la b_stack b_oldStack b_log : Nat → Int32}
theorem zr_mk0 (hF : zr_F T N D R 0 0 g kk lg a_left a_length a_need a_rhs a_symbols a_log b_part b_stack b_log) : i_Rel kt (f_maxRules, f_maxStates, f_maxNodes, f_maxEdges, f_maxSteps, f_maxLog, f_finished, nI T, nI (7 + N), nI D, 0, nI R, f_nullable, f_stateCount, f_edgeCount, f_callSize, f_pendingSize, f_conflictCount, nI 0, nI 0, f_low, f_tip, f_trialLog, a_left, a_length, a_need, a_rhs, a_level, a_side, a_before, a_corner, a_vanishing, a_sets, a_go, a_follow, a_head, a_next, a_target, a_mark, a_entry, a_cursor, a_callStack, a_pending, a_la, a_base, a_table, a_check, a_row, a_symbols, a_states, a_log, a_trialSymbols, a_trialStates) (nI T, nI N, nI D, 0, g_clash, g_changed, nI R, g_states, nI 0, nI 0, g_oldSize, g_oldLogged, b_part, a_level, a_side, b_productive, b_nullable, b_first, b_holds, b_la, b_stack, b_oldStack, b_log) :=
  ⟨T, N, D, R, 0, 0, 0, g, kk, lg, ⟨rfl, rfl, rfl, rfl, rfl, rfl⟩, ⟨rfl, rfl, rfl, rfl, rfl, rfl, rfl, rfl⟩, hF, Or.inl ⟨rfl, rfl, rfl, rfl⟩⟩
theorem zr_mk1 (hF : zr_F T N D R h lc g kk lg a_left a_length a_need a_rhs a_symbols a_log b_part b_stack b_log)
    (hB : zr_B T R h n g kk f_conflictCount a_level a_side a_sets a_go a_la a_base a_table a_check a_symbols a_states b_holds b_la) : i_Rel kt (f_maxRules, f_maxStates, f_maxNodes, f_maxEdges, f_maxSteps, f_maxLog, f_finished, nI T, nI (7 + N), nI D, 1, nI R, f_nullable, nI n, f_edgeCount, f_callSize, f_pendingSize, f_conflictCount, nI h, nI lc, f_low, f_tip, f_trialLog, a_left, a_length, a_need, a_rhs, a_level, a_side, a_before, a_corner, a_vanishing, a_sets, a_go, a_follow, a_head, a_next, a_target, a_mark, a_entry, a_cursor, a_callStack, a_pending, a_la, a_base, a_table, a_check, a_row, a_symbols, a_states, a_log, a_trialSymbols, a_trialStates) (nI T, nI N, nI D, 1, g_clash, g_changed, nI R, nI n, nI h, nI lc, g_oldSize, g_oldLogged, b_part, a_level, a_side, b_productive, b_nullable, b_first, b_holds, b_la, b_stack, b_oldStack, b_log) :=
  ⟨T, N, D, R, h, lc, n, g, kk, lg, ⟨rfl, rfl, rfl, rfl, rfl, rfl⟩, ⟨rfl, rfl, rfl, rfl, rfl, rfl, rfl, rfl⟩, hF, Or.inr ⟨rfl, rfl, rfl, rfl, hB⟩⟩
end ZR
theorem i_up {k : Nat} {u : SX} {v : SY} (h : i_Rel k u v) : i_Rel (k + 5) u v := h
end
section
/-! owed: the constructors, wipe, rule, rank, part, rankOf -/
def zs_c (x : Int32) (lo hi : Nat) : Nat := if nI lo ≤ x then (if x ≤ nI hi then x.toNatClampNeg else hi) else lo
theorem zs_c_b {x : Int32} {lo hi : Nat} (h : lo ≤ hi) (hh : hi < 2 ^ 31) : lo ≤ zs_c x lo hi ∧ zs_c x lo hi ≤ hi := by
  unfold zs_c
  by_cases c1 : nI lo ≤ x
  · rw [if_pos c1]
    by_cases c2 : x ≤ nI hi
    · rw [if_pos c2]
      have x0 : ¬ x < 0 := fun z => by
        have := zs_lt z (nI_pos' (show lo < 2 ^ 31 by omega))
        exact Int32.lt_irrefl (Int32.lt_of_lt_of_le this c1)
      obtain ⟨j, hj, rfl⟩ := nI_of x0
      rw [nI_clamp hj]
      exact ⟨(nI_leI (by omega) hj).mp c1, (nI_leI hj (by omega)).mp c2⟩
    · rw [if_neg c2]; omega
  · rw [if_neg c1]; omega
theorem zs_c_e {x : Int32} {lo hi : Nat} (h : lo ≤ hi) (hh : hi < 2 ^ 31) (c1 : nI lo ≤ x) (c2 : x ≤ nI hi) : x = nI (zs_c x lo hi) := by
  unfold zs_c
  rw [if_pos c1, if_pos c2]
  have x0 : ¬ x < 0 := fun z => by
    have := zs_lt z (nI_pos' (show lo < 2 ^ 31 by omega))
    exact Int32.lt_irrefl (Int32.lt_of_lt_of_le this c1)
  obtain ⟨j, hj, rfl⟩ := nI_of x0
  rw [nI_clamp hj]
theorem zs_clamp {x : Int32} {lo hi : Nat} (h : lo ≤ hi) (hh : hi < 2 ^ 31) {Q : Int32 → Prop} (hq : Q (nI (zs_c x lo hi))) : (nI lo ≤ x → ((x ≤ nI hi → Q x) ∧ (¬ x ≤ nI hi → Q (nI hi)))) ∧ (¬ nI lo ≤ x → Q (nI lo)) := by
  refine ⟨fun c1 => ⟨fun c2 => ?_, fun c2 => ?_⟩, fun c1 => ?_⟩
  · rw [← zs_c_e h hh c1 c2] at hq; exact hq
  · unfold zs_c at hq; rw [if_pos c1, if_neg c2] at hq; exact hq
  · unfold zs_c at hq; rw [if_neg c1] at hq; exact hq
section ZO
variable {f_maxRules f_maxStates f_maxNodes f_maxEdges f_maxSteps f_maxLog f_finished f_lastTerminal f_lastNonterminal f_depthLimit f_built f_ruleCount f_nullable f_stateCount f_edgeCount f_callSize f_pendingSize f_conflictCount f_height f_logSize f_low f_tip f_trialLog : Int32} {a_left a_length a_need a_rhs a_level a_side a_vanishing a_go a_follow a_head a_next a_target a_mark a_entry a_cursor a_callStack a_pending a_la a_base a_table a_check a_row a_symbols a_states a_log a_trialSymbols a_trialStates : Nat → Int32} {a_before a_corner a_sets : Nat → Int64}
theorem zx_clamp {x : Int32} {lo hi : Nat} (h : lo ≤ hi) (hh : hi < 2 ^ 31) {post : Int32 → Prop} (hq : post (nI (zs_c x lo hi))) : wpX_clamp post (f_maxRules, f_maxStates, f_maxNodes, f_maxEdges, f_maxSteps, f_maxLog, f_finished, f_lastTerminal, f_lastNonterminal, f_depthLimit, f_built, f_ruleCount, f_nullable, f_stateCount, f_edgeCount, f_callSize, f_pendingSize, f_conflictCount, f_height, f_logSize, f_low, f_tip, f_trialLog, a_left, a_length, a_need, a_rhs, a_level, a_side, a_before, a_corner, a_vanishing, a_sets, a_go, a_follow, a_head, a_next, a_target, a_mark, a_entry, a_cursor, a_callStack, a_pending, a_la, a_base, a_table, a_check, a_row, a_symbols, a_states, a_log, a_trialSymbols, a_trialStates) x (nI lo) (nI hi) := zs_clamp (Q := post) h hh hq
end ZO
section ZO
variable {g_terms g_nons g_depth g_built g_clash g_changed g_rules g_states g_size g_logged g_oldSize g_oldLogged : Int32} {b_part b_levels b_sides b_productive b_nullable b_first b_holds b_la b_stack b_oldStack b_log : Nat → Int32}
theorem zy_init (k0 k1 k2 : Int32) {post : SY → Prop}
    (hp : ∀ P : Nat → Int32, zy_GR zg_g0 0 P → post (nI (zs_c k0 1 7), nI (zs_c k1 1 8), nI (zs_c k2 4 32), 0, 0, 0, nI 0, 0, nI 0, nI 0, 0, 0, P, (fun _ => 0), (fun _ => 0), (fun _ => 0), (fun _ => 0), (fun _ => 0), (fun _ => 0), (fun _ => 0), (fun _ => 0), (fun _ => 0), (fun _ => 0))) :
    wpY_init post k0 k1 k2 := by
  have last : ∀ a b c : Int32, a = nI (zs_c k0 1 7) → b = nI (zs_c k1 1 8) → c = nI (zs_c k2 4 32) → wY_init_166 post c a b 0 0 0 0 0 0 0 0 0 0 (fun _ => 0) (fun _ => 0) (fun _ => 0) (fun _ => 0) (fun _ => 0) (fun _ => 0) (fun _ => 0) (fun _ => 0) (fun _ => 0) (fun _ => 0) (fun _ => 0) := by
    intro a b c ea eb ec
    subst ea; subst eb; subst ec
    unfold wY_init_166
    refine zy_wipe rfl rfl rfl (fun P lv sd h1 h2 h3 => ?_)
    have e1 : lv = fun _ => 0 := funext fun t => by rw [h2 t]; split <;> rfl
    have e2 : sd = fun _ => 0 := funext fun t => by rw [h3 t]; split <;> rfl
    subst e1; subst e2
    exact hp P h1
  have j141 : ∀ a b : Int32, a = nI (zs_c k0 1 7) → b = nI (zs_c k1 1 8) → wY_init_141 post k2 b a 0 0 0 0 0 0 0 0 0 0 0 (fun _ => 0) (fun _ => 0) (fun _ => 0) (fun _ => 0) (fun _ => 0) (fun _ => 0) (fun _ => 0) (fun _ => 0) (fun _ => 0) (fun _ => 0) (fun _ => 0) := by
    intro a b ea eb
    exact zs_clamp (x := k2) (lo := 4) (hi := 32) (by omega) (by omega) (Q := fun c => wY_init_166 post c a b 0 0 0 0 0 0 0 0 0 0 (fun _ => 0) (fun _ => 0) (fun _ => 0) (fun _ => 0) (fun _ => 0) (fun _ => 0) (fun _ => 0) (fun _ => 0) (fun _ => 0) (fun _ => 0) (fun _ => 0)) (last a b _ ea eb rfl)
  have j116 : ∀ a : Int32, a = nI (zs_c k0 1 7) → wY_init_116 post k1 k2 a 0 0 0 0 0 0 0 0 0 0 0 0 (fun _ => 0) (fun _ => 0) (fun _ => 0) (fun _ => 0) (fun _ => 0) (fun _ => 0) (fun _ => 0) (fun _ => 0) (fun _ => 0) (fun _ => 0) (fun _ => 0) := by
    intro a ea
    exact zs_clamp (x := k1) (lo := 1) (hi := 8) (by omega) (by omega) (Q := fun b => wY_init_141 post k2 b a 0 0 0 0 0 0 0 0 0 0 0 (fun _ => 0) (fun _ => 0) (fun _ => 0) (fun _ => 0) (fun _ => 0) (fun _ => 0) (fun _ => 0) (fun _ => 0) (fun _ => 0) (fun _ => 0) (fun _ => 0)) (j141 a _ ea rfl)
  exact zs_clamp (x := k0) (lo := 1) (hi := 7) (by omega) (by omega) (Q := fun a => wY_init_116 post k1 k2 a 0 0 0 0 0 0 0 0 0 0 0 0 (fun _ => 0) (fun _ => 0) (fun _ => 0) (fun _ => 0) (fun _ => 0) (fun _ => 0) (fun _ => 0) (fun _ => 0) (fun _ => 0) (fun _ => 0) (fun _ => 0)) (j116 _ rfl)
end ZO
theorem i_vc0 (k0 : Int32) (k1 : Int32) (k2 : Int32) : wpX_init (fun u => wpY_init (fun v => i_Rel 3 u v) k0 k1 k2) k0 k1 k2 := by
  unfold wpX_init
  refine zx_clamp (lo := 1) (hi := 8) (by omega) (by omega) ?_
  refine zx_clamp (lo := 1) (hi := 7) (by omega) (by omega) ?_
  intro y ey
  have e8 : (8 : Int32) + nI (zs_c k1 1 8) - 1 = nI (7 + zs_c k1 1 8) := by
    rw [za_8, show 8 + zs_c k1 1 8 = 7 + zs_c k1 1 8 + 1 by omega, nI_pred]
  rw [e8] at ey
  subst ey
  refine zx_clamp (lo := 4) (hi := 32) (by omega) (by omega) ?_
  refine zx_wipe (fun Lf L Nd Rh lv sd h1 h2 h3 => ?_)
  have e1 : lv = fun _ => 0 := funext fun t => by rw [h2 t]; split <;> rfl
  have e2 : sd = fun _ => 0 := funext fun t => by rw [h3 t]; split <;> rfl
  subst e1; subst e2
  refine zy_init k0 k1 k2 (fun P hP => ?_)
  have b1 := zs_c_b (x := k0) (lo := 1) (hi := 7) (by omega) (by omega)
  have b2 := zs_c_b (x := k1) (lo := 1) (hi := 8) (by omega) (by omega)
  have b3 := zs_c_b (x := k2) (lo := 4) (hi := 32) (by omega) (by omega)
  exact zr_mk0 (R := 0) (g := zg_g0) (kk := fun _ => 0) (lg := fun _ => 0) ⟨⟨b1.1, b1.2, b2.1, b2.2, b3.1, b3.2, by omega, by omega⟩, h1, hP, fun i h => by omega, fun i h => by omega, fun i h => by omega, fun i h => by omega⟩
theorem zr_part0 {g : Nat → Nat} {R : Nat} {b_part : Nat → Int32} (h : zy_GR g R b_part) : b_part 0 = 0 ∧ b_part 2 = 0 ∧ b_part 3 = 0 := by
  obtain ⟨ok, hp⟩ := h
  refine ⟨?_, ?_, ?_⟩
  · rw [hp 0 (by omega), ok.2.1]; rfl
  · rw [hp 2 (by omega), ok.2.2.2.1]; rfl
  · rw [hp 3 (by omega), ok.2.2.2.2.1]; rfl
theorem i_vc_wipe {k : Nat} {u : SX} {v : SY} (I : i_Rel k u v) (hk : k + 5 ≤ 2563) : wpX_wipe (fun u' => wpY_wipe (fun v' => i_Rel (k + 5) u' v') v) u := by
  refine zr_el (P := fun u v => wpX_wipe (fun u' => wpY_wipe (fun v' => i_Rel (k + 5) u' v') v) u) I ?_ ?_
  · intro f_maxRules f_maxStates f_maxNodes f_maxEdges f_maxSteps f_maxLog f_finished f_lastTerminal f_lastNonterminal f_depthLimit f_built f_ruleCount f_nullable f_stateCount f_edgeCount f_callSize f_pendingSize f_conflictCount f_height f_logSize f_low f_tip f_trialLog a_left a_length a_need a_rhs a_level a_side a_vanishing a_go a_follow a_head a_next a_target a_mark a_entry a_cursor a_callStack a_pending a_la a_base a_table a_check a_row a_symbols a_states a_log a_trialSymbols a_trialStates a_before a_corner a_sets g_terms g_nons g_depth g_built g_clash g_changed g_rules g_states g_size g_logged g_oldSize g_oldLogged b_part b_levels b_sides b_productive b_nullable b_first b_holds b_la b_stack b_oldStack b_log T N D R g kk lg hF
    obtain ⟨hb, hG, hY, _⟩ := hF
    obtain ⟨p0, p2, p3⟩ := zr_part0 hY
    refine zx_wipe (fun Lf L Nd Rh lv sd h1 h2 h3 => ?_)
    refine zy_wipe p0 p2 p3 (fun P lv' sd' k1 k2 k3 => ?_)
    have e1 : lv' = lv := funext fun t => by rw [h2 t, k2 t]
    have e2 : sd' = sd := funext fun t => by rw [h3 t, k3 t]
    subst e1; subst e2
    exact zr_mk0 (R := 0) (g := zg_g0) (kk := fun _ => 0) (lg := fun _ => 0) ⟨⟨by omega, by omega, by omega, by omega, by omega, by omega, by omega, by omega⟩, h1, k1, fun i h => by omega, fun i h => by omega, fun i h => by omega, fun i h => by omega⟩
  · intro f_maxRules f_maxStates f_maxNodes f_maxEdges f_maxSteps f_maxLog f_finished f_lastTerminal f_lastNonterminal f_depthLimit f_built f_ruleCount f_nullable f_stateCount f_edgeCount f_callSize f_pendingSize f_conflictCount f_height f_logSize f_low f_tip f_trialLog a_left a_length a_need a_rhs a_level a_side a_vanishing a_go a_follow a_head a_next a_target a_mark a_entry a_cursor a_callStack a_pending a_la a_base a_table a_check a_row a_symbols a_states a_log a_trialSymbols a_trialStates a_before a_corner a_sets g_terms g_nons g_depth g_built g_clash g_changed g_rules g_states g_size g_logged g_oldSize g_oldLogged b_part b_levels b_sides b_productive b_nullable b_first b_holds b_la b_stack b_oldStack b_log T N D R h lc n g kk lg hF hB
    obtain ⟨hb, hG, hY, _⟩ := hF
    obtain ⟨p0, p2, p3⟩ := zr_part0 hY
    refine zx_wipe (fun Lf L Nd Rh lv sd h1 h2 h3 => ?_)
    refine zy_wipe p0 p2 p3 (fun P lv' sd' k1 k2 k3 => ?_)
    have e1 : lv' = lv := funext fun t => by rw [h2 t, k2 t]
    have e2 : sd' = sd := funext fun t => by rw [h3 t, k3 t]
    subst e1; subst e2
    exact zr_mk0 (R := 0) (g := zg_g0) (kk := fun _ => 0) (lg := fun _ => 0) ⟨⟨by omega, by omega, by omega, by omega, by omega, by omega, by omega, by omega⟩, h1, k1, fun i h => by omega, fun i h => by omega, fun i h => by omega, fun i h => by omega⟩
theorem i_vc_rule {k : Nat} {u : SX} {v : SY} (I : i_Rel k u v) (hk : k + 5 ≤ 2563) (v1 : Int32) (v2 : Int32) (v3 : Int32) (v4 : Int32) : wpX_rule (fun r u' => wpY_rule (fun r' v' => r' = r ∧ i_Rel (k + 5) u' v') v v1 v2 v3 v4) u v1 v2 v3 v4 := by
  refine zr_el (P := fun u v => wpX_rule (fun r u' => wpY_rule (fun r' v' => r' = r ∧ i_Rel (k + 5) u' v') v v1 v2 v3 v4) u v1 v2 v3 v4) I ?_ ?_
  · intro f_maxRules f_maxStates f_maxNodes f_maxEdges f_maxSteps f_maxLog f_finished f_lastTerminal f_lastNonterminal f_depthLimit f_built f_ruleCount f_nullable f_stateCount f_edgeCount f_callSize f_pendingSize f_conflictCount f_height f_logSize f_low f_tip f_trialLog a_left a_length a_need a_rhs a_level a_side a_vanishing a_go a_follow a_head a_next a_target a_mark a_entry a_cursor a_callStack a_pending a_la a_base a_table a_check a_row a_symbols a_states a_log a_trialSymbols a_trialStates a_before a_corner a_sets g_terms g_nons g_depth g_built g_clash g_changed g_rules g_states g_size g_logged g_oldSize g_oldLogged b_part b_levels b_sides b_productive b_nullable b_first b_holds b_la b_stack b_oldStack b_log T N D R g kk lg hF
    obtain ⟨hb, hG, hY, f1, f2, f3, f4⟩ := id hF
    refine zx_rule (by omega) (by omega) hG (fun nb => ?_) (fun gd r12 => ?_) (fun l a b c e1 e2 e3 e4 l8 l16 ha hb' hc gd rl Lf L Nd Rh hGR => ?_)
    · refine zy_rule (by omega) (by omega) hY (fun _ => ⟨rfl, zr_mk0 hF⟩) (fun gd => absurd gd nb) (fun _ _ _ _ _ _ _ _ _ _ _ _ _ gd => absurd gd nb)
    · refine zy_rule (by omega) (by omega) hY (fun nb => absurd gd nb) (fun _ _ => ⟨rfl, zr_mk0 hF⟩) (fun _ _ _ _ _ _ _ _ _ _ _ _ _ _ rl => by omega)
    · refine zy_rule (by omega) (by omega) hY (fun nb => absurd gd nb) (fun _ r12 => by omega) (fun l' a' b' c' e1' e2' e3' e4' _ l16' ha' hb2 hc' _ _ P hP => ⟨rfl, ?_⟩)
      have q1 : l' = l := (nI_eq (by omega) (by omega)).mp (e1'.symm.trans e1)
      have q2 : a' = a := (nI_eq (by omega) (by omega)).mp (e2'.symm.trans e2)
      have q3 : b' = b := (nI_eq (by omega) (by omega)).mp (e3'.symm.trans e3)
      have q4 : c' = c := (nI_eq (by omega) (by omega)).mp (e4'.symm.trans e4)
      subst q1; subst q2; subst q3; subst q4
      exact zr_mk0 (kk := kk) (lg := lg) ⟨hb, hGR, hP, f1, f2, f3, f4⟩
  · intro f_maxRules f_maxStates f_maxNodes f_maxEdges f_maxSteps f_maxLog f_finished f_lastTerminal f_lastNonterminal f_depthLimit f_built f_ruleCount f_nullable f_stateCount f_edgeCount f_callSize f_pendingSize f_conflictCount f_height f_logSize f_low f_tip f_trialLog a_left a_length a_need a_rhs a_level a_side a_vanishing a_go a_follow a_head a_next a_target a_mark a_entry a_cursor a_callStack a_pending a_la a_base a_table a_check a_row a_symbols a_states a_log a_trialSymbols a_trialStates a_before a_corner a_sets g_terms g_nons g_depth g_built g_clash g_changed g_rules g_states g_size g_logged g_oldSize g_oldLogged b_part b_levels b_sides b_productive b_nullable b_first b_holds b_la b_stack b_oldStack b_log T N D R h lc n g kk lg hF hB
    exact br_f (by decide) (br_f (by decide) ⟨rfl, zr_mk1 hF hB⟩)
theorem i_vc_rank {k : Nat} {u : SX} {v : SY} (I : i_Rel k u v) (hk : k + 5 ≤ 2563) (v1 : Int32) (v2 : Int32) (v3 : Int32) : wpX_rank (fun r u' => wpY_rank (fun r' v' => r' = r ∧ i_Rel (k + 5) u' v') v v1 v2 v3) u v1 v2 v3 := by
  refine zr_el (P := fun u v => wpX_rank (fun r u' => wpY_rank (fun r' v' => r' = r ∧ i_Rel (k + 5) u' v') v v1 v2 v3) u v1 v2 v3) I ?_ ?_
  · intro f_maxRules f_maxStates f_maxNodes f_maxEdges f_maxSteps f_maxLog f_finished f_lastTerminal f_lastNonterminal f_depthLimit f_built f_ruleCount f_nullable f_stateCount f_edgeCount f_callSize f_pendingSize f_conflictCount f_height f_logSize f_low f_tip f_trialLog a_left a_length a_need a_rhs a_level a_side a_vanishing a_go a_follow a_head a_next a_target a_mark a_entry a_cursor a_callStack a_pending a_la a_base a_table a_check a_row a_symbols a_states a_log a_trialSymbols a_trialStates a_before a_corner a_sets g_terms g_nons g_depth g_built g_clash g_changed g_rules g_states g_size g_logged g_oldSize g_oldLogged b_part b_levels b_sides b_productive b_nullable b_first b_holds b_la b_stack b_oldStack b_log T N D R g kk lg hF
    obtain ⟨hb, hG, hY, f1, f2, f3, f4⟩ := id hF
    by_cases c1 : v1 < 1
    · exact br_t rfl (br_t c1 (br_t rfl (br_t c1 ⟨rfl, zr_mk0 hF⟩)))
    by_cases c2 : nI T < v1
    · exact br_t rfl (br_f c1 (br_t c2 (br_t rfl (br_f c1 (br_t c2 ⟨rfl, zr_mk0 hF⟩)))))
    by_cases c3 : v2 < 0
    · exact br_t rfl (br_f c1 (br_f c2 (br_t c3 (br_t rfl (br_f c1 (br_f c2 (br_t c3 ⟨rfl, zr_mk0 hF⟩)))))))
    by_cases c4 : 7 < v2
    · exact br_t rfl (br_f c1 (br_f c2 (br_f c3 (br_t c4 (br_t rfl (br_f c1 (br_f c2 (br_f c3 (br_t c4 ⟨rfl, zr_mk0 hF⟩)))))))))
    by_cases c5 : v3 < 0
    · exact br_t rfl (br_f c1 (br_f c2 (br_f c3 (br_f c4 (br_t c5 (br_t rfl (br_f c1 (br_f c2 (br_f c3 (br_f c4 (br_t c5 ⟨rfl, zr_mk0 hF⟩)))))))))))
    by_cases c6 : v3 ≤ 2
    · obtain ⟨t, ht, e⟩ := nI_of (x := v1) (fun z => c1 (zs_lt z (by decide)))
      subst e
      have tT : t ≤ T := by
        rcases Nat.lt_or_ge T t with q | q
        · exact absurd (nI_lt q ht) c2
        · exact q
      have hi : vp_in (nI t) 8 := vp_in_nI (by omega) (by omega)
      refine br_t rfl (br_f c1 (br_f c2 (br_f c3 (br_f c4 (br_f c5 (br_t c6 ⟨hi, fun A eA => ⟨hi, fun B eB => ?_⟩⟩))))))
      refine br_t rfl (br_f c1 (br_f c2 (br_f c3 (br_f c4 (br_f c5 (br_t c6 ⟨hi, fun A' eA' => ⟨hi, fun B' eB' => ⟨rfl, ?_⟩⟩⟩))))))
      have e1 : A' = A := by rw [eA, eA']
      have e2 : B' = B := by rw [eB, eB']
      rw [e1, e2]
      exact zr_mk0 hF
    · exact br_t rfl (br_f c1 (br_f c2 (br_f c3 (br_f c4 (br_f c5 (br_f c6 (br_t rfl (br_f c1 (br_f c2 (br_f c3 (br_f c4 (br_f c5 (br_f c6 ⟨rfl, zr_mk0 hF⟩)))))))))))))
  · intro f_maxRules f_maxStates f_maxNodes f_maxEdges f_maxSteps f_maxLog f_finished f_lastTerminal f_lastNonterminal f_depthLimit f_built f_ruleCount f_nullable f_stateCount f_edgeCount f_callSize f_pendingSize f_conflictCount f_height f_logSize f_low f_tip f_trialLog a_left a_length a_need a_rhs a_level a_side a_vanishing a_go a_follow a_head a_next a_target a_mark a_entry a_cursor a_callStack a_pending a_la a_base a_table a_check a_row a_symbols a_states a_log a_trialSymbols a_trialStates a_before a_corner a_sets g_terms g_nons g_depth g_built g_clash g_changed g_rules g_states g_size g_logged g_oldSize g_oldLogged b_part b_levels b_sides b_productive b_nullable b_first b_holds b_la b_stack b_oldStack b_log T N D R h lc n g kk lg hF hB
    exact br_f (by decide) (br_f (by decide) ⟨rfl, zr_mk1 hF hB⟩)
end
section
/-! owed: part, rankOf, conflicts, clear, push, has, look, action, symbol, reduction -/
section ZO
variable {kt T N D R h lc n : Nat} {g kk lg : Nat → Nat} {f_maxRules f_maxStates f_maxNodes f_maxEdges f_maxSteps f_maxLog f_finished f_lastTerminal f_lastNonterminal f_depthLimit f_built f_ruleCount f_nullable f_stateCount f_edgeCount f_callSize f_pendingSize f_conflictCount f_height f_logSize f_low f_tip f_trialLog : Int32} {a_left a_length a_need a_rhs a_level a_side a_vanishing a_go a_follow a_head a_next a_target a_mark a_entry a_cursor a_callStack a_pending a_la a_base a_table a_check a_row a_symbols a_states a_log a_trialSymbols a_trialStates : Nat → Int32} {a_before a_corner a_sets : Nat → Int64} {g_terms g_nons g_depth g_built g_clash g_changed g_rules g_states g_size g_logged g_oldSize g_oldLogged : Int32} {b_part b_levels b_sides b_productive b_nullable b_first b_holds b_la b_stack b_oldStack b_log : Nat → Int32}
theorem zr_part {Q : Prop} (hG : zx_GR g R a_left a_length a_need a_rhs) (hY : zy_GR g R b_part) (hQ : Q) (v1 v2 : Int32) : wpX_part (fun r => wpY_part (fun r' => r' = r ∧ Q) (g_terms, g_nons, g_depth, g_built, g_clash, g_changed, nI R, g_states, g_size, g_logged, g_oldSize, g_oldLogged, b_part, b_levels, b_sides, b_productive, b_nullable, b_first, b_holds, b_la, b_stack, b_oldStack, b_log) v1 v2) (f_maxRules, f_maxStates, f_maxNodes, f_maxEdges, f_maxSteps, f_maxLog, f_finished, f_lastTerminal, f_lastNonterminal, f_depthLimit, f_built, nI R, f_nullable, f_stateCount, f_edgeCount, f_callSize, f_pendingSize, f_conflictCount, f_height, f_logSize, f_low, f_tip, f_trialLog, a_left, a_length, a_need, a_rhs, a_level, a_side, a_before, a_corner, a_vanishing, a_sets, a_go, a_follow, a_head, a_next, a_target, a_mark, a_entry, a_cursor, a_callStack, a_pending, a_la, a_base, a_table, a_check, a_row, a_symbols, a_states, a_log, a_trialSymbols, a_trialStates) v1 v2 := by
  have ok := hG.1
  have r12 := ok.1
  by_cases c1 : v1 < 1
  · exact br_t c1 (br_t c1 ⟨rfl, hQ⟩)
  by_cases c2 : nI R < v1
  · exact br_f c1 (br_t c2 (br_f c1 (br_t c2 ⟨rfl, hQ⟩)))
  by_cases c3 : v2 < 0
  · exact br_f c1 (br_f c2 (br_t c3 (br_f c1 (br_f c2 (br_t c3 ⟨rfl, hQ⟩)))))
  by_cases c4 : v2 ≤ 3
  · obtain ⟨r, hr, e⟩ := nI_of (x := v1) (fun z => c1 (zs_lt z (by decide)))
    subst e
    have rR : r ≤ R := by
      rcases Nat.lt_or_ge R r with q | q
      · exact absurd (nI_lt q hr) c2
      · exact q
    obtain ⟨i, hi, e⟩ := nI_of (x := v2) c3
    subst e
    have i3 : i ≤ 3 := (nI_leI (b := 3) hi (by decide)).mp c4
    have l3 := zg_ln_le (g := g) r
    have y : ∀ x : Int32, (i ≤ zg_ln g r → nI (g (4 * r + i)) = x) → (¬ i ≤ zg_ln g r → -1 = x) → wpY_part (fun r' => r' = x ∧ Q) (g_terms, g_nons, g_depth, g_built, g_clash, g_changed, nI R, g_states, g_size, g_logged, g_oldSize, g_oldLogged, b_part, b_levels, b_sides, b_productive, b_nullable, b_first, b_holds, b_la, b_stack, b_oldStack, b_log) (nI r) (nI i) := by
      intro x h1 h2
      refine br_f c1 (br_f c2 (br_f c3 (br_t c4 ?_)))
      refine zy_len hY rR (pk_le i (zg_ln g r) (fun c => ?_) (fun c => ⟨h2 (by omega), hQ⟩))
      rw [za_m4]
      refine ⟨vp_in_nI (by omega) (by omega), ?_⟩
      rw [za_c _ (by omega), hY.2 _ (by omega)]
      exact ⟨h1 c, hQ⟩
    refine br_f c1 (br_f c2 (br_f c3 (br_t c4 (pk_eq i 0 (fun c => ⟨vp_in_nI (by omega) (by omega), ?_⟩) (fun c => ⟨vp_in_nI (by omega) (by omega), ?_⟩)))))
    · rw [za_c r (by omega), hG.2.1 r rR]
      exact y _ (fun _ => by rw [c]; rfl) (fun z => by omega)
    · rw [za_c r (by omega), hG.2.2.1 r rR]
      refine pk_le i (zg_ln g r) (fun c' => ?_) (fun c' => y _ (fun z => by omega) (fun _ => rfl))
      obtain ⟨j, rfl⟩ : ∃ j, i = j + 1 := ⟨i - 1, by omega⟩
      rw [za_m4, ← Nat.add_assoc, nI_pred]
      refine ⟨vp_in_nI (by omega) (by omega), ?_⟩
      rw [za_c _ (by omega), hG.2.2.2.2 _ (by omega), zg_af_m (by omega)]
      exact y _ (fun _ => rfl) (fun z => by omega)
  · exact br_f c1 (br_f c2 (br_f c3 (br_f c4 (br_f c1 (br_f c2 (br_f c3 (br_f c4 ⟨rfl, hQ⟩)))))))
theorem zr_rankOf {Q : Prop} (hT : T ≤ 7) (hQ : Q) (v1 : Int32) : wpX_rankOf (fun r => wpY_rankOf (fun r' => r' = r ∧ Q) (nI T, g_nons, g_depth, g_built, g_clash, g_changed, g_rules, g_states, g_size, g_logged, g_oldSize, g_oldLogged, b_part, a_level, a_side, b_productive, b_nullable, b_first, b_holds, b_la, b_stack, b_oldStack, b_log) v1) (f_maxRules, f_maxStates, f_maxNodes, f_maxEdges, f_maxSteps, f_maxLog, f_finished, nI T, f_lastNonterminal, f_depthLimit, f_built, f_ruleCount, f_nullable, f_stateCount, f_edgeCount, f_callSize, f_pendingSize, f_conflictCount, f_height, f_logSize, f_low, f_tip, f_trialLog, a_left, a_length, a_need, a_rhs, a_level, a_side, a_before, a_corner, a_vanishing, a_sets, a_go, a_follow, a_head, a_next, a_target, a_mark, a_entry, a_cursor, a_callStack, a_pending, a_la, a_base, a_table, a_check, a_row, a_symbols, a_states, a_log, a_trialSymbols, a_trialStates) v1 := by
  by_cases c1 : v1 < 1
  · exact br_t c1 (br_t c1 ⟨rfl, hQ⟩)
  by_cases c2 : v1 ≤ nI T
  · obtain ⟨t, ht, e⟩ := nI_of (x := v1) (fun z => c1 (zs_lt z (by decide)))
    subst e
    have tT := (nI_leI ht (by omega)).mp c2
    have hi : vp_in (nI t) 8 := vp_in_nI (by omega) (by omega)
    exact br_f c1 (br_t c2 ⟨hi, hi, br_f c1 (br_t c2 ⟨hi, hi, rfl, hQ⟩)⟩)
  · exact br_f c1 (br_f c2 (br_f c1 (br_f c2 ⟨rfl, hQ⟩)))
theorem zr_symbol {Q : Prop} (h32 : h ≤ 32) (hs : ∀ i, i < h → a_symbols i = nI (kk i)) (hs' : ∀ i, i < h → b_stack i = nI (kk i)) (hQ : Q) (v1 : Int32) : wpX_symbol (fun r => wpY_symbol (fun r' => r' = r ∧ Q) (g_terms, g_nons, g_depth, g_built, g_clash, g_changed, g_rules, g_states, nI h, g_logged, g_oldSize, g_oldLogged, b_part, b_levels, b_sides, b_productive, b_nullable, b_first, b_holds, b_la, b_stack, b_oldStack, b_log) v1) (f_maxRules, f_maxStates, f_maxNodes, f_maxEdges, f_maxSteps, f_maxLog, f_finished, f_lastTerminal, f_lastNonterminal, f_depthLimit, f_built, f_ruleCount, f_nullable, f_stateCount, f_edgeCount, f_callSize, f_pendingSize, f_conflictCount, nI h, f_logSize, f_low, f_tip, f_trialLog, a_left, a_length, a_need, a_rhs, a_level, a_side, a_before, a_corner, a_vanishing, a_sets, a_go, a_follow, a_head, a_next, a_target, a_mark, a_entry, a_cursor, a_callStack, a_pending, a_la, a_base, a_table, a_check, a_row, a_symbols, a_states, a_log, a_trialSymbols, a_trialStates) v1 := by
  by_cases c1 : v1 < 0
  · exact br_t c1 (br_t c1 ⟨rfl, hQ⟩)
  by_cases c2 : v1 < nI h
  · obtain ⟨i, hi, e⟩ := nI_of (x := v1) c1
    subst e
    have ih := (nI_ltI hi (by omega)).mp c2
    have hin : vp_in (nI i) 32 := vp_in_nI (by omega) (by omega)
    refine br_f c1 (br_t c2 ⟨hin, br_f c1 (br_t c2 ⟨hin, ?_, hQ⟩)⟩)
    rw [za_c i hi, hs i ih, hs' i ih]
  · exact br_f c1 (br_f c2 (br_f c1 (br_f c2 ⟨rfl, hQ⟩)))
theorem zr_reduction {Q : Prop} (h64 : lc ≤ 64) (hs : ∀ i, i < lc → a_log i = nI (lg i)) (hs' : ∀ i, i < lc → b_log i = nI (lg i)) (hQ : Q) (v1 : Int32) : wpX_reduction (fun r => wpY_reduction (fun r' => r' = r ∧ Q) (g_terms, g_nons, g_depth, g_built, g_clash, g_changed, g_rules, g_states, g_size, nI lc, g_oldSize, g_oldLogged, b_part, b_levels, b_sides, b_productive, b_nullable, b_first, b_holds, b_la, b_stack, b_oldStack, b_log) v1) (f_maxRules, f_maxStates, f_maxNodes, f_maxEdges, f_maxSteps, f_maxLog, f_finished, f_lastTerminal, f_lastNonterminal, f_depthLimit, f_built, f_ruleCount, f_nullable, f_stateCount, f_edgeCount, f_callSize, f_pendingSize, f_conflictCount, f_height, nI lc, f_low, f_tip, f_trialLog, a_left, a_length, a_need, a_rhs, a_level, a_side, a_before, a_corner, a_vanishing, a_sets, a_go, a_follow, a_head, a_next, a_target, a_mark, a_entry, a_cursor, a_callStack, a_pending, a_la, a_base, a_table, a_check, a_row, a_symbols, a_states, a_log, a_trialSymbols, a_trialStates) v1 := by
  by_cases c1 : v1 < 0
  · exact br_t c1 (br_t c1 ⟨rfl, hQ⟩)
  by_cases c2 : v1 < nI lc
  · obtain ⟨i, hi, e⟩ := nI_of (x := v1) c1
    subst e
    have ih := (nI_ltI hi (by omega)).mp c2
    have hin : vp_in (nI i) 64 := vp_in_nI (by omega) (by omega)
    refine br_f c1 (br_t c2 ⟨hin, br_f c1 (br_t c2 ⟨hin, ?_, hQ⟩)⟩)
    rw [za_c i hi, hs i ih, hs' i ih]
  · exact br_f c1 (br_f c2 (br_f c1 (br_f c2 ⟨rfl, hQ⟩)))
theorem zx_holds (B : zx_BU g R T n a_level a_side a_sets a_go a_la a_base a_table a_check f_conflictCount) (H : zx_XS g R n (zx_sg a_sets) kk h a_symbols a_states) (h32 : h ≤ 32) {r d : Nat} (hr : r ≤ 12) (hd : d ≤ 3) {post : Int32 → Prop}
    (h1 : zp_tp g R kk h (4 * r + d) → post 1) (h0 : ¬ zp_tp g R kk h (4 * r + d) → post 0) : wpX_holds post (f_maxRules, f_maxStates, f_maxNodes, f_maxEdges, f_maxSteps, f_maxLog, f_finished, f_lastTerminal, f_lastNonterminal, f_depthLimit, f_built, f_ruleCount, f_nullable, f_stateCount, f_edgeCount, f_callSize, f_pendingSize, f_conflictCount, nI h, f_logSize, f_low, f_tip, f_trialLog, a_left, a_length, a_need, a_rhs, a_level, a_side, a_before, a_corner, a_vanishing, a_sets, a_go, a_follow, a_head, a_next, a_target, a_mark, a_entry, a_cursor, a_callStack, a_pending, a_la, a_base, a_table, a_check, a_row, a_symbols, a_states, a_log, a_trialSymbols, a_trialStates) (nI r) (nI d) := by
  have n24 := B.1.2.1
  unfold wpX_holds
  refine zx_topState B.1 H h32 (fun s hs hσ => ?_)
  refine ⟨vp_in_nI (by omega) (by omega), ?_⟩
  rw [za_c s (by omega), za_m4]
  have e : zB (a_sets s) (4 * r + d) ↔ zp_tp g R kk h (4 * r + d) := by
    rw [← hσ]; exact Iff.rfl
  refine br_c (fun c => h0 ?_) (fun c => h1 ?_)
  · rw [zB_get (by omega)] at c
    exact fun z => c (e.mpr z)
  · rw [zB_get (by omega)] at c
    exact e.mp (Classical.not_not.mp c)
theorem zr_bounds (hF : zr_F T N D R h lc g kk lg a_left a_length a_need a_rhs a_symbols a_log b_part b_stack b_log) : 1 ≤ T ∧ T ≤ 7 ∧ 1 ≤ N ∧ N ≤ 8 ∧ 4 ≤ D ∧ D ≤ 32 ∧ h ≤ D ∧ lc ≤ 64 ∧ h ≤ 32 ∧ R ≤ 12 := by
  obtain ⟨hb, hG, _⟩ := hF
  have := hG.1.1
  omega
theorem zr_has {Q : Prop} (hF : zr_F T N D R h lc g kk lg a_left a_length a_need a_rhs a_symbols a_log b_part b_stack b_log) (hB : zr_B T R h n g kk f_conflictCount a_level a_side a_sets a_go a_la a_base a_table a_check a_symbols a_states b_holds b_la) (hQ : Q) (v1 v2 : Int32) : wpX_has (fun r => wpY_has (fun r' => r' = r ∧ Q) (nI T, nI N, nI D, 1, g_clash, g_changed, nI R, nI n, nI h, nI lc, g_oldSize, g_oldLogged, b_part, a_level, a_side, b_productive, b_nullable, b_first, b_holds, b_la, b_stack, b_oldStack, b_log) v1 v2) (f_maxRules, f_maxStates, f_maxNodes, f_maxEdges, f_maxSteps, f_maxLog, f_finished, nI T, nI (7 + N), nI D, 1, nI R, f_nullable, nI n, f_edgeCount, f_callSize, f_pendingSize, f_conflictCount, nI h, nI lc, f_low, f_tip, f_trialLog, a_left, a_length, a_need, a_rhs, a_level, a_side, a_before, a_corner, a_vanishing, a_sets, a_go, a_follow, a_head, a_next, a_target, a_mark, a_entry, a_cursor, a_callStack, a_pending, a_la, a_base, a_table, a_check, a_row, a_symbols, a_states, a_log, a_trialSymbols, a_trialStates) v1 v2 := by
  obtain ⟨t1, t7, n1, n8, d4, d32, hD, l64, h32, r12⟩ := zr_bounds hF
  obtain ⟨hb, hG, hY, f1, f2, f3, f4⟩ := id hF
  obtain ⟨BX, BY, vs, xs⟩ := id hB
  by_cases c1 : v1 < 0
  · exact br_f (by decide) (br_t c1 (br_f (by decide) (br_t c1 (br_f (by decide) ⟨rfl, hQ⟩))))
  obtain ⟨r, hr, e⟩ := nI_of (x := v1) c1
  subst e
  rcases Nat.lt_or_ge R r with rR | rR
  · exact br_f (by decide) (br_f c1 (br_f (fun z => by have := (nI_leI hr (by omega)).mp z; omega) (br_f (by decide) (br_f c1 (br_t (nI_lt rR hr) (br_f (by decide) ⟨rfl, hQ⟩))))))
  have x2 : nI r ≤ nI R := nI_le rR (by omega)
  have y2 : ¬ nI R < nI r := nI_nlt rR (by omega)
  by_cases c3 : v2 < 0
  · exact br_f (by decide) (br_f c1 (br_t x2 (br_t c3 (br_f (by decide) (br_f c1 (br_f y2 (br_t c3 (br_f (by decide) ⟨rfl, hQ⟩))))))))
  obtain ⟨d, hd, e⟩ := nI_of (x := v2) c3
  subst e
  have l3 := zg_ln_le (g := g) r
  have y : ∀ x : Int32, (d ≤ zg_ln g r → zp_tp g R kk h (4 * r + d) → 1 = x) → (d ≤ zg_ln g r → ¬ zp_tp g R kk h (4 * r + d) → 0 = x) → (¬ d ≤ zg_ln g r → -3 = x) → wpY_has (fun r' => r' = x ∧ Q) (nI T, nI N, nI D, 1, g_clash, g_changed, nI R, nI n, nI h, nI lc, g_oldSize, g_oldLogged, b_part, a_level, a_side, b_productive, b_nullable, b_first, b_holds, b_la, b_stack, b_oldStack, b_log) (nI r) (nI d) := by
    intro x k1 k0 k3
    refine br_f (by decide) (br_f c1 (br_f y2 (br_f c3 ?_)))
    refine zy_len hY rR (pk_le d (zg_ln g r) (fun c => ?_) (fun c => br_f (by decide) ⟨k3 (by omega), hQ⟩))
    refine zy_top hY BY.1 BY.2.1 h32 vs f2 (fun q hq hσ => ?_)
    have m24 := BY.1.2.1
    have ei : nI q * 52 + nI r * 4 + nI d = nI (q * 52 + (4 * r + d)) := by rw [za_x4, za_m52, nI_add, Nat.add_assoc]
    rw [ei]
    refine ⟨vp_in_nI (by omega) (by omega), ?_⟩
    rw [za_c _ (by omega)]
    have es : b_holds (q * 52 + (4 * r + d)) ≠ 0 ↔ zp_tp g R kk h (4 * r + d) := by
      rw [← hσ]; exact ⟨fun z => ⟨by omega, z⟩, fun z => z.2⟩
    exact br_c (fun cc => ⟨k0 c (fun z => es.mpr z cc), hQ⟩) (fun cc => ⟨k1 c (es.mp cc), hQ⟩)
  refine br_f (by decide) (br_f c1 (br_t x2 (br_f c3 ⟨vp_in_nI (by omega) (by omega), ?_⟩)))
  rw [za_c r (by omega), hG.2.2.1 r rR]
  refine pk_le d (zg_ln g r) (fun c => ?_) (fun c => y _ (fun z => by omega) (fun z => by omega) (fun _ => rfl))
  refine zx_holds BX xs h32 (by omega) (by omega) (fun z => br_f (by decide) ?_) (fun z => br_t rfl ?_)
  · exact y _ (fun _ _ => rfl) (fun _ w => absurd z w) (fun w => absurd c w)
  · exact y _ (fun _ w => absurd w z) (fun _ _ => rfl) (fun w => absurd c w)
theorem zr_look {Q : Prop} (hF : zr_F T N D R h lc g kk lg a_left a_length a_need a_rhs a_symbols a_log b_part b_stack b_log) (hB : zr_B T R h n g kk f_conflictCount a_level a_side a_sets a_go a_la a_base a_table a_check a_symbols a_states b_holds b_la) (hQ : Q) (v1 : Int32) : wpX_look (fun r => wpY_look (fun r' => r' = r ∧ Q) (nI T, nI N, nI D, 1, g_clash, g_changed, nI R, nI n, nI h, nI lc, g_oldSize, g_oldLogged, b_part, a_level, a_side, b_productive, b_nullable, b_first, b_holds, b_la, b_stack, b_oldStack, b_log) v1) (f_maxRules, f_maxStates, f_maxNodes, f_maxEdges, f_maxSteps, f_maxLog, f_finished, nI T, nI (7 + N), nI D, 1, nI R, f_nullable, nI n, f_edgeCount, f_callSize, f_pendingSize, f_conflictCount, nI h, nI lc, f_low, f_tip, f_trialLog, a_left, a_length, a_need, a_rhs, a_level, a_side, a_before, a_corner, a_vanishing, a_sets, a_go, a_follow, a_head, a_next, a_target, a_mark, a_entry, a_cursor, a_callStack, a_pending, a_la, a_base, a_table, a_check, a_row, a_symbols, a_states, a_log, a_trialSymbols, a_trialStates) v1 := by
  obtain ⟨t1, t7, n1, n8, d4, d32, hD, l64, h32, r12⟩ := zr_bounds hF
  obtain ⟨hb, hG, hY, f1, f2, f3, f4⟩ := id hF
  obtain ⟨BX, BY, vs, xs⟩ := id hB
  have n24 := BX.1.2.1
  by_cases c1 : v1 < 0
  · exact br_f (by decide) (br_t c1 (br_f (by decide) (br_t c1 (br_f (by decide) ⟨rfl, hQ⟩))))
  obtain ⟨r, hr, e⟩ := nI_of (x := v1) c1
  subst e
  rcases Nat.lt_or_ge R r with rR | rR
  · have nn : ¬ nI r ≤ nI R := fun z => by have := (nI_leI hr (by omega)).mp z; omega
    exact br_f (by decide) (br_f c1 (br_f nn (br_f (by decide) (br_f c1 (br_f nn (br_f (by decide) ⟨rfl, hQ⟩))))))
  have x2 : nI r ≤ nI R := nI_le rR (by omega)
  have l3 := zg_ln_le (g := g) r
  have y : ∀ x : Int32, (zp_tp g R kk h (4 * r + zg_ln g r) → ∀ m, (∀ t, zb m t ↔ zl_LA g R (zp_tp g R kk h) (4 * r + zg_ln g r) t) → m = x) → (¬ zp_tp g R kk h (4 * r + zg_ln g r) → -1 = x) → wpY_look (fun r' => r' = x ∧ Q) (nI T, nI N, nI D, 1, g_clash, g_changed, nI R, nI n, nI h, nI lc, g_oldSize, g_oldLogged, b_part, a_level, a_side, b_productive, b_nullable, b_first, b_holds, b_la, b_stack, b_oldStack, b_log) (nI r) := by
    intro x k1 k0
    refine br_f (by decide) (br_f c1 (br_t x2 ?_))
    refine zy_top hY BY.1 BY.2.1 h32 vs f2 (fun q hq hσ => ?_)
    have m24 := BY.1.2.1
    refine zy_len hY rR (fun x2' e2 => ?_)
    have ei : nI q * 52 + nI r * 4 + nI (zg_ln g r) = nI (q * 52 + (4 * r + zg_ln g r)) := by rw [za_x4, za_m52, nI_add, Nat.add_assoc]
    rw [ei] at e2
    subst e2
    refine ⟨vp_in_nI (by omega) (by omega), ?_⟩
    rw [za_c _ (by omega)]
    have es : b_holds (q * 52 + (4 * r + zg_ln g r)) ≠ 0 ↔ zp_tp g R kk h (4 * r + zg_ln g r) := by
      rw [← hσ]; exact ⟨fun z => ⟨by omega, z⟩, fun z => z.2⟩
    refine br_c (fun cc => ⟨k0 (fun z => es.mpr z cc), hQ⟩) (fun cc => ⟨vp_in_nI (by omega) (by omega), k1 (es.mp cc) _ (fun t => ?_), hQ⟩)
    rw [← hσ]
    exact BY.2.2 q (4 * r + zg_ln g r) t hq (by omega)
  refine br_f (by decide) (br_f c1 (br_t x2 ⟨vp_in_nI (by omega) (by omega), ?_⟩))
  rw [za_c r (by omega), hG.2.2.1 r rR]
  refine zx_holds BX xs h32 (by omega) (by omega) (fun z => br_f (by decide) ?_) (fun z => br_t rfl ?_)
  · refine zx_topState BX.1 xs h32 (fun s hs hσ => ?_)
    rw [za_m13]
    refine ⟨vp_in_nI (by omega) (by omega), ?_⟩
    rw [za_c _ (by omega)]
    refine y _ (fun _ m hm => zb_ext fun t _ => ?_) (fun w => absurd z w)
    rw [hm t, BX.2.2.1 s r t hs rR, hσ]
  · exact y _ (fun w => absurd w z) (fun _ => rfl)
theorem zr_action (hF : zr_F T N D R h lc g kk lg a_left a_length a_need a_rhs a_symbols a_log b_part b_stack b_log) (hB : zr_B T R h n g kk f_conflictCount a_level a_side a_sets a_go a_la a_base a_table a_check a_symbols a_states b_holds b_la) (v1 : Int32) : wpX_action (fun r => wpY_action (fun r' v' => r' = r ∧ i_Rel (kt + 5) (f_maxRules, f_maxStates, f_maxNodes, f_maxEdges, f_maxSteps, f_maxLog, f_finished, nI T, nI (7 + N), nI D, 1, nI R, f_nullable, nI n, f_edgeCount, f_callSize, f_pendingSize, f_conflictCount, nI h, nI lc, f_low, f_tip, f_trialLog, a_left, a_length, a_need, a_rhs, a_level, a_side, a_before, a_corner, a_vanishing, a_sets, a_go, a_follow, a_head, a_next, a_target, a_mark, a_entry, a_cursor, a_callStack, a_pending, a_la, a_base, a_table, a_check, a_row, a_symbols, a_states, a_log, a_trialSymbols, a_trialStates) v') (nI T, nI N, nI D, 1, g_clash, g_changed, nI R, nI n, nI h, nI lc, g_oldSize, g_oldLogged, b_part, a_level, a_side, b_productive, b_nullable, b_first, b_holds, b_la, b_stack, b_oldStack, b_log) v1) (f_maxRules, f_maxStates, f_maxNodes, f_maxEdges, f_maxSteps, f_maxLog, f_finished, nI T, nI (7 + N), nI D, 1, nI R, f_nullable, nI n, f_edgeCount, f_callSize, f_pendingSize, f_conflictCount, nI h, nI lc, f_low, f_tip, f_trialLog, a_left, a_length, a_need, a_rhs, a_level, a_side, a_before, a_corner, a_vanishing, a_sets, a_go, a_follow, a_head, a_next, a_target, a_mark, a_entry, a_cursor, a_callStack, a_pending, a_la, a_base, a_table, a_check, a_row, a_symbols, a_states, a_log, a_trialSymbols, a_trialStates) v1 := by
  obtain ⟨t1, t7, n1, n8, d4, d32, hD, l64, h32, r12⟩ := zr_bounds hF
  obtain ⟨hb, hG, hY, f1, f2, f3, f4⟩ := id hF
  obtain ⟨BX, BY, vs, xs⟩ := id hB
  by_cases c1 : v1 < 0
  · exact br_f (by decide) (br_t c1 (br_f (by decide) (br_t c1 (br_f (by decide) ⟨rfl, zr_mk1 hF hB⟩))))
  by_cases c2 : v1 ≤ nI T
  · obtain ⟨t, ht, e⟩ := nI_of (x := v1) c1
    subst e
    have tT := (nI_leI ht (by omega)).mp c2
    refine br_f (by decide) (br_f c1 (br_t c2 ?_))
    refine zx_topState BX.1 xs h32 (fun s hs hσ => ?_)
    refine zx_decision hs BX.1.2.1 t7 tT BX.2.2.2.1 ?_
    rw [hσ]
    refine zy_action hY BY.1 BY.2.1 BY.2.2 t7 tT h32 vs f2 (fun cl => ⟨rfl, zr_mk1 hF hB⟩)
  · exact br_f (by decide) (br_f c1 (br_f c2 (br_f (by decide) (br_f c1 (br_f c2 (br_f (by decide) ⟨rfl, zr_mk1 hF hB⟩))))))
theorem zr_push (hF : zr_F T N D R h lc g kk lg a_left a_length a_need a_rhs a_symbols a_log b_part b_stack b_log) (hB : zr_B T R h n g kk f_conflictCount a_level a_side a_sets a_go a_la a_base a_table a_check a_symbols a_states b_holds b_la) (v1 : Int32) : wpX_push (fun r u' => wpY_push (fun r' v' => r' = r ∧ i_Rel (kt + 5) u' v') (nI T, nI N, nI D, 1, g_clash, g_changed, nI R, nI n, nI h, nI lc, g_oldSize, g_oldLogged, b_part, a_level, a_side, b_productive, b_nullable, b_first, b_holds, b_la, b_stack, b_oldStack, b_log) v1) (f_maxRules, f_maxStates, f_maxNodes, f_maxEdges, f_maxSteps, f_maxLog, f_finished, nI T, nI (7 + N), nI D, 1, nI R, f_nullable, nI n, f_edgeCount, f_callSize, f_pendingSize, f_conflictCount, nI h, nI lc, f_low, f_tip, f_trialLog, a_left, a_length, a_need, a_rhs, a_level, a_side, a_before, a_corner, a_vanishing, a_sets, a_go, a_follow, a_head, a_next, a_target, a_mark, a_entry, a_cursor, a_callStack, a_pending, a_la, a_base, a_table, a_check, a_row, a_symbols, a_states, a_log, a_trialSymbols, a_trialStates) v1 := by
  obtain ⟨t1, t7, n1, n8, d4, d32, hD, l64, h32, r12⟩ := zr_bounds hF
  obtain ⟨hb, hG, hY, f1, f2, f3, f4⟩ := id hF
  obtain ⟨BX, BY, vs, xs⟩ := id hB
  have n24 := BX.1.2.1
  refine br_f (by decide) ?_
  refine zx_isSymbol t7 n8 (fun sy => br_f (by decide) ?_) (fun sy => br_t rfl ?_)
  · obtain ⟨x, e, hx⟩ := id sy
    subst e
    refine zx_topState BX.1 xs h32 (fun s hs hσ => ?_)
    have y : ∀ (r : Int32) (u' : SX), (¬ zg_Df g (zp_tp g R kk h) x → -6 = r ∧ ∀ q1 q2 q3, i_Rel (kt + 5) u' (nI T, nI N, nI D, 1, q1, q2, nI R, nI n, nI h, nI lc, q3, g_oldLogged, b_part, a_level, a_side, b_productive, b_nullable, b_first, b_holds, b_la, b_stack, b_oldStack, b_log)) →
        (zg_Df g (zp_tp g R kk h) x → h = D → -4 = r ∧ ∀ q1 q2 q3, i_Rel (kt + 5) u' (nI T, nI N, nI D, 1, q1, q2, nI R, nI n, nI h, nI lc, q3, g_oldLogged, b_part, a_level, a_side, b_productive, b_nullable, b_first, b_holds, b_la, b_stack, b_oldStack, b_log)) →
        (zg_Df g (zp_tp g R kk h) x → h ≠ D → 0 = r ∧ ∀ sk : Nat → Int32, (∀ i, i < h + 1 → sk i = nI (zd_up kk h x i)) → i_Rel (kt + 5) u' (nI T, nI N, nI D, 1, g_clash, g_changed, nI R, nI n, nI (h + 1), nI lc, g_oldSize, g_oldLogged, b_part, a_level, a_side, b_productive, b_nullable, b_first, b_holds, b_la, sk, b_oldStack, b_log)) →
        wpY_push (fun r' v' => r' = r ∧ i_Rel (kt + 5) u' v') (nI T, nI N, nI D, 1, g_clash, g_changed, nI R, nI n, nI h, nI lc, g_oldSize, g_oldLogged, b_part, a_level, a_side, b_productive, b_nullable, b_first, b_holds, b_la, b_stack, b_oldStack, b_log) (nI x) := by
      intro r u' k6 k4 k0
      refine br_f (by decide) ?_
      refine zy_isSymbol t7 n8 (fun _ => br_f (by decide) ?_) (fun w => absurd sy w)
      refine zy_top hY BY.1 BY.2.1 h32 vs f2 (fun q hq hσ' => ?_)
      have m24 := BY.1.2.1
      refine zy_goA hY BY.1 BY.2.1 hq (by omega) (fun d => ?_) (fun d => ?_)
      · have st := BY.1.2.2.2.1 q x hq d
        rw [hσ'] at d
        refine br_t (nI_pos' (by omega)) (pk_eq h D (fun c => ?_) (fun c y ey => ⟨vp_in_nI (by omega) (by omega), fun sk es => ?_⟩))
        · obtain ⟨a, b⟩ := k4 d c
          exact ⟨a, b _ _ _⟩
        · rw [nI_1] at ey
          subst ey
          rw [za_c h (by omega)] at es
          obtain ⟨a, b⟩ := k0 d c
          refine ⟨a, b sk (fun i hi => ?_)⟩
          by_cases z : i = h
          · rw [z, es, pk_us, zd_us]
          · rw [es, pk_un z, zd_un z]; exact f2 i (by omega)
      · rw [hσ'] at d
        obtain ⟨a, b⟩ := k6 d
        exact br_f (by decide) ⟨a, b _ _ _⟩
    rw [za_m16]
    refine ⟨vp_in_nI (by omega) (by omega), fun to eto => ?_⟩
    rw [za_c _ (by omega)] at eto
    rcases Classical.em (zg_Df g (zx_sg a_sets s) x) with d | d
    · have st := BX.1.2.2.2.1 s x hs d
      rw [(BX.2.1 s x hs (by omega)).1 d] at eto
      subst eto
      have d' := d
      rw [hσ] at d'
      refine br_t (nI_pos' (by omega)) (pk_lt h D (fun c => ⟨vp_in_nI (by omega) (by omega), fun sy' es y' ey => ?_⟩) (fun c => y _ _ (fun w => absurd d' w) (fun _ _ => ⟨rfl, fun _ _ _ => zr_mk1 hF hB⟩) (fun _ w => by omega)))
      rw [nI_1] at ey
      subst ey
      rw [za_c h (by omega)] at es
      refine ⟨vp_in_nI (by omega) (by omega), fun st' et => ?_⟩
      rw [za_c _ (by omega)] at et
      have sy1 : ∀ i, i < h + 1 → sy' i = nI (zd_up kk h x i) := fun i hi => by
        by_cases z : i = h
        · rw [z, es, pk_us, zd_us]
        · rw [es, pk_un z, zd_un z]; exact f1 i (by omega)
      refine y _ _ (fun w => absurd d' w) (fun _ w => by omega) (fun _ _ => ⟨rfl, fun sk hsk => zr_mk1 (kk := zd_up kk h x) (lg := lg) ⟨⟨t1, t7, n1, n8, d4, d32, by omega, l64⟩, hG, hY, sy1, hsk, f3, f4⟩ ⟨BX, BY, zp_VS_u vs (Nat.le_refl h) d', sy1, fun i i1 i2 => ?_⟩⟩)
      by_cases z : i = h + 1
      · refine ⟨zx_G a_go s x, st.1, by rw [z, et, pk_us], ?_⟩
        rw [st.2, hσ, z, zp_tp_s]
      · obtain ⟨s', a, b, c'⟩ := xs.2 i i1 (by omega)
        exact ⟨s', a, by rw [et, pk_un z]; exact b, by rw [c', zp_tp_u (by omega)]⟩
    · rw [(BX.2.1 s x hs (by omega)).2 d] at eto
      subst eto
      rw [hσ] at d
      refine br_f (by decide) (y _ _ (fun _ => ⟨rfl, fun _ _ _ => zr_mk1 hF hB⟩) (fun w => absurd w d) (fun w => absurd w d))
  · refine br_f (by decide) ?_
    exact zy_isSymbol t7 n8 (fun w => absurd w sy) (fun _ => br_t rfl (br_f (by decide) ⟨rfl, zr_mk1 hF hB⟩))
end ZO
end
section
/-! feed, expected -/
section ZO
variable {kt T N D R h lc n : Nat} {g kk lg : Nat → Nat} {f_maxRules f_maxStates f_maxNodes f_maxEdges f_maxSteps f_maxLog f_finished f_lastTerminal f_lastNonterminal f_depthLimit f_built f_ruleCount f_nullable f_stateCount f_edgeCount f_callSize f_pendingSize f_conflictCount f_height f_logSize f_low f_tip f_trialLog : Int32} {a_left a_length a_need a_rhs a_level a_side a_vanishing a_go a_follow a_head a_next a_target a_mark a_entry a_cursor a_callStack a_pending a_la a_base a_table a_check a_row a_symbols a_states a_log a_trialSymbols a_trialStates : Nat → Int32} {a_before a_corner a_sets : Nat → Int64} {g_terms g_nons g_depth g_built g_clash g_changed g_rules g_states g_size g_logged g_oldSize g_oldLogged : Int32} {b_part b_levels b_sides b_productive b_nullable b_first b_holds b_la b_stack b_oldStack b_log : Nat → Int32}
theorem zr_feed (hF : zr_F T N D R h lc g kk lg a_left a_length a_need a_rhs a_symbols a_log b_part b_stack b_log) (hB : zr_B T R h n g kk f_conflictCount a_level a_side a_sets a_go a_la a_base a_table a_check a_symbols a_states b_holds b_la) (v1 : Int32) : wpX_feed (fun r u' => wpY_feed (fun r' v' => r' = r ∧ i_Rel (kt + 5) u' v') (nI T, nI N, nI D, 1, g_clash, g_changed, nI R, nI n, nI h, nI lc, g_oldSize, g_oldLogged, b_part, a_level, a_side, b_productive, b_nullable, b_first, b_holds, b_la, b_stack, b_oldStack, b_log) v1) (f_maxRules, f_maxStates, f_maxNodes, f_maxEdges, f_maxSteps, f_maxLog, f_finished, nI T, nI (7 + N), nI D, 1, nI R, f_nullable, nI n, f_edgeCount, f_callSize, f_pendingSize, f_conflictCount, nI h, nI lc, f_low, f_tip, f_trialLog, a_left, a_length, a_need, a_rhs, a_level, a_side, a_before, a_corner, a_vanishing, a_sets, a_go, a_follow, a_head, a_next, a_target, a_mark, a_entry, a_cursor, a_callStack, a_pending, a_la, a_base, a_table, a_check, a_row, a_symbols, a_states, a_log, a_trialSymbols, a_trialStates) v1 := by
  obtain ⟨t1, t7, n1, n8, d4, d32, hD, l64, h32, r12⟩ := zr_bounds hF
  obtain ⟨hb, hG, hY, f1, f2, f3, f4⟩ := id hF
  obtain ⟨BX, BY, vs, xs⟩ := id hB
  by_cases c1 : v1 < 0
  · exact br_f (by decide) (br_t c1 (br_f (by decide) (br_t c1 (br_f (by decide) ⟨rfl, zr_mk1 hF hB⟩))))
  by_cases c2 : v1 ≤ nI T
  · obtain ⟨t, ht, e⟩ := nI_of (x := v1) c1
    subst e
    have tT := (nI_leI ht (by omega)).mp c2
    obtain ⟨r, k', h', lc', lg', w1, w2, w3, w4, w5, w6, w7⟩ := zp_out (lv := a_level) (sd := a_side) (t := t) hG.1 d32 65 kk h lc lg vs hD l64
    refine br_f (by decide) (br_f c1 (br_t c2 ?_))
    refine zx_run (Q := fun r1 k1 h1 lc1 lg1 => r1 = r ∧ k1 = k' ∧ h1 = h' ∧ lc1 = lc' ∧ lg1 = lg') t7 tT d32 hG BX.1 BX.2.1 BX.2.2.2.1 xs f3 vs hD l64 ?_ (w7 _ ⟨rfl, rfl, rfl, rfl, rfl⟩)
    rintro r1 k1 h1 lc1 lg1 low log ts tt ⟨rfl, rfl, rfl, rfl, rfl⟩ H hlog hlow
    have yrun : ∀ u' : SX, (∀ (cl : Int32) (os sk lg2 : Nat → Int32), (∀ i, i < h1 → sk i = nI (k1 i)) → (∀ i, i < lc1 → lg2 i = nI (lg1 i)) → (∀ i, i < 32 → os i = b_stack i) →
        ((0 ≤ r1 → r1 = r1 ∧ i_Rel (kt + 5) u' (nI T, nI N, nI D, 1, cl, g_changed, nI R, nI n, nI h1, nI lc1, nI h, nI lc, b_part, a_level, a_side, b_productive, b_nullable, b_first, b_holds, b_la, sk, os, lg2)) ∧
         (¬ 0 ≤ r1 → ∀ sk2 : Nat → Int32, (∀ i, i < 32 → sk2 i = os i) → r1 = r1 ∧ i_Rel (kt + 5) u' (nI T, nI N, nI D, 1, cl, g_changed, nI R, nI n, nI h, nI lc, nI h, nI lc, b_part, a_level, a_side, b_productive, b_nullable, b_first, b_holds, b_la, sk2, os, lg2)))) →
        wpY_feed (fun r' v' => r' = r1 ∧ i_Rel (kt + 5) u' v') (nI T, nI N, nI D, 1, g_clash, g_changed, nI R, nI n, nI h, nI lc, g_oldSize, g_oldLogged, b_part, a_level, a_side, b_productive, b_nullable, b_first, b_holds, b_la, b_stack, b_oldStack, b_log) (nI t) := by
      intro u' hu
      refine br_f (by decide) (br_f c1 (br_t c2 ?_))
      refine zy_run (Q := fun r2 k2 h2 lc2 lg2 => r2 = r1 ∧ k2 = k1 ∧ h2 = h1 ∧ lc2 = lc1 ∧ lg2 = lg1) hY BY.1 BY.2.1 BY.2.2 t7 tT d32 f2 f4 vs hD l64 ?_ (w7 _ ⟨rfl, rfl, rfl, rfl, rfl⟩)
      rintro r2 k2 h2 lc2 lg2 cl os sk lg3 ⟨rfl, rfl, rfl, rfl, rfl⟩ q1 q2 q3
      obtain ⟨u1, u2⟩ := hu cl os sk lg3 q1 q2 q3
      refine br_c (fun c => u1 c) (fun c => ?_)
      exact zy_undo (fun sk2 hs2 => u2 c sk2 hs2)
    have neg : (r1 ≤ 0 ∧ ¬ 0 ≤ r1) ∨ (¬ r1 ≤ 0 ∧ 0 ≤ r1) := by
      rcases w1 with e | e | e | e <;> rw [e] <;> decide
    rcases neg with ⟨n0, n0'⟩ | ⟨n0, n0'⟩
    · refine br_t n0 (yrun _ (fun cl os sk lg2 q1 q2 q3 => ⟨fun z => absurd z n0', fun _ sk2 hs2 => ⟨rfl, ?_⟩⟩))
      refine zr_mk1 (kk := kk) (lg := lg) ⟨hb, hG, hY, f1, fun i hi => ?_, fun i hi => ?_, fun i hi => ?_⟩ ⟨BX, BY, vs, xs⟩
      · rw [hs2 i (by omega), q3 i (by omega)]; exact f2 i hi
      · rw [hlog i (by omega), w6 i hi]
      · rw [q2 i (by omega), w6 i hi]
    · refine br_f n0 ?_
      refine zx_commit (by omega) H (fun sy st HS => ?_)
      refine yrun _ (fun cl os sk lg2 q1 q2 q3 => ⟨fun _ => ⟨rfl, ?_⟩, fun z => absurd n0' z⟩)
      exact zr_mk1 (kk := k1) (lg := lg1) ⟨⟨t1, t7, n1, n8, d4, d32, w3, w4⟩, hG, hY, HS.1, q1, hlog, q2⟩ ⟨BX, BY, w2, HS⟩
  · exact br_f (by decide) (br_f c1 (br_f c2 (br_f (by decide) (br_f c1 (br_f c2 (br_f (by decide) ⟨rfl, zr_mk1 hF hB⟩))))))
def zr_O (g : Nat → Nat) (R : Nat) (lv sd : Nat → Int32) (D : Nat) (kk : Nat → Nat) (h lc : Nat) (lg : Nat → Nat) (t : Nat) (r : Int32) : Prop :=
  ((r ≤ 0 ∧ ¬ (r = 1 ∨ r = 2)) ∨ (¬ r ≤ 0 ∧ (r = 1 ∨ r = 2))) ∧ ∃ k' h' lc' lg', lc ≤ lc' ∧ (∀ i, i < lc → lg' i = lg i) ∧ ∀ Q : Int32 → (Nat → Nat) → Nat → Nat → (Nat → Nat) → Prop, Q r k' h' lc' lg' → zp_R g R lv sd D t Q 65 kk h lc lg
theorem zr_outs (ok : zg_ok g R) {lv sd : Nat → Int32} (hD : D ≤ 32) (vs : zp_VS g R kk h) (hh : h ≤ D) (hl : lc ≤ 64) : ∃ r : Nat → Int32, ∀ t, zr_O g R lv sd D kk h lc lg t (r t) := by
  refine Classical.axiomOfChoice (r := fun t r => zr_O g R lv sd D kk h lc lg t r) (fun t => ?_)
  obtain ⟨r, k', h', lc', lg', w1, w2, w3, w4, w5, w6, w7⟩ := zp_out (lv := lv) (sd := sd) (t := t) ok hD 65 kk h lc lg vs hh hl
  refine ⟨r, ?_, k', h', lc', lg', w5, w6, w7⟩
  rcases w1 with e | e | e | e <;> rw [e] <;> decide
theorem zx_ex14 {rr : Nat → Int32} (hr : ∀ t, zr_O g R a_level a_side D kk h lc lg t (rr t)) (hG : zx_GR g R a_left a_length a_need a_rhs) (BX : zx_BU g R T n a_level a_side a_sets a_go a_la a_base a_table a_check f_conflictCount) (vs : zp_VS g R kk h) (xs : zx_XS g R n (zx_sg a_sets) kk h a_symbols a_states)
    (t7 : T ≤ 7) (d32 : D ≤ 32) (hD : h ≤ D) (l64 : lc ≤ 64) {post : Int32 → SX → Prop}
    (hp : ∀ m (z1 z2 z3 : Int32) (log ts tt : Nat → Int32), (∀ t, zb m t ↔ t < T + 1 ∧ (rr t = 1 ∨ rr t = 2)) → (∀ i, i < lc → log i = nI (lg i)) → post m (f_maxRules, f_maxStates, f_maxNodes, f_maxEdges, f_maxSteps, f_maxLog, f_finished, nI T, nI (7 + N), nI D, 1, nI R, f_nullable, nI n, f_edgeCount, f_callSize, f_pendingSize, f_conflictCount, nI h, nI lc, z1, z2, z3, a_left, a_length, a_need, a_rhs, a_level, a_side, a_before, a_corner, a_vanishing, a_sets, a_go, a_follow, a_head, a_next, a_target, a_mark, a_entry, a_cursor, a_callStack, a_pending, a_la, a_base, a_table, a_check, a_row, a_symbols, a_states, log, ts, tt)) :
    ∀ f i m (z1 z2 z3 : Int32) (log ts tt : Nat → Int32), i ≤ T + 1 → T + 1 - i < f → (∀ t, zb m t ↔ t < i ∧ (rr t = 1 ∨ rr t = 2)) → (∀ i, i < lc → log i = nI (lg i)) → wX_expected_14 post f m (nI i) f_maxRules f_maxStates f_maxNodes f_maxEdges f_maxSteps f_maxLog f_finished (nI T) (nI (7 + N)) (nI D) 1 (nI R) f_nullable (nI n) f_edgeCount f_callSize f_pendingSize f_conflictCount (nI h) (nI lc) z1 z2 z3 a_left a_length a_need a_rhs a_level a_side a_before a_corner a_vanishing a_sets a_go a_follow a_head a_next a_target a_mark a_entry a_cursor a_callStack a_pending a_la a_base a_table a_check a_row a_symbols a_states log ts tt := by
  intro f
  induction f with
  | zero => intro i m z1 z2 z3 log ts tt _ hf; omega
  | succ f ih =>
    intro i m z1 z2 z3 log ts tt hi hf hm hlog
    refine pk_lt T i (fun c => ?_) (fun c => ?_)
    · have e : i = T + 1 := by omega
      subst e
      exact hp m z1 z2 z3 log ts tt hm hlog
    · obtain ⟨w1, k', h', lc', lg', w5, w6, w7⟩ := hr i
      refine zx_run (Q := fun r1 k1 h1 lc1 lg1 => r1 = rr i ∧ k1 = k' ∧ h1 = h' ∧ lc1 = lc' ∧ lg1 = lg') t7 c d32 hG BX.1 BX.2.1 BX.2.2.2.1 xs hlog vs hD l64 ?_ (w7 _ ⟨rfl, rfl, rfl, rfl, rfl⟩)
      rintro r1 k1 h1 lc1 lg1 low log' ts' tt' ⟨rfl, rfl, rfl, rfl, rfl⟩ H hlog' hlow
      have lg' : ∀ j, j < lc → log' j = nI (lg j) := fun j hj => by rw [hlog' j (by omega), w6 j hj]
      rcases w1 with ⟨a, b⟩ | ⟨a, b⟩
      · refine br_t a (fun y ey => ?_)
        rw [ey, nI_1]
        refine ih (i + 1) m _ _ _ log' ts' tt' (by omega) (by omega) (fun t => ?_) lg'
        rw [hm t]
        constructor
        · rintro ⟨p, q⟩; exact ⟨by omega, q⟩
        · rintro ⟨p, q⟩
          have : t ≠ i := fun e => by subst e; exact b q
          exact ⟨by omega, q⟩
      · refine br_f a (fun m' em y ey => ?_)
        rw [ey, nI_1]
        refine ih (i + 1) m' _ _ _ log' ts' tt' (by omega) (by omega) (fun t => ?_) lg'
        rw [em, zb_or, zb_sh (by omega), hm t]
        constructor
        · rintro (⟨p, q⟩ | p)
          · exact ⟨by omega, q⟩
          · subst p; exact ⟨by omega, b⟩
        · rintro ⟨p, q⟩
          by_cases e : t = i
          · exact Or.inr e
          · exact Or.inl ⟨by omega, q⟩
theorem zy_ex4 {rr : Nat → Int32} (hr : ∀ t, zr_O g R b_levels b_sides D kk h lc lg t (rr t)) (hY : zy_GR g R b_part) (BY : zy_BU g R n b_holds b_la) (vs : zp_VS g R kk h)
    (t7 : T ≤ 7) (d32 : D ≤ 32) (hD : h ≤ D) (l64 : lc ≤ 64) {post : Int32 → SY → Prop}
    (hp : ∀ m (z1 z2 z3 : Int32) (sk os log : Nat → Int32), (∀ t, zb m t ↔ t < T + 1 ∧ (rr t = 1 ∨ rr t = 2)) → (∀ i, i < h → sk i = nI (kk i)) → (∀ i, i < lc → log i = nI (lg i)) → post m (nI T, nI N, nI D, 1, z1, g_changed, nI R, nI n, nI h, nI lc, z2, z3, b_part, b_levels, b_sides, b_productive, b_nullable, b_first, b_holds, b_la, sk, os, log)) :
    ∀ f i m (z1 z2 z3 : Int32) (sk os log : Nat → Int32), i ≤ T + 1 → T + 1 - i < f → (∀ t, zb m t ↔ t < i ∧ (rr t = 1 ∨ rr t = 2)) → (∀ i, i < h → sk i = nI (kk i)) → (∀ i, i < lc → log i = nI (lg i)) → wY_expected_4 post f m (nI i) (nI T) (nI N) (nI D) 1 z1 g_changed (nI R) (nI n) (nI h) (nI lc) z2 z3 b_part b_levels b_sides b_productive b_nullable b_first b_holds b_la sk os log := by
  intro f
  induction f with
  | zero => intro i m z1 z2 z3 sk os log _ hf; omega
  | succ f ih =>
    intro i m z1 z2 z3 sk os log hi hf hm hsk hlog
    refine br_f (by decide) (pk_lt T i (fun c => ?_) (fun c => ?_))
    · have e : i = T + 1 := by omega
      subst e
      exact br_f (by decide) (hp m z1 z2 z3 sk os log hm hsk hlog)
    · obtain ⟨w1, k', h', lc', lg', w5, w6, w7⟩ := hr i
      refine zy_run (Q := fun r1 k1 h1 lc1 lg1 => r1 = rr i ∧ k1 = k' ∧ h1 = h' ∧ lc1 = lc' ∧ lg1 = lg') hY BY.1 BY.2.1 BY.2.2 t7 c d32 hsk hlog vs hD l64 ?_ (w7 _ ⟨rfl, rfl, rfl, rfl, rfl⟩)
      rintro r1 k1 h1 lc1 lg1 cl os' sk' log' ⟨rfl, rfl, rfl, rfl, rfl⟩ q1 q2 q3
      have lg' : ∀ j, j < lc → log' j = nI (lg j) := fun j hj => by rw [q2 j (by omega), w6 j hj]
      have j33 : ∀ m', (∀ t, zb m' t ↔ t < i + 1 ∧ (rr t = 1 ∨ rr t = 2)) → wY_expected_33 post (wY_expected_4 post f) m' (nI i) (nI T) (nI N) (nI D) 1 cl g_changed (nI R) (nI n) (nI h1) (nI lc1) (nI h) (nI lc) b_part b_levels b_sides b_productive b_nullable b_first b_holds b_la sk' os' log' := by
        intro m' hm'
        unfold wY_expected_33
        refine zy_undo (fun sk2 hs2 => ?_)
        intro y ey
        rw [ey, nI_1]
        refine ih (i + 1) m' _ _ _ sk2 os' log' (by omega) (by omega) hm' (fun j hj => ?_) lg'
        rw [hs2 j (by omega), q3 j (by omega)]; exact hsk j hj
      rcases w1 with ⟨a, b⟩ | ⟨a, b⟩
      · refine br_t a (j33 m (fun t => ?_))
        rw [hm t]
        constructor
        · rintro ⟨p, q⟩; exact ⟨by omega, q⟩
        · rintro ⟨p, q⟩
          have : t ≠ i := fun e => by subst e; exact b q
          exact ⟨by omega, q⟩
      · refine br_f a (fun m' em => j33 m' (fun t => ?_))
        rw [em, zb_or, zb_sh (by omega), hm t]
        constructor
        · rintro (⟨p, q⟩ | p)
          · exact ⟨by omega, q⟩
          · subst p; exact ⟨by omega, b⟩
        · rintro ⟨p, q⟩
          by_cases e : t = i
          · exact Or.inr e
          · exact Or.inl ⟨by omega, q⟩
theorem zr_expected (hF : zr_F T N D R h lc g kk lg a_left a_length a_need a_rhs a_symbols a_log b_part b_stack b_log) (hB : zr_B T R h n g kk f_conflictCount a_level a_side a_sets a_go a_la a_base a_table a_check a_symbols a_states b_holds b_la) : wpX_expected (fun r u' => wpY_expected (fun r' v' => r' = r ∧ i_Rel (kt + 5) u' v') (nI T, nI N, nI D, 1, g_clash, g_changed, nI R, nI n, nI h, nI lc, g_oldSize, g_oldLogged, b_part, a_level, a_side, b_productive, b_nullable, b_first, b_holds, b_la, b_stack, b_oldStack, b_log)) (f_maxRules, f_maxStates, f_maxNodes, f_maxEdges, f_maxSteps, f_maxLog, f_finished, nI T, nI (7 + N), nI D, 1, nI R, f_nullable, nI n, f_edgeCount, f_callSize, f_pendingSize, f_conflictCount, nI h, nI lc, f_low, f_tip, f_trialLog, a_left, a_length, a_need, a_rhs, a_level, a_side, a_before, a_corner, a_vanishing, a_sets, a_go, a_follow, a_head, a_next, a_target, a_mark, a_entry, a_cursor, a_callStack, a_pending, a_la, a_base, a_table, a_check, a_row, a_symbols, a_states, a_log, a_trialSymbols, a_trialStates) := by
  obtain ⟨t1, t7, n1, n8, d4, d32, hD, l64, h32, r12⟩ := zr_bounds hF
  obtain ⟨hb, hG, hY, f1, f2, f3, f4⟩ := id hF
  obtain ⟨BX, BY, vs, xs⟩ := id hB
  obtain ⟨rr, hr⟩ := zr_outs (lg := lg) (lv := a_level) (sd := a_side) hG.1 d32 vs hD l64
  refine br_f (by decide) ⟨T + 2, zx_ex14 hr hG BX vs xs t7 d32 hD l64 (fun m z1 z2 z3 log ts tt hm hlog => ?_) (T + 2) 0 0 f_low f_tip f_trialLog a_log a_trialSymbols a_trialStates (by omega) (by omega) (fun t => ⟨fun z => absurd z zb_0, fun z => by omega⟩) f3⟩
  refine ⟨T + 2, zy_ex4 (rr := rr) hr hY BY vs t7 d32 hD l64 (fun m' y1 y2 y3 sk os log' hm' hsk hlog' => ?_) (T + 2) 0 0 g_clash g_oldSize g_oldLogged b_stack b_oldStack b_log (by omega) (by omega) (fun t => ⟨fun z => absurd z zb_0, fun z => by omega⟩) f2 f4⟩
  refine ⟨zb_ext fun t _ => (hm' t).trans (hm t).symm, ?_⟩
  exact zr_mk1 (kk := kk) (lg := lg) ⟨hb, hG, hY, f1, hsk, hlog, hlog'⟩ ⟨BX, BY, vs, xs⟩
end ZO
end
section
/-! owed: the rest -/
theorem i_vc_part {k : Nat} {u : SX} {v : SY} (I : i_Rel k u v) (hk : k + 5 ≤ 2563) (v1 : Int32) (v2 : Int32) : wpX_part (fun r => wpY_part (fun r' => r' = r ∧ i_Rel (k + 5) u v) v v1 v2) u v1 v2 := by
  refine zr_el (P := fun u v => wpX_part (fun r => wpY_part (fun r' => r' = r ∧ i_Rel (k + 5) u v) v v1 v2) u v1 v2) I ?_ ?_
  · intro f_maxRules f_maxStates f_maxNodes f_maxEdges f_maxSteps f_maxLog f_finished f_lastTerminal f_lastNonterminal f_depthLimit f_built f_ruleCount f_nullable f_stateCount f_edgeCount f_callSize f_pendingSize f_conflictCount f_height f_logSize f_low f_tip f_trialLog a_left a_length a_need a_rhs a_level a_side a_vanishing a_go a_follow a_head a_next a_target a_mark a_entry a_cursor a_callStack a_pending a_la a_base a_table a_check a_row a_symbols a_states a_log a_trialSymbols a_trialStates a_before a_corner a_sets g_terms g_nons g_depth g_built g_clash g_changed g_rules g_states g_size g_logged g_oldSize g_oldLogged b_part b_levels b_sides b_productive b_nullable b_first b_holds b_la b_stack b_oldStack b_log T N D R g kk lg hF
    exact zr_part hF.2.1 hF.2.2.1 (zr_mk0 hF) v1 v2
  · intro f_maxRules f_maxStates f_maxNodes f_maxEdges f_maxSteps f_maxLog f_finished f_lastTerminal f_lastNonterminal f_depthLimit f_built f_ruleCount f_nullable f_stateCount f_edgeCount f_callSize f_pendingSize f_conflictCount f_height f_logSize f_low f_tip f_trialLog a_left a_length a_need a_rhs a_level a_side a_vanishing a_go a_follow a_head a_next a_target a_mark a_entry a_cursor a_callStack a_pending a_la a_base a_table a_check a_row a_symbols a_states a_log a_trialSymbols a_trialStates a_before a_corner a_sets g_terms g_nons g_depth g_built g_clash g_changed g_rules g_states g_size g_logged g_oldSize g_oldLogged b_part b_levels b_sides b_productive b_nullable b_first b_holds b_la b_stack b_oldStack b_log T N D R h lc n g kk lg hF hB
    exact zr_part hF.2.1 hF.2.2.1 (zr_mk1 hF hB) v1 v2
theorem i_vc_rankOf {k : Nat} {u : SX} {v : SY} (I : i_Rel k u v) (hk : k + 5 ≤ 2563) (v1 : Int32) : wpX_rankOf (fun r => wpY_rankOf (fun r' => r' = r ∧ i_Rel (k + 5) u v) v v1) u v1 := by
  refine zr_el (P := fun u v => wpX_rankOf (fun r => wpY_rankOf (fun r' => r' = r ∧ i_Rel (k + 5) u v) v v1) u v1) I ?_ ?_
  · intro f_maxRules f_maxStates f_maxNodes f_maxEdges f_maxSteps f_maxLog f_finished f_lastTerminal f_lastNonterminal f_depthLimit f_built f_ruleCount f_nullable f_stateCount f_edgeCount f_callSize f_pendingSize f_conflictCount f_height f_logSize f_low f_tip f_trialLog a_left a_length a_need a_rhs a_level a_side a_vanishing a_go a_follow a_head a_next a_target a_mark a_entry a_cursor a_callStack a_pending a_la a_base a_table a_check a_row a_symbols a_states a_log a_trialSymbols a_trialStates a_before a_corner a_sets g_terms g_nons g_depth g_built g_clash g_changed g_rules g_states g_size g_logged g_oldSize g_oldLogged b_part b_levels b_sides b_productive b_nullable b_first b_holds b_la b_stack b_oldStack b_log T N D R g kk lg hF
    exact zr_rankOf hF.1.2.1 (zr_mk0 hF) v1
  · intro f_maxRules f_maxStates f_maxNodes f_maxEdges f_maxSteps f_maxLog f_finished f_lastTerminal f_lastNonterminal f_depthLimit f_built f_ruleCount f_nullable f_stateCount f_edgeCount f_callSize f_pendingSize f_conflictCount f_height f_logSize f_low f_tip f_trialLog a_left a_length a_need a_rhs a_level a_side a_vanishing a_go a_follow a_head a_next a_target a_mark a_entry a_cursor a_callStack a_pending a_la a_base a_table a_check a_row a_symbols a_states a_log a_trialSymbols a_trialStates a_before a_corner a_sets g_terms g_nons g_depth g_built g_clash g_changed g_rules g_states g_size g_logged g_oldSize g_oldLogged b_part b_levels b_sides b_productive b_nullable b_first b_holds b_la b_stack b_oldStack b_log T N D R h lc n g kk lg hF hB
    exact zr_rankOf hF.1.2.1 (zr_mk1 hF hB) v1
theorem i_vc_build {k : Nat} {u : SX} {v : SY} (I : i_Rel k u v) (hk : k + 5 ≤ 2563) : wpX_build (fun r u' => wpY_build (fun r' v' => r' = r ∧ i_Rel (k + 5) u' v') v) u := by
  refine zr_el (P := fun u v => wpX_build (fun r u' => wpY_build (fun r' v' => r' = r ∧ i_Rel (k + 5) u' v') v) u) I ?_ ?_
  · intro f_maxRules f_maxStates f_maxNodes f_maxEdges f_maxSteps f_maxLog f_finished f_lastTerminal f_lastNonterminal f_depthLimit f_built f_ruleCount f_nullable f_stateCount f_edgeCount f_callSize f_pendingSize f_conflictCount f_height f_logSize f_low f_tip f_trialLog a_left a_length a_need a_rhs a_level a_side a_vanishing a_go a_follow a_head a_next a_target a_mark a_entry a_cursor a_callStack a_pending a_la a_base a_table a_check a_row a_symbols a_states a_log a_trialSymbols a_trialStates a_before a_corner a_sets g_terms g_nons g_depth g_built g_clash g_changed g_rules g_states g_size g_logged g_oldSize g_oldLogged b_part b_levels b_sides b_productive b_nullable b_first b_holds b_la b_stack b_oldStack b_log T N D R g kk lg hF
    obtain ⟨hb, hG, hY, f1, f2, f3, f4⟩ := id hF
    refine zx_build hb.2.1 hG (fun np => ?_) (fun pr tm sc B C S A => ?_) (fun pr n x1 x2 x3 x4 cc B C S V A fo hd nx tg mk en cu cs pe L bs tb ck rw BX => ?_)
    · exact zy_build hY (fun _ Pr Nu Fi => ⟨rfl, zr_mk0 hF⟩) (fun pr => absurd pr np) (fun pr => absurd pr np)
    · refine zy_build hY (fun np => absurd pr np) (fun _ _ sc' Pr Nu Fi H => ⟨rfl, zr_mk0 hF⟩) (fun _ m ch Pr Nu Fi H la BY => (zz_TM BY.1 tm).elim)
    · refine zy_build hY (fun np => absurd pr np) (fun _ tm => (zz_TM BX.1 tm).elim) (fun _ m ch Pr Nu Fi H la BY => ?_)
      have e := (zz_same BX.1 BY.1).1
      subst e
      exact ⟨rfl, zr_mk1 (h := 0) (lc := 0) (kk := kk) (lg := lg) hF ⟨BX, BY, fun i hi => by omega, fun i hi => by omega, fun i i1 i2 => by omega⟩⟩
  · intro f_maxRules f_maxStates f_maxNodes f_maxEdges f_maxSteps f_maxLog f_finished f_lastTerminal f_lastNonterminal f_depthLimit f_built f_ruleCount f_nullable f_stateCount f_edgeCount f_callSize f_pendingSize f_conflictCount f_height f_logSize f_low f_tip f_trialLog a_left a_length a_need a_rhs a_level a_side a_vanishing a_go a_follow a_head a_next a_target a_mark a_entry a_cursor a_callStack a_pending a_la a_base a_table a_check a_row a_symbols a_states a_log a_trialSymbols a_trialStates a_before a_corner a_sets g_terms g_nons g_depth g_built g_clash g_changed g_rules g_states g_size g_logged g_oldSize g_oldLogged b_part b_levels b_sides b_productive b_nullable b_first b_holds b_la b_stack b_oldStack b_log T N D R h lc n g kk lg hF hB
    exact br_f (by decide) (br_f (by decide) ⟨rfl, zr_mk1 hF hB⟩)
theorem i_vc_conflicts {k : Nat} {u : SX} {v : SY} (I : i_Rel k u v) (hk : k + 5 ≤ 2563) : wpX_conflicts (fun r => wpY_conflicts (fun r' v' => r' = r ∧ i_Rel (k + 5) u v') v) u := by
  refine zr_el (P := fun u v => wpX_conflicts (fun r => wpY_conflicts (fun r' v' => r' = r ∧ i_Rel (k + 5) u v') v) u) I ?_ ?_
  · intro f_maxRules f_maxStates f_maxNodes f_maxEdges f_maxSteps f_maxLog f_finished f_lastTerminal f_lastNonterminal f_depthLimit f_built f_ruleCount f_nullable f_stateCount f_edgeCount f_callSize f_pendingSize f_conflictCount f_height f_logSize f_low f_tip f_trialLog a_left a_length a_need a_rhs a_level a_side a_vanishing a_go a_follow a_head a_next a_target a_mark a_entry a_cursor a_callStack a_pending a_la a_base a_table a_check a_row a_symbols a_states a_log a_trialSymbols a_trialStates a_before a_corner a_sets g_terms g_nons g_depth g_built g_clash g_changed g_rules g_states g_size g_logged g_oldSize g_oldLogged b_part b_levels b_sides b_productive b_nullable b_first b_holds b_la b_stack b_oldStack b_log T N D R g kk lg hF
    exact br_t rfl ⟨1, br_t rfl (br_t rfl ⟨rfl, zr_mk0 hF⟩)⟩
  · intro f_maxRules f_maxStates f_maxNodes f_maxEdges f_maxSteps f_maxLog f_finished f_lastTerminal f_lastNonterminal f_depthLimit f_built f_ruleCount f_nullable f_stateCount f_edgeCount f_callSize f_pendingSize f_conflictCount f_height f_logSize f_low f_tip f_trialLog a_left a_length a_need a_rhs a_level a_side a_vanishing a_go a_follow a_head a_next a_target a_mark a_entry a_cursor a_callStack a_pending a_la a_base a_table a_check a_row a_symbols a_states a_log a_trialSymbols a_trialStates a_before a_corner a_sets g_terms g_nons g_depth g_built g_clash g_changed g_rules g_states g_size g_logged g_oldSize g_oldLogged b_part b_levels b_sides b_productive b_nullable b_first b_holds b_la b_stack b_oldStack b_log T N D R h lc n g kk lg hF hB
    obtain ⟨hb, hG, hY, f1, f2, f3, f4⟩ := id hF
    obtain ⟨BX, BY, vs, xs⟩ := id hB
    refine br_f (by decide) ?_
    refine zy_conflicts hY BY.1 BY.2.1 BY.2.2 hb.2.1 (fun cl => ⟨?_, zr_mk1 hF hB⟩)
    rw [BX.2.2.2.2]
    exact congrArg nI ((zz_same BX.1 BY.1).2 (fun S => zm_s (fun t => zm_b (zc_cl g R a_level S t)) (T + 1))).symm
theorem i_vc_clear {k : Nat} {u : SX} {v : SY} (I : i_Rel k u v) (hk : k + 5 ≤ 2563) : wpX_clear (fun r u' => wpY_clear (fun r' v' => r' = r ∧ i_Rel (k + 5) u' v') v) u := by
  refine zr_el (P := fun u v => wpX_clear (fun r u' => wpY_clear (fun r' v' => r' = r ∧ i_Rel (k + 5) u' v') v) u) I ?_ ?_
  · intro f_maxRules f_maxStates f_maxNodes f_maxEdges f_maxSteps f_maxLog f_finished f_lastTerminal f_lastNonterminal f_depthLimit f_built f_ruleCount f_nullable f_stateCount f_edgeCount f_callSize f_pendingSize f_conflictCount f_height f_logSize f_low f_tip f_trialLog a_left a_length a_need a_rhs a_level a_side a_vanishing a_go a_follow a_head a_next a_target a_mark a_entry a_cursor a_callStack a_pending a_la a_base a_table a_check a_row a_symbols a_states a_log a_trialSymbols a_trialStates a_before a_corner a_sets g_terms g_nons g_depth g_built g_clash g_changed g_rules g_states g_size g_logged g_oldSize g_oldLogged b_part b_levels b_sides b_productive b_nullable b_first b_holds b_la b_stack b_oldStack b_log T N D R g kk lg hF
    exact br_t rfl (br_t rfl ⟨rfl, zr_mk0 hF⟩)
  · intro f_maxRules f_maxStates f_maxNodes f_maxEdges f_maxSteps f_maxLog f_finished f_lastTerminal f_lastNonterminal f_depthLimit f_built f_ruleCount f_nullable f_stateCount f_edgeCount f_callSize f_pendingSize f_conflictCount f_height f_logSize f_low f_tip f_trialLog a_left a_length a_need a_rhs a_level a_side a_vanishing a_go a_follow a_head a_next a_target a_mark a_entry a_cursor a_callStack a_pending a_la a_base a_table a_check a_row a_symbols a_states a_log a_trialSymbols a_trialStates a_before a_corner a_sets g_terms g_nons g_depth g_built g_clash g_changed g_rules g_states g_size g_logged g_oldSize g_oldLogged b_part b_levels b_sides b_productive b_nullable b_first b_holds b_la b_stack b_oldStack b_log T N D R h lc n g kk lg hF hB
    obtain ⟨hb, hG, hY, f1, f2, f3, f4⟩ := id hF
    obtain ⟨BX, BY, vs, xs⟩ := id hB
    refine br_f (by decide) (br_f (by decide) ⟨rfl, zr_mk1 (h := 0) (lc := 0) (kk := kk) (lg := lg) ⟨by omega, hG, hY, fun i hi => by omega, fun i hi => by omega, fun i hi => by omega, fun i hi => by omega⟩ ⟨BX, BY, fun i hi => by omega, fun i hi => by omega, fun i i1 i2 => by omega⟩⟩)
theorem i_vc_push {k : Nat} {u : SX} {v : SY} (I : i_Rel k u v) (hk : k + 5 ≤ 2563) (v1 : Int32) : wpX_push (fun r u' => wpY_push (fun r' v' => r' = r ∧ i_Rel (k + 5) u' v') v v1) u v1 := by
  refine zr_el (P := fun u v => wpX_push (fun r u' => wpY_push (fun r' v' => r' = r ∧ i_Rel (k + 5) u' v') v v1) u v1) I ?_ ?_
  · intro f_maxRules f_maxStates f_maxNodes f_maxEdges f_maxSteps f_maxLog f_finished f_lastTerminal f_lastNonterminal f_depthLimit f_built f_ruleCount f_nullable f_stateCount f_edgeCount f_callSize f_pendingSize f_conflictCount f_height f_logSize f_low f_tip f_trialLog a_left a_length a_need a_rhs a_level a_side a_vanishing a_go a_follow a_head a_next a_target a_mark a_entry a_cursor a_callStack a_pending a_la a_base a_table a_check a_row a_symbols a_states a_log a_trialSymbols a_trialStates a_before a_corner a_sets g_terms g_nons g_depth g_built g_clash g_changed g_rules g_states g_size g_logged g_oldSize g_oldLogged b_part b_levels b_sides b_productive b_nullable b_first b_holds b_la b_stack b_oldStack b_log T N D R g kk lg hF
    exact br_t rfl (br_t rfl (br_t rfl ⟨rfl, zr_mk0 hF⟩))
  · intro f_maxRules f_maxStates f_maxNodes f_maxEdges f_maxSteps f_maxLog f_finished f_lastTerminal f_lastNonterminal f_depthLimit f_built f_ruleCount f_nullable f_stateCount f_edgeCount f_callSize f_pendingSize f_conflictCount f_height f_logSize f_low f_tip f_trialLog a_left a_length a_need a_rhs a_level a_side a_vanishing a_go a_follow a_head a_next a_target a_mark a_entry a_cursor a_callStack a_pending a_la a_base a_table a_check a_row a_symbols a_states a_log a_trialSymbols a_trialStates a_before a_corner a_sets g_terms g_nons g_depth g_built g_clash g_changed g_rules g_states g_size g_logged g_oldSize g_oldLogged b_part b_levels b_sides b_productive b_nullable b_first b_holds b_la b_stack b_oldStack b_log T N D R h lc n g kk lg hF hB
    exact zr_push hF hB v1
theorem i_vc_feed {k : Nat} {u : SX} {v : SY} (I : i_Rel k u v) (hk : k + 5 ≤ 2563) (v1 : Int32) : wpX_feed (fun r u' => wpY_feed (fun r' v' => r' = r ∧ i_Rel (k + 5) u' v') v v1) u v1 := by
  refine zr_el (P := fun u v => wpX_feed (fun r u' => wpY_feed (fun r' v' => r' = r ∧ i_Rel (k + 5) u' v') v v1) u v1) I ?_ ?_
  · intro f_maxRules f_maxStates f_maxNodes f_maxEdges f_maxSteps f_maxLog f_finished f_lastTerminal f_lastNonterminal f_depthLimit f_built f_ruleCount f_nullable f_stateCount f_edgeCount f_callSize f_pendingSize f_conflictCount f_height f_logSize f_low f_tip f_trialLog a_left a_length a_need a_rhs a_level a_side a_vanishing a_go a_follow a_head a_next a_target a_mark a_entry a_cursor a_callStack a_pending a_la a_base a_table a_check a_row a_symbols a_states a_log a_trialSymbols a_trialStates a_before a_corner a_sets g_terms g_nons g_depth g_built g_clash g_changed g_rules g_states g_size g_logged g_oldSize g_oldLogged b_part b_levels b_sides b_productive b_nullable b_first b_holds b_la b_stack b_oldStack b_log T N D R g kk lg hF
    exact br_t rfl (br_t rfl (br_t rfl ⟨rfl, zr_mk0 hF⟩))
  · intro f_maxRules f_maxStates f_maxNodes f_maxEdges f_maxSteps f_maxLog f_finished f_lastTerminal f_lastNonterminal f_depthLimit f_built f_ruleCount f_nullable f_stateCount f_edgeCount f_callSize f_pendingSize f_conflictCount f_height f_logSize f_low f_tip f_trialLog a_left a_length a_need a_rhs a_level a_side a_vanishing a_go a_follow a_head a_next a_target a_mark a_entry a_cursor a_callStack a_pending a_la a_base a_table a_check a_row a_symbols a_states a_log a_trialSymbols a_trialStates a_before a_corner a_sets g_terms g_nons g_depth g_built g_clash g_changed g_rules g_states g_size g_logged g_oldSize g_oldLogged b_part b_levels b_sides b_productive b_nullable b_first b_holds b_la b_stack b_oldStack b_log T N D R h lc n g kk lg hF hB
    exact zr_feed hF hB v1
theorem i_vc_expected {k : Nat} {u : SX} {v : SY} (I : i_Rel k u v) (hk : k + 5 ≤ 2563) : wpX_expected (fun r u' => wpY_expected (fun r' v' => r' = r ∧ i_Rel (k + 5) u' v') v) u := by
  refine zr_el (P := fun u v => wpX_expected (fun r u' => wpY_expected (fun r' v' => r' = r ∧ i_Rel (k + 5) u' v') v) u) I ?_ ?_
  · intro f_maxRules f_maxStates f_maxNodes f_maxEdges f_maxSteps f_maxLog f_finished f_lastTerminal f_lastNonterminal f_depthLimit f_built f_ruleCount f_nullable f_stateCount f_edgeCount f_callSize f_pendingSize f_conflictCount f_height f_logSize f_low f_tip f_trialLog a_left a_length a_need a_rhs a_level a_side a_vanishing a_go a_follow a_head a_next a_target a_mark a_entry a_cursor a_callStack a_pending a_la a_base a_table a_check a_row a_symbols a_states a_log a_trialSymbols a_trialStates a_before a_corner a_sets g_terms g_nons g_depth g_built g_clash g_changed g_rules g_states g_size g_logged g_oldSize g_oldLogged b_part b_levels b_sides b_productive b_nullable b_first b_holds b_la b_stack b_oldStack b_log T N D R g kk lg hF
    exact br_t rfl ⟨1, br_t rfl (br_t rfl ⟨rfl, zr_mk0 hF⟩)⟩
  · intro f_maxRules f_maxStates f_maxNodes f_maxEdges f_maxSteps f_maxLog f_finished f_lastTerminal f_lastNonterminal f_depthLimit f_built f_ruleCount f_nullable f_stateCount f_edgeCount f_callSize f_pendingSize f_conflictCount f_height f_logSize f_low f_tip f_trialLog a_left a_length a_need a_rhs a_level a_side a_vanishing a_go a_follow a_head a_next a_target a_mark a_entry a_cursor a_callStack a_pending a_la a_base a_table a_check a_row a_symbols a_states a_log a_trialSymbols a_trialStates a_before a_corner a_sets g_terms g_nons g_depth g_built g_clash g_changed g_rules g_states g_size g_logged g_oldSize g_oldLogged b_part b_levels b_sides b_productive b_nullable b_first b_holds b_la b_stack b_oldStack b_log T N D R h lc n g kk lg hF hB
    exact zr_expected hF hB
theorem i_vc_has {k : Nat} {u : SX} {v : SY} (I : i_Rel k u v) (hk : k + 5 ≤ 2563) (v1 : Int32) (v2 : Int32) : wpX_has (fun r => wpY_has (fun r' => r' = r ∧ i_Rel (k + 5) u v) v v1 v2) u v1 v2 := by
  refine zr_el (P := fun u v => wpX_has (fun r => wpY_has (fun r' => r' = r ∧ i_Rel (k + 5) u v) v v1 v2) u v1 v2) I ?_ ?_
  · intro f_maxRules f_maxStates f_maxNodes f_maxEdges f_maxSteps f_maxLog f_finished f_lastTerminal f_lastNonterminal f_depthLimit f_built f_ruleCount f_nullable f_stateCount f_edgeCount f_callSize f_pendingSize f_conflictCount f_height f_logSize f_low f_tip f_trialLog a_left a_length a_need a_rhs a_level a_side a_vanishing a_go a_follow a_head a_next a_target a_mark a_entry a_cursor a_callStack a_pending a_la a_base a_table a_check a_row a_symbols a_states a_log a_trialSymbols a_trialStates a_before a_corner a_sets g_terms g_nons g_depth g_built g_clash g_changed g_rules g_states g_size g_logged g_oldSize g_oldLogged b_part b_levels b_sides b_productive b_nullable b_first b_holds b_la b_stack b_oldStack b_log T N D R g kk lg hF
    exact br_t rfl (br_t rfl (br_t rfl ⟨rfl, zr_mk0 hF⟩))
  · intro f_maxRules f_maxStates f_maxNodes f_maxEdges f_maxSteps f_maxLog f_finished f_lastTerminal f_lastNonterminal f_depthLimit f_built f_ruleCount f_nullable f_stateCount f_edgeCount f_callSize f_pendingSize f_conflictCount f_height f_logSize f_low f_tip f_trialLog a_left a_length a_need a_rhs a_level a_side a_vanishing a_go a_follow a_head a_next a_target a_mark a_entry a_cursor a_callStack a_pending a_la a_base a_table a_check a_row a_symbols a_states a_log a_trialSymbols a_trialStates a_before a_corner a_sets g_terms g_nons g_depth g_built g_clash g_changed g_rules g_states g_size g_logged g_oldSize g_oldLogged b_part b_levels b_sides b_productive b_nullable b_first b_holds b_la b_stack b_oldStack b_log T N D R h lc n g kk lg hF hB
    exact zr_has hF hB (zr_mk1 hF hB) v1 v2
theorem i_vc_look {k : Nat} {u : SX} {v : SY} (I : i_Rel k u v) (hk : k + 5 ≤ 2563) (v1 : Int32) : wpX_look (fun r => wpY_look (fun r' => r' = r ∧ i_Rel (k + 5) u v) v v1) u v1 := by
  refine zr_el (P := fun u v => wpX_look (fun r => wpY_look (fun r' => r' = r ∧ i_Rel (k + 5) u v) v v1) u v1) I ?_ ?_
  · intro f_maxRules f_maxStates f_maxNodes f_maxEdges f_maxSteps f_maxLog f_finished f_lastTerminal f_lastNonterminal f_depthLimit f_built f_ruleCount f_nullable f_stateCount f_edgeCount f_callSize f_pendingSize f_conflictCount f_height f_logSize f_low f_tip f_trialLog a_left a_length a_need a_rhs a_level a_side a_vanishing a_go a_follow a_head a_next a_target a_mark a_entry a_cursor a_callStack a_pending a_la a_base a_table a_check a_row a_symbols a_states a_log a_trialSymbols a_trialStates a_before a_corner a_sets g_terms g_nons g_depth g_built g_clash g_changed g_rules g_states g_size g_logged g_oldSize g_oldLogged b_part b_levels b_sides b_productive b_nullable b_first b_holds b_la b_stack b_oldStack b_log T N D R g kk lg hF
    exact br_t rfl (br_t rfl (br_t rfl ⟨rfl, zr_mk0 hF⟩))
  · intro f_maxRules f_maxStates f_maxNodes f_maxEdges f_maxSteps f_maxLog f_finished f_lastTerminal f_lastNonterminal f_depthLimit f_built f_ruleCount f_nullable f_stateCount f_edgeCount f_callSize f_pendingSize f_conflictCount f_height f_logSize f_low f_tip f_trialLog a_left a_length a_need a_rhs a_level a_side a_vanishing a_go a_follow a_head a_next a_target a_mark a_entry a_cursor a_callStack a_pending a_la a_base a_table a_check a_row a_symbols a_states a_log a_trialSymbols a_trialStates a_before a_corner a_sets g_terms g_nons g_depth g_built g_clash g_changed g_rules g_states g_size g_logged g_oldSize g_oldLogged b_part b_levels b_sides b_productive b_nullable b_first b_holds b_la b_stack b_oldStack b_log T N D R h lc n g kk lg hF hB
    exact zr_look hF hB (zr_mk1 hF hB) v1
theorem i_vc_action {k : Nat} {u : SX} {v : SY} (I : i_Rel k u v) (hk : k + 5 ≤ 2563) (v1 : Int32) : wpX_action (fun r => wpY_action (fun r' v' => r' = r ∧ i_Rel (k + 5) u v') v v1) u v1 := by
  refine zr_el (P := fun u v => wpX_action (fun r => wpY_action (fun r' v' => r' = r ∧ i_Rel (k + 5) u v') v v1) u v1) I ?_ ?_
  · intro f_maxRules f_maxStates f_maxNodes f_maxEdges f_maxSteps f_maxLog f_finished f_lastTerminal f_lastNonterminal f_depthLimit f_built f_ruleCount f_nullable f_stateCount f_edgeCount f_callSize f_pendingSize f_conflictCount f_height f_logSize f_low f_tip f_trialLog a_left a_length a_need a_rhs a_level a_side a_vanishing a_go a_follow a_head a_next a_target a_mark a_entry a_cursor a_callStack a_pending a_la a_base a_table a_check a_row a_symbols a_states a_log a_trialSymbols a_trialStates a_before a_corner a_sets g_terms g_nons g_depth g_built g_clash g_changed g_rules g_states g_size g_logged g_oldSize g_oldLogged b_part b_levels b_sides b_productive b_nullable b_first b_holds b_la b_stack b_oldStack b_log T N D R g kk lg hF
    exact br_t rfl (br_t rfl (br_t rfl ⟨rfl, zr_mk0 hF⟩))
  · intro f_maxRules f_maxStates f_maxNodes f_maxEdges f_maxSteps f_maxLog f_finished f_lastTerminal f_lastNonterminal f_depthLimit f_built f_ruleCount f_nullable f_stateCount f_edgeCount f_callSize f_pendingSize f_conflictCount f_height f_logSize f_low f_tip f_trialLog a_left a_length a_need a_rhs a_level a_side a_vanishing a_go a_follow a_head a_next a_target a_mark a_entry a_cursor a_callStack a_pending a_la a_base a_table a_check a_row a_symbols a_states a_log a_trialSymbols a_trialStates a_before a_corner a_sets g_terms g_nons g_depth g_built g_clash g_changed g_rules g_states g_size g_logged g_oldSize g_oldLogged b_part b_levels b_sides b_productive b_nullable b_first b_holds b_la b_stack b_oldStack b_log T N D R h lc n g kk lg hF hB
    exact zr_action hF hB v1
theorem i_vc_symbol {k : Nat} {u : SX} {v : SY} (I : i_Rel k u v) (hk : k + 5 ≤ 2563) (v1 : Int32) : wpX_symbol (fun r => wpY_symbol (fun r' => r' = r ∧ i_Rel (k + 5) u v) v v1) u v1 := by
  refine zr_el (P := fun u v => wpX_symbol (fun r => wpY_symbol (fun r' => r' = r ∧ i_Rel (k + 5) u v) v v1) u v1) I ?_ ?_
  · intro f_maxRules f_maxStates f_maxNodes f_maxEdges f_maxSteps f_maxLog f_finished f_lastTerminal f_lastNonterminal f_depthLimit f_built f_ruleCount f_nullable f_stateCount f_edgeCount f_callSize f_pendingSize f_conflictCount f_height f_logSize f_low f_tip f_trialLog a_left a_length a_need a_rhs a_level a_side a_vanishing a_go a_follow a_head a_next a_target a_mark a_entry a_cursor a_callStack a_pending a_la a_base a_table a_check a_row a_symbols a_states a_log a_trialSymbols a_trialStates a_before a_corner a_sets g_terms g_nons g_depth g_built g_clash g_changed g_rules g_states g_size g_logged g_oldSize g_oldLogged b_part b_levels b_sides b_productive b_nullable b_first b_holds b_la b_stack b_oldStack b_log T N D R g kk lg hF
    exact zr_symbol (h := 0) (kk := kk) (by omega) hF.2.2.2.1 hF.2.2.2.2.1 (zr_mk0 hF) v1
  · intro f_maxRules f_maxStates f_maxNodes f_maxEdges f_maxSteps f_maxLog f_finished f_lastTerminal f_lastNonterminal f_depthLimit f_built f_ruleCount f_nullable f_stateCount f_edgeCount f_callSize f_pendingSize f_conflictCount f_height f_logSize f_low f_tip f_trialLog a_left a_length a_need a_rhs a_level a_side a_vanishing a_go a_follow a_head a_next a_target a_mark a_entry a_cursor a_callStack a_pending a_la a_base a_table a_check a_row a_symbols a_states a_log a_trialSymbols a_trialStates a_before a_corner a_sets g_terms g_nons g_depth g_built g_clash g_changed g_rules g_states g_size g_logged g_oldSize g_oldLogged b_part b_levels b_sides b_productive b_nullable b_first b_holds b_la b_stack b_oldStack b_log T N D R h lc n g kk lg hF hB
    obtain ⟨hb, hG, hY, f1, f2, f3, f4⟩ := id hF
    exact zr_symbol (h := h) (kk := kk) (by omega) f1 f2 (zr_mk1 hF hB) v1
theorem i_vc_reduction {k : Nat} {u : SX} {v : SY} (I : i_Rel k u v) (hk : k + 5 ≤ 2563) (v1 : Int32) : wpX_reduction (fun r => wpY_reduction (fun r' => r' = r ∧ i_Rel (k + 5) u v) v v1) u v1 := by
  refine zr_el (P := fun u v => wpX_reduction (fun r => wpY_reduction (fun r' => r' = r ∧ i_Rel (k + 5) u v) v v1) u v1) I ?_ ?_
  · intro f_maxRules f_maxStates f_maxNodes f_maxEdges f_maxSteps f_maxLog f_finished f_lastTerminal f_lastNonterminal f_depthLimit f_built f_ruleCount f_nullable f_stateCount f_edgeCount f_callSize f_pendingSize f_conflictCount f_height f_logSize f_low f_tip f_trialLog a_left a_length a_need a_rhs a_level a_side a_vanishing a_go a_follow a_head a_next a_target a_mark a_entry a_cursor a_callStack a_pending a_la a_base a_table a_check a_row a_symbols a_states a_log a_trialSymbols a_trialStates a_before a_corner a_sets g_terms g_nons g_depth g_built g_clash g_changed g_rules g_states g_size g_logged g_oldSize g_oldLogged b_part b_levels b_sides b_productive b_nullable b_first b_holds b_la b_stack b_oldStack b_log T N D R g kk lg hF
    exact zr_reduction (lc := 0) (lg := lg) (by omega) hF.2.2.2.2.2.1 hF.2.2.2.2.2.2 (zr_mk0 hF) v1
  · intro f_maxRules f_maxStates f_maxNodes f_maxEdges f_maxSteps f_maxLog f_finished f_lastTerminal f_lastNonterminal f_depthLimit f_built f_ruleCount f_nullable f_stateCount f_edgeCount f_callSize f_pendingSize f_conflictCount f_height f_logSize f_low f_tip f_trialLog a_left a_length a_need a_rhs a_level a_side a_vanishing a_go a_follow a_head a_next a_target a_mark a_entry a_cursor a_callStack a_pending a_la a_base a_table a_check a_row a_symbols a_states a_log a_trialSymbols a_trialStates a_before a_corner a_sets g_terms g_nons g_depth g_built g_clash g_changed g_rules g_states g_size g_logged g_oldSize g_oldLogged b_part b_levels b_sides b_productive b_nullable b_first b_holds b_la b_stack b_oldStack b_log T N D R h lc n g kk lg hF hB
    obtain ⟨hb, hG, hY, f1, f2, f3, f4⟩ := id hF
    exact zr_reduction (lc := lc) (lg := lg) (by omega) f3 f4 (zr_mk1 hF hB) v1
end
