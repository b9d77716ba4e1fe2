section
theorem pk_us {f : Nat → Int32} {k : Nat} {x : Int32} : upd f k x k = x := if_pos rfl
theorem pk_un {f : Nat → Int32} {k j : Nat} {x : Int32} (h : j ≠ k) : upd f k x j = f j := if_neg h
theorem pk_sub {a b : Nat} (h : b ≤ a) : nI a - nI b = nI (a - b) := by
  obtain ⟨c, rfl⟩ : ∃ c, a = c + b := ⟨a - b, by omega⟩
  rw [← nI_add, Int32.add_sub_cancel, Nat.add_sub_cancel]
theorem pk_m1 (n : Nat) : nI (n + 1) + (-1) = nI n := by
  rw [← nI_1, Int32.add_assoc, show (1 : Int32) + (-1) = 0 from rfl, Int32.add_zero]
theorem pk_mul (a b : Nat) : nI a * nI b = nI (a * b) := (Int32.ofNat_mul a b).symm
theorem pk_div {a d : Nat} (ha : a < 2 ^ 31) (h0 : 0 < d) (hd : d < 2 ^ 31) : nI a / nI d = nI (a / d) := by
  apply Int32.toInt_inj.mp
  rw [lg_idiv_nonneg (by rw [nI_toInt ha]; omega) (by rw [nI_toInt hd]; omega), nI_toInt ha, nI_toInt hd, nI_toInt (Nat.lt_of_le_of_lt (Nat.div_le_self a d) ha)]
  first | rfl | exact (Int.natCast_ediv _ _).symm
theorem pk_rem {a d : Nat} (ha : a < 2 ^ 31) (h0 : 0 < d) (hd : d < 2 ^ 31) : nI a - nI a / nI d * nI d = nI (a % d) := by
  rw [pk_div ha h0 hd, pk_mul, pk_sub (Nat.div_mul_le_self a d)]
  exact congrArg nI (by have := Nat.div_add_mod' a d; omega)
theorem pk_sub_toInt {a b : Nat} (ha : a < 2 ^ 30) (hb : b < 2 ^ 30) : (nI a - nI b).toInt = (a : Int) - b := by
  rw [Int32.toInt_sub, nI_toInt (by omega), nI_toInt (by omega)]
  exact Int.bmod_eq_of_le (by omega) (by omega)
theorem pk_sneg {a b : Nat} (hb : b < 2 ^ 30) (h : a < b) : nI a - nI b < 0 := by
  rw [Int32.lt_iff_toInt_lt, pk_sub_toInt (by omega) hb, show (0 : Int32).toInt = 0 from by decide]
  omega
theorem pk_ix (x : Int32) {n : Nat} (hn : n < 2 ^ 31) : x < 0 ∨ nI n ≤ x ∨ ∃ j : Nat, j < n ∧ x = nI j := by
  by_cases h : x < 0
  · exact Or.inl h
  · obtain ⟨j, hj, rfl⟩ := nI_of h
    by_cases h2 : j < n
    · exact Or.inr (Or.inr ⟨j, h2, rfl⟩)
    · exact Or.inr (Or.inl (nI_le (by omega) hj))
theorem pk_le {x y : Int32} {A B : Prop} (a b : Nat) (f : a ≤ b → A) (g : b < a → B) (hx : x = nI a := by rfl) (hy : y = nI b := by rfl) (ha : a < 2 ^ 31 := by omega) (hb : b < 2 ^ 31 := by omega) : (x ≤ y → A) ∧ (¬ x ≤ y → B) := by
  subst hx hy
  rw [nI_leI ha hb]
  exact ⟨f, fun z => g (by omega)⟩
theorem pk_lt {x y : Int32} {A B : Prop} (a b : Nat) (f : a < b → A) (g : b ≤ a → B) (hx : x = nI a := by rfl) (hy : y = nI b := by rfl) (ha : a < 2 ^ 31 := by omega) (hb : b < 2 ^ 31 := by omega) : (x < y → A) ∧ (¬ x < y → B) := by
  subst hx hy
  rw [nI_ltI ha hb]
  exact ⟨f, fun z => g (by omega)⟩
theorem pk_eq {x y : Int32} {A B : Prop} (a b : Nat) (f : a = b → A) (g : a ≠ b → B) (hx : x = nI a := by rfl) (hy : y = nI b := by rfl) (ha : a < 2 ^ 31 := by omega) (hb : b < 2 ^ 31 := by omega) : (x = y → A) ∧ (¬ x = y → B) := by
  subst hx hy
  rw [nI_eq ha hb]
  exact ⟨f, g⟩
theorem pk_in {x : Int32} (n N : Nat) (h : n < N) (hx : x = nI n := by rfl) (hN : N < 2 ^ 31 := by omega) : vp_in x N := by
  subst hx
  exact vp_in_nI h hN
theorem pk_cl {x : Int32} (n : Nat) (hx : x = nI n := by rfl) (h : n < 2 ^ 31 := by omega) : x.toNatClampNeg = n := by
  subst hx
  exact nI_clamp h
theorem pk_tn {n : Nat} (h : n < 2 ^ 32) : (nI n).toBitVec.toNat = n := Nat.mod_eq_of_lt h
theorem pk_and (x : Int32) {m : Int32} (k : Nat) (hm : m.toBitVec.toNat = 2 ^ k - 1) : x &&& m = nI (x.toBitVec.toNat % 2 ^ k) := by
  apply Int32.toBitVec_inj.mp
  apply BitVec.eq_of_toNat_eq
  rw [Int32.toBitVec_and, BitVec.toNat_and, hm, Nat.and_two_pow_sub_one_eq_mod]
  show _ = (BitVec.ofNat 32 _).toNat
  rw [BitVec.toNat_ofNat]
  exact (Nat.mod_eq_of_lt (Nat.lt_of_le_of_lt (Nat.mod_le _ _) x.toBitVec.isLt)).symm
theorem pk_andN {n : Nat} (h : n < 2 ^ 32) {m : Int32} (k : Nat) (hm : m.toBitVec.toNat = 2 ^ k - 1) : nI n &&& m = nI (n % 2 ^ k) := by
  rw [pk_and _ k hm, pk_tn h]
theorem pk_andE (x : Int32) {m : Int32} (k : Nat) (hm : m.toBitVec.toNat = 2 ^ k - 1) : ∃ j : Nat, j < 2 ^ k ∧ x &&& m = nI j := ⟨_, Nat.mod_lt _ (Nat.two_pow_pos k), pk_and x k hm⟩
theorem pk_andIn (x : Int32) {m : Int32} (k : Nat) (hm : m.toBitVec.toNat = 2 ^ k - 1) (hk : k ≤ 30) : vp_in (x &&& m) (2 ^ k) := by
  obtain ⟨j, hj, e⟩ := pk_andE x k hm
  rw [e]
  exact vp_in_nI hj (Nat.lt_of_le_of_lt (Nat.pow_le_pow_right (by decide) hk) (by decide))
theorem pk_shl (a s : Int32) (k : Nat) (hs : (s.toBitVec.smod 32).toNat = k) : (a <<< s).toBitVec.toNat = a.toBitVec.toNat * 2 ^ k % 2 ^ 32 := by
  show (a.toBitVec <<< (s.toBitVec.smod 32).toNat).toNat = _
  rw [hs, BitVec.toNat_shiftLeft, Nat.shiftLeft_eq]
theorem pk_shlN {n : Nat} (s : Int32) (k : Nat) (hs : (s.toBitVec.smod 32).toNat = k) (h : n * 2 ^ k < 2 ^ 32) : nI n <<< s = nI (n * 2 ^ k) := by
  apply Int32.toBitVec_inj.mp
  apply BitVec.eq_of_toNat_eq
  have hn : n < 2 ^ 32 := Nat.lt_of_le_of_lt (Nat.le_mul_of_pos_right n (Nat.two_pow_pos k)) h
  rw [pk_shl _ _ k hs, pk_tn hn, pk_tn h, Nat.mod_eq_of_lt h]
theorem pk_shr (a s : Int32) (k : Nat) (hs : (s.toBitVec.smod 32).toNat = k) : (a >>> s).toInt = a.toInt >>> k := by
  show (a.toBitVec.sshiftRight (s.toBitVec.smod 32).toNat).toInt = _
  rw [hs, BitVec.toInt_sshiftRight]
  rfl
theorem pk_shrN {n : Nat} (h : n < 2 ^ 31) (s : Int32) (k : Nat) (hs : (s.toBitVec.smod 32).toNat = k) : nI n >>> s = nI (n / 2 ^ k) := by
  apply Int32.toInt_inj.mp
  have h2 : n / 2 ^ k ≤ n := Nat.div_le_self _ _
  rw [pk_shr _ _ k hs, nI_toInt h, nI_toInt (by omega), Int.shiftRight_eq_div_pow]
  rfl
theorem pk_ushr (x s : Int32) (k : Nat) (hs : ((s.toUInt32 &&& Int32.toUInt32 31).toBitVec % 32).toNat = k) : (x.toUInt32 >>> (s.toUInt32 &&& Int32.toUInt32 31)).toInt32.toBitVec.toNat = x.toBitVec.toNat / 2 ^ k := by
  have e : (x.toUInt32 >>> (s.toUInt32 &&& Int32.toUInt32 31)).toInt32.toBitVec = x.toBitVec >>> k := by
    rw [← hs]
    exact UInt32.toBitVec_shiftRight _ _
  rw [e, BitVec.toNat_ushiftRight, Nat.shiftRight_eq_div_pow]
theorem pk_ushrN {n : Nat} (hn : n < 2 ^ 32) (s : Int32) (k : Nat) (hs : ((s.toUInt32 &&& Int32.toUInt32 31).toBitVec % 32).toNat = k) : ((nI n).toUInt32 >>> (s.toUInt32 &&& Int32.toUInt32 31)).toInt32 = nI (n / 2 ^ k) := by
  apply Int32.toBitVec_inj.mp
  apply BitVec.eq_of_toNat_eq
  rw [pk_ushr _ s k hs, pk_tn hn, pk_tn (Nat.lt_of_le_of_lt (Nat.div_le_self _ _) hn)]
theorem pk_least (P : Nat → Prop) (h : ∃ k, P k) : ∃ k, P k ∧ ∀ j, j < k → ¬ P j := by
  obtain ⟨k, hk⟩ := h
  induction k using Nat.strongRecOn with
  | ind k ih =>
    by_cases e : ∃ j, j < k ∧ P j
    · obtain ⟨j, hj, pj⟩ := e
      exact ih j hj pj
    · exact ⟨k, hk, fun j hj pj => e ⟨j, hj, pj⟩⟩
/-! ===== Int32 by its bits: bt x i ===== -/
def bt (x : Int32) (i : Nat) : Bool := x.toBitVec.getLsbD i
theorem b_ext {x y : Int32} (h : ∀ i, i < 32 → bt x i = bt y i) : x = y := Int32.toBitVec_inj.mp (BitVec.eq_of_getLsbD_eq (fun i hi => h i hi))
theorem b_or (x y : Int32) (i : Nat) : bt (x ||| y) i = (bt x i || bt y i) := by unfold bt; rw [Int32.toBitVec_or, BitVec.getLsbD_or]
theorem b_and (x y : Int32) (i : Nat) : bt (x &&& y) i = (bt x i && bt y i) := by unfold bt; rw [Int32.toBitVec_and, BitVec.getLsbD_and]
theorem b_xor (x y : Int32) (i : Nat) : bt (x ^^^ y) i = (bt x i ^^ bt y i) := by unfold bt; rw [Int32.toBitVec_xor, BitVec.getLsbD_xor]
theorem b_big {x : Int32} {i : Nat} (h : 32 ≤ i) : bt x i = false := BitVec.getLsbD_of_ge _ _ h
theorem b_255 (i : Nat) : bt 255 i = decide (i < 8) := by
  rcases Nat.lt_or_ge i 32 with h | h
  · exact (by decide +kernel : ∀ i, i < 32 → bt 255 i = decide (i < 8)) i h
  · rw [b_big h, decide_eq_false (by omega)]
theorem b_65535 (i : Nat) : bt 65535 i = decide (i < 16) := by
  rcases Nat.lt_or_ge i 32 with h | h
  · exact (by decide +kernel : ∀ i, i < 32 → bt 65535 i = decide (i < 16)) i h
  · rw [b_big h, decide_eq_false (by omega)]
theorem b_m1 : ∀ i, i < 32 → bt (-1) i = true := by decide +kernel
theorem b_0 (i : Nat) : bt 0 i = false := BitVec.getLsbD_zero
theorem s_l : ∀ n, n < 32 → ((nI n &&& 31).toBitVec.smod 32).toNat = n := by decide +kernel
theorem s_u : ∀ n, n < 32 → (((nI n).toUInt32 &&& Int32.toUInt32 31).toBitVec % 32).toNat = n := by decide +kernel
theorem b_shl (n : Nat) (hn : n < 32) (x : Int32) {i : Nat} (hi : i < 32) : bt (x <<< (nI n &&& 31)) i = (decide (n ≤ i) && bt x (i - n)) := by
  unfold bt
  rw [Int32.toBitVec_shiftLeft]
  show (x.toBitVec <<< ((nI n &&& 31).toBitVec.smod 32).toNat).getLsbD i = _
  rw [s_l n hn, BitVec.getLsbD_shiftLeft]
  rcases Nat.lt_or_ge i n with h | h
  · simp [h, Nat.not_le.mpr h]
  · simp [hi, h, Nat.not_lt.mpr h]
theorem b_ushr (n : Nat) (hn : n < 32) (x : Int32) (i : Nat) : bt ((x.toUInt32 >>> ((nI n).toUInt32 &&& Int32.toUInt32 31)).toInt32) i = bt x (n + i) := by
  show (x.toUInt32 >>> ((nI n).toUInt32 &&& Int32.toUInt32 31)).toBitVec.getLsbD i = x.toUInt32.toBitVec.getLsbD (n + i)
  rw [UInt32.toBitVec_shiftRight]
  show (x.toUInt32.toBitVec >>> (((nI n).toUInt32 &&& Int32.toUInt32 31).toBitVec % 32).toNat).getLsbD i = _
  rw [s_u n hn, BitVec.getLsbD_ushiftRight]
theorem b_sshr (n : Nat) (hn : n < 32) (x : Int32) {i : Nat} (hi : i < 32) : bt (x >>> (nI n &&& 31)) i = if n + i < 32 then bt x (n + i) else bt x 31 := by
  unfold bt
  rw [Int32.toBitVec_shiftRight]
  show (x.toBitVec.sshiftRight ((nI n &&& 31).toBitVec.smod 32).toNat).getLsbD i = _
  rw [s_l n hn, BitVec.getLsbD_sshiftRight, BitVec.msb_eq_getLsbD_last]
  simp [hi]
end
section
/-! pure: lists of numbers, their order, keys -/
def cd_at (l : List Nat) (k : Nat) : Nat := l.getD k 0
theorem cd_at_0 (a : Nat) (l : List Nat) : cd_at (a :: l) 0 = a := rfl
theorem cd_at_s (a : Nat) (l : List Nat) (k : Nat) : cd_at (a :: l) (k + 1) = cd_at l k := rfl
theorem cd_at_l : ∀ (l m : List Nat) (k : Nat), k < l.length → cd_at (l ++ m) k = cd_at l k
  | [], _, k, h => absurd h (Nat.not_lt_zero k)
  | _ :: _, _, 0, _ => rfl
  | a :: l, m, k + 1, h => by
    rw [List.cons_append, cd_at_s, cd_at_s]
    exact cd_at_l l m k (Nat.lt_of_succ_lt_succ h)
theorem cd_at_r : ∀ (l m : List Nat) (k : Nat), cd_at (l ++ m) (l.length + k) = cd_at m k
  | [], m, k => by rw [List.nil_append, List.length_nil, Nat.zero_add]
  | a :: l, m, k => by
    rw [List.cons_append, List.length_cons, show l.length + 1 + k = (l.length + k) + 1 by omega, cd_at_s]
    exact cd_at_r l m k
theorem cd_at_mem : ∀ (l : List Nat) (k : Nat), k < l.length → cd_at l k ∈ l
  | [], k, h => absurd h (Nat.not_lt_zero k)
  | a :: l, 0, _ => List.mem_cons_self
  | a :: l, k + 1, h => List.mem_cons_of_mem _ (cd_at_mem l k (Nat.lt_of_succ_lt_succ h))
theorem cd_mem_at : ∀ (l : List Nat) (x : Nat), x ∈ l → ∃ k, k < l.length ∧ cd_at l k = x
  | [], x, h => absurd h List.not_mem_nil
  | a :: l, x, h => by
    rcases List.mem_cons.mp h with e | h
    · exact ⟨0, Nat.succ_pos _, e.symm⟩
    · obtain ⟨k, hk, e⟩ := cd_mem_at l x h
      exact ⟨k + 1, Nat.succ_lt_succ hk, e⟩
/-- the order of two lists: -1, 0, 1 -/
def cd_cm : List Nat → List Nat → Int32
  | [], [] => 0
  | [], _ :: _ => -1
  | _ :: _, [] => 1
  | a :: l, b :: m => if a = b then cd_cm l m else if a < b then -1 else 1
theorem cd_cm_00 : cd_cm [] [] = 0 := rfl
theorem cd_cm_0c (b : Nat) (m : List Nat) : cd_cm [] (b :: m) = -1 := rfl
theorem cd_cm_c0 (a : Nat) (l : List Nat) : cd_cm (a :: l) [] = 1 := rfl
theorem cd_cm_cc (a b : Nat) (l m : List Nat) : cd_cm (a :: l) (b :: m) = if a = b then cd_cm l m else if a < b then -1 else 1 := rfl
theorem cd_cm_e (a : Nat) (l m : List Nat) : cd_cm (a :: l) (a :: m) = cd_cm l m := by rw [cd_cm_cc, if_pos rfl]
theorem cd_cm_l {a b : Nat} (l m : List Nat) (h : a < b) : cd_cm (a :: l) (b :: m) = -1 := by
  rw [cd_cm_cc, if_neg (by omega), if_pos h]
theorem cd_cm_g {a b : Nat} (l m : List Nat) (h : b < a) : cd_cm (a :: l) (b :: m) = 1 := by
  rw [cd_cm_cc, if_neg (by omega), if_neg (by omega)]
theorem cd_cm_self : ∀ l : List Nat, cd_cm l l = 0
  | [] => rfl
  | a :: l => by rw [cd_cm_e]; exact cd_cm_self l
theorem cd_cm_eq : ∀ l m : List Nat, cd_cm l m = 0 → l = m
  | [], [], _ => rfl
  | [], _ :: _, h => absurd (show (-1 : Int32) = 0 from h) (by decide)
  | _ :: _, [], h => absurd (show (1 : Int32) = 0 from h) (by decide)
  | a :: l, b :: m, h => by
    rcases Nat.lt_trichotomy a b with c | c | c
    · rw [cd_cm_l l m c] at h
      exact absurd h (by decide)
    · subst c
      rw [cd_cm_e] at h
      rw [cd_cm_eq l m h]
    · rw [cd_cm_g l m c] at h
      exact absurd h (by decide)
theorem cd_cm_3 : ∀ l m : List Nat, cd_cm l m = -1 ∨ cd_cm l m = 0 ∨ cd_cm l m = 1
  | [], [] => Or.inr (Or.inl rfl)
  | [], _ :: _ => Or.inl rfl
  | _ :: _, [] => Or.inr (Or.inr rfl)
  | a :: l, b :: m => by
    rcases Nat.lt_trichotomy a b with c | c | c
    · exact Or.inl (cd_cm_l l m c)
    · subst c
      rw [cd_cm_e]
      exact cd_cm_3 l m
    · exact Or.inr (Or.inr (cd_cm_g l m c))
theorem cd_cm_sym : ∀ l m : List Nat, cd_cm l m = -1 → cd_cm m l = 1
  | [], [], h => absurd h (by decide)
  | [], _ :: _, _ => rfl
  | _ :: _, [], h => absurd (show (1 : Int32) = -1 from h) (by decide)
  | a :: l, b :: m, h => by
    rcases Nat.lt_trichotomy a b with c | c | c
    · exact cd_cm_g m l c
    · subst c
      rw [cd_cm_e] at h ⊢
      exact cd_cm_sym l m h
    · rw [cd_cm_g l m c] at h
      exact absurd h (by decide)
theorem cd_cm_sym' : ∀ l m : List Nat, cd_cm l m = 1 → cd_cm m l = -1
  | [], [], h => absurd h (by decide)
  | [], _ :: _, h => absurd (show (-1 : Int32) = 1 from h) (by decide)
  | _ :: _, [], _ => rfl
  | a :: l, b :: m, h => by
    rcases Nat.lt_trichotomy a b with c | c | c
    · rw [cd_cm_l l m c] at h
      exact absurd h (by decide)
    · subst c
      rw [cd_cm_e] at h ⊢
      exact cd_cm_sym' l m h
    · exact cd_cm_l m l c
theorem cd_cm_tr : ∀ l m k : List Nat, cd_cm l m = -1 → cd_cm m k = -1 → cd_cm l k = -1
  | [], [], _, h, _ => absurd h (by decide)
  | _ :: _, [], _, h, _ => absurd (show (1 : Int32) = -1 from h) (by decide)
  | _, _ :: _, [], _, h => absurd (show (1 : Int32) = -1 from h) (by decide)
  | [], _ :: _, _ :: _, _, _ => rfl
  | a :: l, b :: m, c :: k, h, h' => by
    rcases Nat.lt_trichotomy a b with x | x | x
    · rcases Nat.lt_trichotomy b c with y | y | y
      · exact cd_cm_l l k (by omega)
      · exact cd_cm_l l k (by omega)
      · rw [cd_cm_g m k y] at h'
        exact absurd h' (by decide)
    · subst x
      rw [cd_cm_e] at h
      rcases Nat.lt_trichotomy a c with y | y | y
      · exact cd_cm_l l k y
      · subst y
        rw [cd_cm_e] at h' ⊢
        exact cd_cm_tr l m k h h'
      · rw [cd_cm_g m k y] at h'
        exact absurd h' (by decide)
    · rw [cd_cm_g l m x] at h
      exact absurd h (by decide)
theorem cd_m1lt : (-1 : Int32) < 0 := by decide
theorem cd_0nlt : ¬ (0 : Int32) < 0 := by decide
theorem cd_1nlt : ¬ (1 : Int32) < 0 := by decide
theorem cd_cm_lt (l m : List Nat) : cd_cm l m < 0 ↔ cd_cm l m = -1 := by
  rcases cd_cm_3 l m with h | h | h <;> rw [h] <;> decide
theorem cd_cm_ge (l m : List Nat) : 0 ≤ cd_cm l m ↔ ¬ cd_cm l m = -1 := by
  rcases cd_cm_3 l m with h | h | h <;> rw [h] <;> decide
/-- the numbers other than 0 -/
def cd_fl : List Nat → List Nat
  | [] => []
  | a :: l => if a = 0 then cd_fl l else a :: cd_fl l
theorem cd_fl_0 (l : List Nat) : cd_fl (0 :: l) = cd_fl l := rfl
theorem cd_fl_c {a : Nat} (l : List Nat) (h : ¬ a = 0) : cd_fl (a :: l) = a :: cd_fl l := if_neg h
theorem cd_fl_len : ∀ l : List Nat, (cd_fl l).length ≤ l.length
  | [] => Nat.le_refl _
  | a :: l => by
    by_cases h : a = 0
    · subst h
      rw [cd_fl_0, List.length_cons]
      exact Nat.le_succ_of_le (cd_fl_len l)
    · rw [cd_fl_c l h, List.length_cons, List.length_cons]
      exact Nat.succ_le_succ (cd_fl_len l)
theorem cd_fl_pos : ∀ (l : List Nat) (x : Nat), x ∈ cd_fl l → 0 < x
  | [], x, h => absurd h List.not_mem_nil
  | a :: l, x, h => by
    by_cases c : a = 0
    · subst c
      rw [cd_fl_0] at h
      exact cd_fl_pos l x h
    · rw [cd_fl_c l c] at h
      rcases List.mem_cons.mp h with e | h
      · omega
      · exact cd_fl_pos l x h
theorem cd_fl_sub : ∀ (l : List Nat) (x : Nat), x ∈ cd_fl l → x ∈ l
  | [], x, h => absurd h List.not_mem_nil
  | a :: l, x, h => by
    by_cases c : a = 0
    · subst c
      rw [cd_fl_0] at h
      exact List.mem_cons_of_mem _ (cd_fl_sub l x h)
    · rw [cd_fl_c l c] at h
      rcases List.mem_cons.mp h with e | h
      · rw [e]
        exact List.mem_cons_self
      · exact List.mem_cons_of_mem _ (cd_fl_sub l x h)
/-- what stands from a place on -/
theorem cd_drop_end (l : List Nat) {k : Nat} (h : l.length ≤ k) : l.drop k = [] := List.drop_eq_nil_of_le h
theorem cd_drop_at : ∀ (l : List Nat) (k : Nat), k < l.length → l.drop k = cd_at l k :: l.drop (k + 1)
  | [], k, h => absurd h (Nat.not_lt_zero k)
  | a :: l, 0, _ => rfl
  | a :: l, k + 1, h => by
    rw [List.drop_succ_cons, List.drop_succ_cons, cd_at_s]
    exact cd_drop_at l k (Nat.lt_of_succ_lt_succ h)
theorem cd_fd_0 {l : List Nat} {k : Nat} (h : k < l.length) (z : cd_at l k = 0) : cd_fl (l.drop k) = cd_fl (l.drop (k + 1)) := by
  rw [cd_drop_at l k h, z, cd_fl_0]
theorem cd_fd_c {l : List Nat} {k : Nat} (h : k < l.length) (z : ¬ cd_at l k = 0) : cd_fl (l.drop k) = cd_at l k :: cd_fl (l.drop (k + 1)) := by
  rw [cd_drop_at l k h, cd_fl_c _ z]
/-- two keys joined by 0 -/
theorem cd_cm_join : ∀ (l l' m m' : List Nat), (∀ x, x ∈ l → 0 < x) → (∀ x, x ∈ l' → 0 < x) →
    cd_cm (l ++ 0 :: m) (l' ++ 0 :: m') = if cd_cm l l' = 0 then cd_cm m m' else cd_cm l l'
  | [], [], m, m', _, _ => by
    rw [List.nil_append, List.nil_append, cd_cm_e, cd_cm_00, if_pos rfl]
  | [], b :: l', m, m', _, h' => by
    rw [List.nil_append, List.cons_append, cd_cm_l m (l' ++ 0 :: m') (h' b List.mem_cons_self), cd_cm_0c, if_neg (by decide)]
  | a :: l, [], m, m', h, _ => by
    rw [List.nil_append, List.cons_append, cd_cm_g (l ++ 0 :: m) m' (h a List.mem_cons_self), cd_cm_c0, if_neg (by decide)]
  | a :: l, b :: l', m, m', h, h' => by
    rw [List.cons_append, List.cons_append]
    rcases Nat.lt_trichotomy a b with c | c | c
    · rw [cd_cm_l _ _ c, cd_cm_l _ _ c, if_neg (by decide)]
    · subst c
      rw [cd_cm_e, cd_cm_e]
      exact cd_cm_join l l' m m' (fun x hx => h x (List.mem_cons_of_mem _ hx)) (fun x hx => h' x (List.mem_cons_of_mem _ hx))
    · rw [cd_cm_g _ _ c, cd_cm_g _ _ c, if_neg (by decide)]
/-! weights of an element on four levels -/
abbrev cd_W : Type := Nat × Nat × Nat × Nat
def cd_cp (l : Nat) (x : cd_W) : Nat := if l = 1 then x.1 else if l = 2 then x.2.1 else if l = 3 then x.2.2.1 else x.2.2.2
def cd_rd (bk l : Nat) (W : List cd_W) : List Nat := if l = 2 ∧ bk = 1 then (W.map (cd_cp l)).reverse else W.map (cd_cp l)
theorem cd_rd_len (bk l : Nat) (W : List cd_W) : (cd_rd bk l W).length = W.length := by
  unfold cd_rd
  split
  · rw [List.length_reverse, List.length_map]
  · rw [List.length_map]
def cd_lv (bk : Nat) (W : List cd_W) (l : Nat) : List Nat := cd_fl (cd_rd bk l W)
theorem cd_lv_len (bk : Nat) (W : List cd_W) (l : Nat) : (cd_lv bk W l).length ≤ W.length := by
  have h := cd_fl_len (cd_rd bk l W)
  rw [cd_rd_len] at h
  exact h
/-- the key from a level on, d levels behind it -/
def cd_kt (bk : Nat) (W : List cd_W) : Nat → Nat → List Nat
  | 0, l => cd_lv bk W l
  | d + 1, l => cd_lv bk W l ++ 0 :: cd_kt bk W d (l + 1)
def cd_key (bk : Nat) (W : List cd_W) (s : Nat) : List Nat := cd_kt bk W (s - 1) 1
def cd_sm (bk : Nat) (W : List cd_W) : Nat → Nat → Nat
  | 0, l => (cd_lv bk W l).length
  | d + 1, l => (cd_lv bk W l).length + cd_sm bk W d (l + 1)
theorem cd_kt_len (bk : Nat) (W : List cd_W) : ∀ d l : Nat, (cd_kt bk W d l).length = d + cd_sm bk W d l
  | 0, l => by
    rw [Nat.zero_add]
    rfl
  | d + 1, l => by
    show (cd_lv bk W l ++ 0 :: cd_kt bk W d (l + 1)).length = d + 1 + ((cd_lv bk W l).length + cd_sm bk W d (l + 1))
    rw [List.length_append, List.length_cons, cd_kt_len bk W d (l + 1)]
    omega
theorem cd_sm_le (bk : Nat) (W : List cd_W) : ∀ d l : Nat, cd_sm bk W d l ≤ (d + 1) * W.length
  | 0, l => by
    have h := cd_lv_len bk W l
    show (cd_lv bk W l).length ≤ _
    omega
  | d + 1, l => by
    have h := cd_lv_len bk W l
    have h2 := cd_sm_le bk W d (l + 1)
    show (cd_lv bk W l).length + cd_sm bk W d (l + 1) ≤ _
    rw [Nat.succ_mul]
    omega
theorem cd_kt_cm (bk : Nat) (W V : List cd_W) (d l : Nat) : cd_cm (cd_kt bk W (d + 1) l) (cd_kt bk V (d + 1) l) =
    if cd_cm (cd_lv bk W l) (cd_lv bk V l) = 0 then cd_cm (cd_kt bk W d (l + 1)) (cd_kt bk V d (l + 1)) else cd_cm (cd_lv bk W l) (cd_lv bk V l) :=
  cd_cm_join _ _ _ _ (cd_fl_pos _) (cd_fl_pos _)
/-- equal keys have equally many weights on the first level -/
theorem cd_kt_eqlen (bk : Nat) (W V : List cd_W) (d l : Nat) (h : cd_cm (cd_kt bk W d l) (cd_kt bk V d l) = 0) : (cd_lv bk W l).length = (cd_lv bk V l).length := by
  cases d with
  | zero => exact congrArg List.length (cd_cm_eq (cd_lv bk W l) (cd_lv bk V l) h)
  | succ d =>
    rw [cd_kt_cm] at h
    by_cases c : cd_cm (cd_lv bk W l) (cd_lv bk V l) = 0
    · rw [cd_cm_eq _ _ c]
    · rw [if_neg c] at h
      exact absurd h c
/-! numbers of words; entries; the row of elements -/
abbrev cd_E : Type := Nat → Option (Nat × Option Nat)
def cd_wn (f : Nat → Nat) : Nat → Nat → Nat
  | 0, _ => 0
  | n + 1, a => (f a + 1) + 11 * cd_wn f n (a + 1)
theorem cd_wn_s (f : Nat → Nat) (n a : Nat) : cd_wn f (n + 1) a = (f a + 1) + 11 * cd_wn f n (a + 1) := rfl
theorem cd_wn_1 (f : Nat → Nat) (a : Nat) : cd_wn f 1 a = f a + 1 := rfl
theorem cd_wn_2 (f : Nat → Nat) (a : Nat) : cd_wn f 2 a = (f a + 1) + 11 * (f (a + 1) + 1) := rfl
theorem cd_wn_3 (f : Nat → Nat) (a : Nat) : cd_wn f 3 a = (f a + 1) + 11 * ((f (a + 1) + 1) + 11 * (f (a + 2) + 1)) := rfl
theorem cd_wn_inj (f h : Nat → Nat) : ∀ n m a b : Nat, (∀ k, k < n → f (a + k) < 10) → (∀ k, k < m → h (b + k) < 10) → cd_wn f n a = cd_wn h m b →
    n = m ∧ ∀ k, k < n → f (a + k) = h (b + k)
  | 0, 0, a, b, _, _, _ => ⟨rfl, fun k hk => absurd hk (Nat.not_lt_zero k)⟩
  | 0, m + 1, a, b, _, _, e => by
    have e' : 0 = (h b + 1) + 11 * cd_wn h m (b + 1) := e
    omega
  | n + 1, 0, a, b, _, _, e => by
    have e' : (f a + 1) + 11 * cd_wn f n (a + 1) = 0 := e
    omega
  | n + 1, m + 1, a, b, hf, hh, e => by
    rw [cd_wn_s, cd_wn_s] at e
    have h1 := hf 0 (Nat.succ_pos n)
    have h2 := hh 0 (Nat.succ_pos m)
    rw [Nat.add_zero] at h1 h2
    have e1 : f a = h b := by omega
    have e2 : cd_wn f n (a + 1) = cd_wn h m (b + 1) := by omega
    obtain ⟨i1, i2⟩ := cd_wn_inj f h n m (a + 1) (b + 1) (fun k hk => by
      have := hf (k + 1) (by omega)
      rw [show a + (k + 1) = a + 1 + k by omega] at this
      exact this) (fun k hk => by
      have := hh (k + 1) (by omega)
      rw [show b + (k + 1) = b + 1 + k by omega] at this
      exact this) e2
    refine ⟨by omega, fun k hk => ?_⟩
    cases k with
    | zero => exact e1
    | succ k =>
      have := i2 k (by omega)
      rw [show a + (k + 1) = a + 1 + k by omega, show b + (k + 1) = b + 1 + k by omega]
      exact this
theorem cd_wn_ext (f h : Nat → Nat) : ∀ n a b : Nat, (∀ k, k < n → f (a + k) = h (b + k)) → cd_wn f n a = cd_wn h n b
  | 0, a, b, _ => rfl
  | n + 1, a, b, e => by
    rw [cd_wn_s, cd_wn_s, cd_wn_ext f h n (a + 1) (b + 1) (fun k hk => by
      have := e (k + 1) (by omega)
      rw [show a + (k + 1) = a + 1 + k by omega, show b + (k + 1) = b + 1 + k by omega] at this
      exact this)]
    have := e 0 (Nat.succ_pos n)
    rw [Nat.add_zero, Nat.add_zero] at this
    rw [this]
theorem cd_wn_lt (f : Nat → Nat) : ∀ n a : Nat, (∀ k, k < n → f (a + k) < 10) → n ≤ 3 → cd_wn f n a < 1331
  | 0, a, _, _ => by
    show 0 < 1331
    decide
  | 1, a, h, _ => by
    have h0 := h 0 (by omega)
    rw [cd_wn_1]
    rw [Nat.add_zero] at h0
    omega
  | 2, a, h, _ => by
    have h0 := h 0 (by omega)
    have h1 := h 1 (by omega)
    rw [cd_wn_2]
    rw [Nat.add_zero] at h0
    omega
  | 3, a, h, _ => by
    have h0 := h 0 (by omega)
    have h1 := h 1 (by omega)
    have h2 := h 2 (by omega)
    rw [cd_wn_3]
    rw [Nat.add_zero] at h0
    omega
  | n + 4, a, _, h => by omega
def cd_ee : Option (Nat × Option Nat) → List Nat
  | none => []
  | some (a, none) => [a]
  | some (a, some b) => [a, b]
theorem cd_ee_1 (a : Nat) : cd_ee (some (a, none)) = [a] := rfl
theorem cd_ee_2 (a b : Nat) : cd_ee (some (a, some b)) = [a, b] := rfl
def cd_ln (E : cd_E) (lt : Nat → Nat) (a en : Nat) : Nat :=
  if a + 3 ≤ en ∧ (E (cd_wn lt 3 a)).isSome = true then 3 else if a + 2 ≤ en ∧ (E (cd_wn lt 2 a)).isSome = true then 2 else 1
theorem cd_ln_b (E : cd_E) (lt : Nat → Nat) (a en : Nat) : 1 ≤ cd_ln E lt a en ∧ cd_ln E lt a en ≤ 3 := by
  unfold cd_ln
  split
  · omega
  · split <;> omega
theorem cd_ln_e (E : cd_E) (lt : Nat → Nat) {a en : Nat} (h : a < en) : a + cd_ln E lt a en ≤ en := by
  unfold cd_ln
  split
  · omega
  · split <;> omega
def cd_ps (E : cd_E) (lt : Nat → Nat) (en : Nat) : Nat → Nat → List Nat
  | 0, _ => []
  | n + 1, a => if en ≤ a then [] else cd_ee (E (cd_wn lt (cd_ln E lt a en) a)) ++ cd_ps E lt en n (a + cd_ln E lt a en)
theorem cd_ps_s (E : cd_E) (lt : Nat → Nat) (en n a : Nat) : cd_ps E lt en (n + 1) a = if en ≤ a then [] else cd_ee (E (cd_wn lt (cd_ln E lt a en) a)) ++ cd_ps E lt en n (a + cd_ln E lt a en) := rfl
theorem cd_ps_e (E : cd_E) (lt : Nat → Nat) (en : Nat) : ∀ n a, en ≤ a → cd_ps E lt en n a = []
  | 0, _, _ => rfl
  | n + 1, a, h => by rw [cd_ps_s, if_pos h]
theorem cd_ps_f (E : cd_E) (lt : Nat → Nat) (en : Nat) : ∀ n m a, en ≤ a + n → en ≤ a + m → cd_ps E lt en n a = cd_ps E lt en m a
  | 0, m, a, h, _ => by rw [cd_ps_e E lt en m a (by omega)]; rfl
  | n + 1, 0, a, _, h => by rw [cd_ps_e E lt en (n + 1) a (by omega)]; rfl
  | n + 1, m + 1, a, h, h' => by
    have b := (cd_ln_b E lt a en).1
    rw [cd_ps_s, cd_ps_s, cd_ps_f E lt en n m (a + cd_ln E lt a en) (by omega) (by omega)]
/-- the elements of a row of letters -/
def cd_el (E : cd_E) (lt : Nat → Nat) (a en : Nat) : List Nat := cd_ps E lt en (en - a) a
theorem cd_el_0 (E : cd_E) (lt : Nat → Nat) {a en : Nat} (h : en ≤ a) : cd_el E lt a en = [] := cd_ps_e E lt en _ a h
theorem cd_el_s (E : cd_E) (lt : Nat → Nat) {a en : Nat} (h : a < en) : cd_el E lt a en = cd_ee (E (cd_wn lt (cd_ln E lt a en) a)) ++ cd_el E lt (a + cd_ln E lt a en) en := by
  unfold cd_el
  obtain ⟨n, e⟩ : ∃ n, en - a = n + 1 := ⟨en - a - 1, by omega⟩
  have b := (cd_ln_b E lt a en).1
  rw [e, cd_ps_s, if_neg (by omega), cd_ps_f E lt en n (en - (a + cd_ln E lt a en)) (a + cd_ln E lt a en) (by omega) (by omega)]
theorem cd_ee_len (x : Option (Nat × Option Nat)) : (cd_ee x).length ≤ 2 := by
  match x with
  | none => exact Nat.zero_le 2
  | some (a, none) => exact Nat.le_succ 1
  | some (a, some b) => exact Nat.le_refl 2
theorem cd_ps_len (E : cd_E) (lt : Nat → Nat) (en : Nat) : ∀ n a, (cd_ps E lt en n a).length ≤ 2 * n
  | 0, _ => Nat.le_refl 0
  | n + 1, a => by
    rw [cd_ps_s]
    split
    · exact Nat.zero_le _
    · have h1 := cd_ee_len (E (cd_wn lt (cd_ln E lt a en) a))
      have h2 := cd_ps_len E lt en n (a + cd_ln E lt a en)
      rw [List.length_append]
      omega
theorem cd_el_len (E : cd_E) (lt : Nat → Nat) (a en : Nat) : (cd_el E lt a en).length ≤ 2 * (en - a) := cd_ps_len E lt en _ a
def cd_ok (e : Nat) : Prop := e < 1024 ∧ e % 32 ≤ 30
/-- an entry's elements are elements; every letter has an entry; every entry has a word's number -/
def cd_Ok (E : cd_E) : Prop := (∀ w a b, E w = some (a, b) → cd_ok a ∧ ∀ c, b = some c → cd_ok c) ∧ ∀ c, c < 10 → (E (c + 1)).isSome = true
theorem cd_ee_ok {E : cd_E} (h : cd_Ok E) (w x : Nat) (hx : x ∈ cd_ee (E w)) : cd_ok x := by
  match e : E w with
  | none =>
    rw [e] at hx
    exact absurd hx List.not_mem_nil
  | some (a, none) =>
    rw [e, cd_ee_1] at hx
    rw [List.mem_singleton.mp hx]
    exact (h.1 w a none e).1
  | some (a, some b) =>
    rw [e, cd_ee_2] at hx
    rcases List.mem_cons.mp hx with q | q
    · rw [q]
      exact (h.1 w a (some b) e).1
    · rw [List.mem_singleton.mp q]
      exact (h.1 w a (some b) e).2 b rfl
theorem cd_ps_ok {E : cd_E} (h : cd_Ok E) (lt : Nat → Nat) (en : Nat) : ∀ n a x, x ∈ cd_ps E lt en n a → cd_ok x
  | 0, _, x, hx => absurd hx List.not_mem_nil
  | n + 1, a, x, hx => by
    rw [cd_ps_s] at hx
    split at hx
    · exact absurd hx List.not_mem_nil
    · rcases List.mem_append.mp hx with q | q
      · exact cd_ee_ok h _ x q
      · exact cd_ps_ok h lt en n _ x q
theorem cd_el_ok {E : cd_E} (h : cd_Ok E) (lt : Nat → Nat) (a en x : Nat) (hx : x ∈ cd_el E lt a en) : cd_ok x := cd_ps_ok h lt en _ a x hx
/-! weights, shifted -/
def cd_w0 (e : Nat) : cd_W := (e % 32, e / 32 % 8, e / 256, 0)
def cd_sf (top : Nat) : Bool → List Nat → List cd_W
  | _, [] => []
  | b, e :: l => if 1 ≤ e % 32 ∧ e % 32 ≤ top then (0, 0, 0, e % 32) :: cd_sf top true l
    else if e % 32 = 0 ∧ b = true then (0, 0, 0, 0) :: cd_sf top true l
    else (e % 32, e / 32 % 8, e / 256, if e = 0 then 0 else 31) :: cd_sf top false l
theorem cd_sf_s (top : Nat) (b : Bool) (e : Nat) (l : List Nat) : cd_sf top b (e :: l) = if 1 ≤ e % 32 ∧ e % 32 ≤ top then (0, 0, 0, e % 32) :: cd_sf top true l
    else if e % 32 = 0 ∧ b = true then (0, 0, 0, 0) :: cd_sf top true l
    else (e % 32, e / 32 % 8, e / 256, if e = 0 then 0 else 31) :: cd_sf top false l := rfl
theorem cd_sf_len (top : Nat) : ∀ (l : List Nat) (b : Bool), (cd_sf top b l).length = l.length
  | [], _ => rfl
  | e :: l, b => by
    rw [cd_sf_s]
    split
    · rw [List.length_cons, List.length_cons, cd_sf_len top l]
    · split
      · rw [List.length_cons, List.length_cons, cd_sf_len top l]
      · rw [List.length_cons, List.length_cons, cd_sf_len top l]
def cd_ws (sh top : Nat) (l : List Nat) : List cd_W := if sh = 1 then cd_sf top false l else l.map cd_w0
theorem cd_ws_len (sh top : Nat) (l : List Nat) : (cd_ws sh top l).length = l.length := by
  unfold cd_ws
  split
  · exact cd_sf_len top l false
  · exact List.length_map ..
end
section
/-! pure: weights are small; the order of slots -/
def cd_sw (x : cd_W) : Prop := x.1 < 32 ∧ x.2.1 < 32 ∧ x.2.2.1 < 32 ∧ x.2.2.2 < 32
theorem cd_w0_sw {e : Nat} (h : cd_ok e) : cd_sw (cd_w0 e) := by
  obtain ⟨h1, h2⟩ := h
  refine ⟨?_, ?_, ?_, ?_⟩
  · show e % 32 < 32
    omega
  · show e / 32 % 8 < 32
    omega
  · show e / 256 < 32
    omega
  · show 0 < 32
    omega
theorem cd_sf_sw (top : Nat) : ∀ (l : List Nat) (b : Bool), (∀ e, e ∈ l → cd_ok e) → ∀ x, x ∈ cd_sf top b l → cd_sw x
  | [], _, _, x, hx => absurd hx List.not_mem_nil
  | e :: l, b, h, x, hx => by
    have he := h e List.mem_cons_self
    have hl : ∀ e, e ∈ l → cd_ok e := fun e q => h e (List.mem_cons_of_mem _ q)
    have hw := cd_w0_sw he
    have hw' : e % 32 < 32 ∧ e / 32 % 8 < 32 ∧ e / 256 < 32 ∧ 0 < 32 := hw
    rw [cd_sf_s] at hx
    split at hx
    · rcases List.mem_cons.mp hx with q | q
      · subst q
        exact ⟨by show 0 < 32; omega, by show 0 < 32; omega, by show 0 < 32; omega, hw'.1⟩
      · exact cd_sf_sw top l true hl x q
    · split at hx
      · rcases List.mem_cons.mp hx with q | q
        · subst q
          exact ⟨by show 0 < 32; omega, by show 0 < 32; omega, by show 0 < 32; omega, by show 0 < 32; omega⟩
        · exact cd_sf_sw top l true hl x q
      · rcases List.mem_cons.mp hx with q | q
        · subst q
          refine ⟨hw'.1, hw'.2.1, hw'.2.2.1, ?_⟩
          show (if e = 0 then 0 else 31) < 32
          split <;> omega
        · exact cd_sf_sw top l false hl x q
theorem cd_ws_sw (sh top : Nat) (l : List Nat) (h : ∀ e, e ∈ l → cd_ok e) (x : cd_W) (hx : x ∈ cd_ws sh top l) : cd_sw x := by
  unfold cd_ws at hx
  split at hx
  · exact cd_sf_sw top l false h x hx
  · obtain ⟨e, he, q⟩ := List.mem_map.mp hx
    rw [← q]
    exact cd_w0_sw (h e he)
theorem cd_cp_lt {x : cd_W} (h : cd_sw x) (l : Nat) : cd_cp l x < 32 := by
  unfold cd_cp
  split
  · exact h.1
  · split
    · exact h.2.1
    · split
      · exact h.2.2.1
      · exact h.2.2.2
theorem cd_rd_lt {W : List cd_W} (h : ∀ x, x ∈ W → cd_sw x) (bk l y : Nat) (hy : y ∈ cd_rd bk l W) : y < 32 := by
  unfold cd_rd at hy
  split at hy
  · obtain ⟨x, hx, q⟩ := List.mem_map.mp (List.mem_reverse.mp hy)
    rw [← q]
    exact cd_cp_lt (h x hx) l
  · obtain ⟨x, hx, q⟩ := List.mem_map.mp hy
    rw [← q]
    exact cd_cp_lt (h x hx) l
theorem cd_lv_lt {W : List cd_W} (h : ∀ x, x ∈ W → cd_sw x) (bk l y : Nat) (hy : y ∈ cd_lv bk W l) : y < 32 := cd_rd_lt h bk l y (cd_fl_sub _ y hy)
theorem cd_kt_lt {W : List cd_W} (h : ∀ x, x ∈ W → cd_sw x) (bk : Nat) : ∀ (d l y : Nat), y ∈ cd_kt bk W d l → y < 32
  | 0, l, y, hy => cd_lv_lt h bk l y hy
  | d + 1, l, y, hy => by
    have hy' : y ∈ cd_lv bk W l ++ 0 :: cd_kt bk W d (l + 1) := hy
    rcases List.mem_append.mp hy' with q | q
    · exact cd_lv_lt h bk l y q
    · rcases List.mem_cons.mp q with q | q
      · omega
      · exact cd_kt_lt h bk d (l + 1) y q
/-- counting -/
def cd_ct (P : Nat → Bool) : Nat → Nat
  | 0 => 0
  | n + 1 => cd_ct P n + if P n = true then 1 else 0
theorem cd_ct_s (P : Nat → Bool) (n : Nat) : cd_ct P (n + 1) = cd_ct P n + if P n = true then 1 else 0 := rfl
theorem cd_ct_t {P : Nat → Bool} {n : Nat} (h : P n = true) : cd_ct P (n + 1) = cd_ct P n + 1 := by rw [cd_ct_s, if_pos h]
theorem cd_ct_f {P : Nat → Bool} {n : Nat} (h : ¬ P n = true) : cd_ct P (n + 1) = cd_ct P n := by rw [cd_ct_s, if_neg h, Nat.add_zero]
theorem cd_ct_le (P : Nat → Bool) : ∀ n, cd_ct P n ≤ n
  | 0 => Nat.le_refl 0
  | n + 1 => by
    have h := cd_ct_le P n
    rw [cd_ct_s]
    split <;> omega
theorem cd_ct_congr {P Q : Nat → Bool} : ∀ n, (∀ k, k < n → (P k = true ↔ Q k = true)) → cd_ct P n = cd_ct Q n
  | 0, _ => rfl
  | n + 1, h => by
    rw [cd_ct_s, cd_ct_s, cd_ct_congr n (fun k hk => h k (by omega))]
    by_cases c : P n = true
    · rw [if_pos c, if_pos ((h n (by omega)).mp c)]
    · rw [if_neg c, if_neg (fun q => c ((h n (by omega)).mpr q))]
theorem cd_ct_below (r : Nat) : ∀ n, cd_ct (fun k => decide (k < r)) n = if n ≤ r then n else r
  | 0 => by rw [if_pos (Nat.zero_le r)]; rfl
  | n + 1 => by
    rw [cd_ct_s, cd_ct_below r n]
    by_cases c : n < r
    · rw [if_pos (by omega), if_pos (by exact decide_eq_true c), if_pos (by omega)]
    · rw [if_neg (c := decide (n < r) = true) (by rw [decide_eq_true_iff]; exact c), if_neg (c := n + 1 ≤ r) (by omega)]
      split <;> omega
theorem cd_ct_range (P : Nat → Bool) : ∀ n, cd_ct P n = (List.range n).countP P
  | 0 => rfl
  | n + 1 => by
    rw [List.range_succ, List.countP_append, ← cd_ct_range P n, cd_ct_s, List.countP_cons, List.countP_nil, Nat.zero_add]
theorem cd_ct_shift (P : Nat → Bool) : ∀ n, cd_ct P (n + 1) = (if P 0 = true then 1 else 0) + cd_ct (fun k => P (k + 1)) n
  | 0 => by
    rw [cd_ct_s]
    show 0 + _ = _ + 0
    omega
  | n + 1 => by
    rw [cd_ct_s, cd_ct_shift P n, cd_ct_s (fun k => P (k + 1)) n]
    omega
theorem cd_ct_list (P : Nat → Bool) : ∀ L : List Nat, L.countP P = cd_ct (fun k => P (cd_at L k)) L.length
  | [] => rfl
  | a :: L => by
    rw [List.countP_cons, cd_ct_list P L, List.length_cons, cd_ct_shift]
    show cd_ct (fun k => P (cd_at L k)) L.length + _ = (if P a = true then 1 else 0) + cd_ct (fun k => P (cd_at L k)) L.length
    omega
theorem cd_ct_perm (P : Nat → Bool) {L : List Nat} {n : Nat} (h : L.Perm (List.range n)) : cd_ct P n = cd_ct (fun k => P (cd_at L k)) n := by
  have e : L.length = n := by rw [h.length_eq, List.length_range]
  rw [cd_ct_range, ← h.countP_eq P, cd_ct_list, e]
/-- slot i stands before slot j -/
def cd_lb (kf : Nat → List Nat) (i j : Nat) : Bool := decide (cd_cm (kf i) (kf j) = -1 ∨ (cd_cm (kf i) (kf j) = 0 ∧ i < j))
theorem cd_lb_iff (kf : Nat → List Nat) (i j : Nat) : cd_lb kf i j = true ↔ (cd_cm (kf i) (kf j) = -1 ∨ (cd_cm (kf i) (kf j) = 0 ∧ i < j)) := decide_eq_true_iff
theorem cd_lb_irr (kf : Nat → List Nat) (i : Nat) : ¬ cd_lb kf i i = true := by
  rw [cd_lb_iff, cd_cm_self]
  rintro (h | ⟨-, h⟩)
  · exact absurd h (by decide)
  · omega
theorem cd_lb_tr (kf : Nat → List Nat) {i j k : Nat} (h : cd_lb kf i j = true) (h' : cd_lb kf j k = true) : cd_lb kf i k = true := by
  rw [cd_lb_iff] at h h' ⊢
  rcases h with h | ⟨h, q⟩
  · rcases h' with h' | ⟨h', q'⟩
    · exact Or.inl (cd_cm_tr _ _ _ h h')
    · rw [← cd_cm_eq _ _ h']
      exact Or.inl h
  · rw [cd_cm_eq _ _ h]
    rcases h' with h' | ⟨h', q'⟩
    · exact Or.inl h'
    · exact Or.inr ⟨h', by omega⟩
theorem cd_lb_as (kf : Nat → List Nat) {i j : Nat} (h : cd_lb kf i j = true) : ¬ cd_lb kf j i = true := fun h' => cd_lb_irr kf i (cd_lb_tr kf h h')
/-- sorted, every slot below n once -/
def cd_so (kf : Nat → List Nat) (L : List Nat) (n : Nat) : Prop := L.Perm (List.range n) ∧ ∀ k k', k < k' → k' < n → cd_lb kf (cd_at L k) (cd_at L k') = true
theorem cd_so_len {kf : Nat → List Nat} {L : List Nat} {n : Nat} (h : cd_so kf L n) : L.length = n := by rw [h.1.length_eq, List.length_range]
theorem cd_so_lt {kf : Nat → List Nat} {L : List Nat} {n : Nat} (h : cd_so kf L n) {k : Nat} (hk : k < n) : cd_at L k < n :=
  List.mem_range.mp (h.1.mem_iff.mp (cd_at_mem L k (by rw [cd_so_len h]; exact hk)))
theorem cd_so_sur {kf : Nat → List Nat} {L : List Nat} {n : Nat} (h : cd_so kf L n) {i : Nat} (hi : i < n) : ∃ k, k < n ∧ cd_at L k = i := by
  obtain ⟨k, hk, e⟩ := cd_mem_at L i (h.1.mem_iff.mpr (List.mem_range.mpr hi))
  rw [cd_so_len h] at hk
  exact ⟨k, hk, e⟩
/-- insertion at place a -/
def cd_ins (L : List Nat) (a s : Nat) : List Nat := L.take a ++ s :: L.drop a
theorem cd_take_at : ∀ (L : List Nat) (a k : Nat), k < a → cd_at (L.take a) k = cd_at L k
  | [], a, k, _ => by rw [List.take_nil]
  | x :: L, 0, k, h => absurd h (Nat.not_lt_zero k)
  | x :: L, a + 1, 0, _ => by rw [List.take_succ_cons]; rfl
  | x :: L, a + 1, k + 1, h => by
    rw [List.take_succ_cons, cd_at_s, cd_at_s]
    exact cd_take_at L a k (by omega)
theorem cd_drop_k : ∀ (L : List Nat) (a k : Nat), cd_at (L.drop a) k = cd_at L (a + k)
  | [], a, k => by
    rw [List.drop_nil]
    rfl
  | x :: L, 0, k => by rw [List.drop_zero, Nat.zero_add]
  | x :: L, a + 1, k => by
    rw [List.drop_succ_cons, show a + 1 + k = (a + k) + 1 by omega, cd_at_s]
    exact cd_drop_k L a k
theorem cd_ins_lo {L : List Nat} {a s k : Nat} (ha : a ≤ L.length) (h : k < a) : cd_at (cd_ins L a s) k = cd_at L k := by
  unfold cd_ins
  rw [cd_at_l _ _ _ (by rw [List.length_take]; omega)]
  exact cd_take_at L a k h
theorem cd_ins_at {L : List Nat} {a s : Nat} (ha : a ≤ L.length) : cd_at (cd_ins L a s) a = s := by
  have e : (L.take a).length = a := by rw [List.length_take]; omega
  have h := cd_at_r (L.take a) (s :: L.drop a) 0
  rw [e, Nat.add_zero, cd_at_0] at h
  exact h
theorem cd_ins_hi {L : List Nat} {a s k : Nat} (ha : a ≤ L.length) (h : a ≤ k) : cd_at (cd_ins L a s) (k + 1) = cd_at L k := by
  have e : (L.take a).length = a := by rw [List.length_take]; omega
  have q := cd_at_r (L.take a) (s :: L.drop a) (k - a + 1)
  rw [e, cd_at_s, cd_drop_k, show a + (k - a + 1) = k + 1 by omega, show a + (k - a) = k by omega] at q
  exact q
theorem cd_ins_so {kf : Nat → List Nat} {L : List Nat} {n a : Nat} (h : cd_so kf L n) (ha : a ≤ n)
    (h1 : ∀ k, a ≤ k → k < n → cd_cm (kf n) (kf (cd_at L k)) = -1) (h2 : a = 0 ∨ ¬ cd_cm (kf n) (kf (cd_at L (a - 1))) = -1) : cd_so kf (cd_ins L a n) (n + 1) := by
  have el := cd_so_len h
  refine ⟨?_, ?_⟩
  · rw [List.range_succ]
    refine List.Perm.trans (List.perm_middle (l₁ := L.take a) (l₂ := L.drop a) (a := n)) ?_
    rw [List.take_append_drop]
    exact List.Perm.trans (List.Perm.cons n h.1) (List.perm_append_comm (l₁ := [n]) (l₂ := List.range n))
  · have lo : ∀ k, k < a → cd_lb kf (cd_at L k) n = true := by
      intro k hk
      have hb : cd_lb kf (cd_at L (a - 1)) n = true := by
        rcases h2 with q | q
        · omega
        · rw [cd_lb_iff]
          rcases cd_cm_3 (kf n) (kf (cd_at L (a - 1))) with z | z | z
          · exact absurd z q
          · refine Or.inr ⟨?_, cd_so_lt h (by omega)⟩
            rw [cd_cm_eq _ _ z, cd_cm_self]
          · exact Or.inl (cd_cm_sym' _ _ z)
      by_cases e : k = a - 1
      · rw [e]
        exact hb
      · exact cd_lb_tr kf (h.2 k (a - 1) (by omega) (by omega)) hb
    have hi : ∀ k, a ≤ k → k < n → cd_lb kf n (cd_at L k) = true := by
      intro k hk hn
      rw [cd_lb_iff]
      exact Or.inl (h1 k hk hn)
    intro k k' hkk hk'
    rcases Nat.lt_trichotomy k a with c | c | c
    · rw [cd_ins_lo (by omega) c]
      rcases Nat.lt_trichotomy k' a with c' | c' | c'
      · rw [cd_ins_lo (by omega) c']
        exact h.2 k k' hkk (by omega)
      · rw [c', cd_ins_at (by omega)]
        exact lo k c
      · obtain ⟨j, rfl⟩ : ∃ j, k' = j + 1 := ⟨k' - 1, by omega⟩
        rw [cd_ins_hi (by omega) (by omega)]
        exact h.2 k j (by omega) (by omega)
    · obtain ⟨j, rfl⟩ : ∃ j, k' = j + 1 := ⟨k' - 1, by omega⟩
      rw [c, cd_ins_at (by omega), cd_ins_hi (by omega) (by omega)]
      exact hi j (by omega) (by omega)
    · obtain ⟨j, rfl⟩ : ∃ j, k' = j + 1 := ⟨k' - 1, by omega⟩
      obtain ⟨i, rfl⟩ : ∃ i, k = i + 1 := ⟨k - 1, by omega⟩
      rw [cd_ins_hi (by omega) (by omega), cd_ins_hi (by omega) (by omega)]
      exact h.2 i j (by omega) (by omega)
/-- the place of a slot -/
def cd_pl (kf : Nat → List Nat) (i : Nat) : Nat := cd_ct (fun j => cd_lb kf j i) 10
theorem cd_pl_at {kf : Nat → List Nat} {L : List Nat} (h : cd_so kf L 10) {k : Nat} (hk : k < 10) : cd_pl kf (cd_at L k) = k := by
  unfold cd_pl
  rw [cd_ct_perm _ h.1, cd_ct_congr (Q := fun j => decide (j < k)) 10, cd_ct_below, if_neg (by omega)]
  intro j hj
  show cd_lb kf (cd_at L j) (cd_at L k) = true ↔ decide (j < k) = true
  rw [decide_eq_true_iff]
  constructor
  · intro q
    rcases Nat.lt_trichotomy j k with c | c | c
    · exact c
    · rw [c] at q
      exact absurd q (cd_lb_irr kf _)
    · exact absurd q (cd_lb_as kf (h.2 k j c hj))
  · intro q
    exact h.2 j k q hk
theorem cd_pl_u {kf : Nat → List Nat} {L : List Nat} (h : cd_so kf L 10) {k : Nat} (hk : k < 10) {i : Nat} (hi : i < 10) : cd_pl kf i = k ↔ i = cd_at L k := by
  constructor
  · intro q
    obtain ⟨j, hj, e⟩ := cd_so_sur h hi
    rw [← e, cd_pl_at h hj] at q
    rw [← e, q]
  · intro q
    rw [q]
    exact cd_pl_at h hk
/-- how many slots have a lesser key -/
def cd_rk (kf : Nat → List Nat) (s : Nat) : Nat := cd_ct (fun i => decide (cd_cm (kf i) (kf s) = -1)) 10
theorem cd_rk_at {kf : Nat → List Nat} {L : List Nat} (h : cd_so kf L 10) {s r : Nat} (hr : r ≤ 10) (h1 : ∀ k, k < r → cd_cm (kf (cd_at L k)) (kf s) = -1)
    (h2 : r = 10 ∨ ¬ cd_cm (kf (cd_at L r)) (kf s) = -1) : cd_rk kf s = r := by
  unfold cd_rk
  rw [cd_ct_perm _ h.1, cd_ct_congr (Q := fun j => decide (j < r)) 10, cd_ct_below]
  · split <;> omega
  intro j hj
  show decide (cd_cm (kf (cd_at L j)) (kf s) = -1) = true ↔ decide (j < r) = true
  rw [decide_eq_true_iff, decide_eq_true_iff]
  constructor
  · intro q
    rcases Nat.lt_or_ge j r with c | c
    · exact c
    · exfalso
      rcases h2 with z | z
      · omega
      · apply z
        by_cases e : j = r
        · rw [← e]
          exact q
        · have b := h.2 r j (by omega) hj
          rw [cd_lb_iff] at b
          rcases b with b | ⟨b, -⟩
          · exact cd_cm_tr _ _ _ b q
          · rw [cd_cm_eq _ _ b]
            exact q
  · intro q
    exact h1 j q
/-- how many kinds of keys -/
def cd_fr (kf : Nat → List Nat) (i : Nat) : Nat → Bool
  | 0 => true
  | j + 1 => cd_fr kf i j && !decide (cd_cm (kf i) (kf j) = 0)
theorem cd_fr_iff (kf : Nat → List Nat) (i : Nat) : ∀ n, cd_fr kf i n = true ↔ ∀ j, j < n → ¬ cd_cm (kf i) (kf j) = 0
  | 0 => ⟨fun _ j hj => absurd hj (Nat.not_lt_zero j), fun _ => rfl⟩
  | n + 1 => by
    show (cd_fr kf i n && !decide (cd_cm (kf i) (kf n) = 0)) = true ↔ _
    rw [Bool.and_eq_true, cd_fr_iff kf i n, Bool.not_eq_true', decide_eq_false_iff_not]
    constructor
    · rintro ⟨a, b⟩ j hj
      by_cases e : j = n
      · rw [e]
        exact b
      · exact a j (by omega)
    · intro a
      exact ⟨fun j hj => a j (by omega), a n (by omega)⟩
def cd_kn (kf : Nat → List Nat) : Nat := cd_ct (fun i => cd_fr kf i i) 10
theorem cd_kn_at {kf : Nat → List Nat} {L : List Nat} (h : cd_so kf L 10) :
    cd_kn kf = cd_ct (fun k => decide (k = 0 ∨ ¬ cd_cm (kf (cd_at L (k - 1))) (kf (cd_at L k)) = 0)) 10 := by
  unfold cd_kn
  rw [cd_ct_perm _ h.1]
  apply cd_ct_congr
  intro k hk
  show cd_fr kf (cd_at L k) (cd_at L k) = true ↔ decide (k = 0 ∨ ¬ cd_cm (kf (cd_at L (k - 1))) (kf (cd_at L k)) = 0) = true
  rw [cd_fr_iff, decide_eq_true_iff]
  constructor
  · intro q
    by_cases e : k = 0
    · exact Or.inl e
    · refine Or.inr (fun z => ?_)
      have b := h.2 (k - 1) k (by omega) hk
      rw [cd_lb_iff] at b
      rcases b with b | ⟨-, b⟩
      · rw [z] at b
        exact absurd b (by decide)
      · apply q _ b
        rw [cd_cm_eq _ _ z, cd_cm_self]
  · rintro q j hj z
    obtain ⟨i, hi, e⟩ := cd_so_sur h (i := j) (by have := cd_so_lt h hk; omega)
    have ij : i < k := by
      rcases Nat.lt_trichotomy i k with c | c | c
      · exact c
      · rw [c] at e
        omega
      · have b := h.2 k i c hi
        rw [e, cd_lb_iff, z] at b
        rcases b with b | ⟨-, b⟩
        · exact absurd b (by decide)
        · omega
    rcases q with q | q
    · omega
    · apply q
      by_cases c : i = k - 1
      · rw [← c, e, cd_cm_eq _ _ z, cd_cm_self]
      · have b1 := h.2 i (k - 1) (by omega) (by omega)
        have b2 := h.2 (k - 1) k (by omega) hk
        rw [cd_lb_iff] at b1 b2
        rcases b2 with b2 | ⟨b2, -⟩
        · exfalso
          have t : cd_cm (kf (cd_at L i)) (kf (cd_at L k)) = -1 := by
            rcases b1 with b1 | ⟨b1, -⟩
            · exact cd_cm_tr _ _ _ b1 b2
            · rw [cd_cm_eq _ _ b1]
              exact b2
          rw [e, ← cd_cm_eq _ _ z, cd_cm_self] at t
          exact absurd t (by decide)
        · exact b2
end
section
/-! numbers as the print has them -/
theorem cd_m2 (a : Nat) : (2 : Int32) * nI a = nI (2 * a) := pk_mul 2 a
theorem cd_m3 (a : Nat) : (3 : Int32) * nI a = nI (3 * a) := pk_mul 3 a
theorem cd_m4 (a : Nat) : (4 : Int32) * nI a = nI (4 * a) := pk_mul 4 a
theorem cd_m10 (a : Nat) : (10 : Int32) * nI a = nI (10 * a) := pk_mul 10 a
theorem cd_m11 (a : Nat) : (11 : Int32) * nI a = nI (11 * a) := pk_mul 11 a
theorem cd_m12 (a : Nat) : (12 : Int32) * nI a = nI (12 * a) := pk_mul 12 a
theorem cd_m24 (a : Nat) : (24 : Int32) * nI a = nI (24 * a) := pk_mul 24 a
theorem cd_m96 (a : Nat) : (96 : Int32) * nI a = nI (96 * a) := pk_mul 96 a
theorem cd_m110 (a : Nat) : (110 : Int32) * nI a = nI (110 * a) := pk_mul 110 a
theorem cd_p20 (a : Nat) : (20 : Int32) + nI a = nI (20 + a) := nI_add 20 a
theorem cd_p10 (a : Nat) : (10 : Int32) + nI a = nI (10 + a) := nI_add 10 a
theorem cd_p110 (a : Nat) : (110 : Int32) + nI a = nI (110 + a) := nI_add 110 a
theorem cd_a24 (a : Nat) : nI a + 24 = nI (a + 24) := nI_add a 24
theorem cd_a48 (a : Nat) : nI a + 48 = nI (a + 48) := nI_add a 48
theorem cd_a72 (a : Nat) : nI a + 72 = nI (a + 72) := nI_add a 72
theorem cd_a0 (a : Nat) : nI a + 0 = nI a := nI_add a 0
theorem cd_s1 {a : Nat} (h : 1 ≤ a) : nI a - 1 = nI (a - 1) := pk_sub h
theorem cd_d1 {a : Nat} (h : 1 ≤ a) : nI a + (-1) = nI (a - 1) := by
  obtain ⟨m, rfl⟩ : ∃ m, a = m + 1 := ⟨a - 1, by omega⟩
  exact pk_m1 m
/-- the place of a weight -/
theorem cd_ixw {s l k : Nat} (h : 1 ≤ l) : (24 * (((4 * nI s) + nI l) - 1)) + nI k = nI (96 * s + 24 * (l - 1) + k) := by
  rw [cd_m4, nI_add, cd_s1 (by omega), cd_m24, nI_add]
  congr 1
  omega
theorem cd_e1 {e : Nat} (h : e < 1024) : nI e &&& 31 = nI (e % 32) := pk_andN (by omega) 5 (by decide)
theorem cd_e2 {e : Nat} (h : e < 1024) : ((nI e >>> ((5 : Int32) &&& 31)) &&& 7) = nI (e / 32 % 8) := by
  rw [pk_shrN (by omega) ((5 : Int32) &&& 31) 5 (by decide)]
  exact pk_andN (by omega) 3 (by decide)
theorem cd_e3 {e : Nat} (h : e < 1024) : nI e >>> ((8 : Int32) &&& 31) = nI (e / 256) := pk_shrN (by omega) _ 8 (by decide)
theorem cd_y1 {e : Nat} (h : e < 1024) : nI e - nI e / 32 * 32 = nI (e % 32) := pk_rem (d := 32) (by omega) (by omega) (by omega)
theorem cd_y3 {e : Nat} (h : e < 1024) : nI e / 256 = nI (e / 256) := pk_div (d := 256) (by omega) (by omega) (by omega)
theorem cd_y2 {e : Nat} (h : e < 1024) : nI e / 32 - nI e / 32 / 8 * 8 = nI (e / 32 % 8) := by
  have q : nI e / 32 = nI (e / 32) := pk_div (d := 32) (by omega) (by omega) (by omega)
  rw [q]
  exact pk_rem (d := 8) (by omega) (by omega) (by omega)
/-! bits -/
theorem cd_b1 : ∀ k, k < 32 → bt 1 k = decide (k = 0) := by decide +kernel
theorem cd_bt0 (y : Int32) : y &&& 1 = if bt y 0 = true then 1 else 0 := by
  rw [pk_and y (m := 1) 1 (by decide)]
  have e : bt y 0 = decide (y.toBitVec.toNat % 2 = 1) := by
    unfold bt
    rw [BitVec.getLsbD, Nat.testBit_zero]
  rw [e]
  by_cases c : y.toBitVec.toNat % 2 = 1
  · rw [if_pos (decide_eq_true c), show y.toBitVec.toNat % 2 ^ 1 = 1 from c]
    rfl
  · rw [if_neg (by rw [decide_eq_true_iff]; exact c), show y.toBitVec.toNat % 2 ^ 1 = 0 by omega]
    rfl
theorem cd_sh (x : Int32) {i : Nat} (h : i < 32) : bt (x >>> (nI i &&& 31)) 0 = bt x i := by
  rw [b_sshr i h x (by omega), if_pos (by omega), Nat.add_zero]
theorem cd_bit (x : Int32) {i : Nat} (h : i < 32) : ((x >>> (nI i &&& 31)) &&& 1) = 0 ↔ ¬ bt x i = true := by
  rw [cd_bt0, cd_sh x h]
  by_cases c : bt x i = true
  · rw [if_pos c]
    exact ⟨fun q => absurd q (by decide), fun q => absurd c q⟩
  · rw [if_neg c]
    exact ⟨fun _ => c, fun _ => rfl⟩
theorem cd_bit1 (x : Int32) {i : Nat} (h : i < 32) : ((x >>> (nI i &&& 31)) &&& 1) = 1 ↔ bt x i = true := by
  rw [cd_bt0, cd_sh x h]
  by_cases c : bt x i = true
  · rw [if_pos c]
    exact ⟨fun _ => c, fun _ => rfl⟩
  · rw [if_neg c]
    exact ⟨fun q => absurd q (by decide), fun q => absurd q c⟩
theorem cd_b1s {i j : Nat} (hi : i < 32) (hj : j < 32) : bt ((1 : Int32) <<< (nI i &&& 31)) j = decide (i = j) := by
  rw [b_shl i hi 1 hj]
  by_cases c : i = j
  · subst c
    rw [Nat.sub_self, cd_b1 0 (by omega), decide_eq_true (Nat.le_refl i), decide_eq_true (p := i = i) rfl]
    rfl
  · rw [decide_eq_false c]
    by_cases d : i ≤ j
    · rw [cd_b1 (j - i) (by omega), decide_eq_false (p := j - i = 0) (by omega), Bool.and_false]
    · rw [decide_eq_false d, Bool.false_and]
theorem cd_bset (x : Int32) {i j : Nat} (hi : i < 32) (hj : j < 32) : bt (x ||| ((1 : Int32) <<< (nI i &&& 31))) j = (bt x j || decide (i = j)) := by
  rw [b_or, cd_b1s hi hj]
theorem cd_bclr (x : Int32) {i j : Nat} (hi : i < 32) (hj : j < 32) : bt (x &&& (((1 : Int32) <<< (nI i &&& 31)) ^^^ (-1))) j = (bt x j && !decide (i = j)) := by
  rw [b_and, b_xor, cd_b1s hi hj, b_m1 j hj, Bool.xor_true]
/-! rows of weights in four arrays -/
def cd_wa (W : List cd_W) (k : Nat) : cd_W := W.getD k (0, 0, 0, 0)
def cd_Q (f1 f2 f3 f4 : Nat → Int32) (k : Nat) (x : cd_W) : Prop := f1 k = nI x.1 ∧ f2 k = nI x.2.1 ∧ f3 k = nI x.2.2.1 ∧ f4 k = nI x.2.2.2
def cd_R (f1 f2 f3 f4 : Nat → Int32) (W : List cd_W) : Prop := ∀ k, k < W.length → cd_Q f1 f2 f3 f4 k (cd_wa W k)
theorem cd_wa_l : ∀ (A B : List cd_W) (k : Nat), k < A.length → cd_wa (A ++ B) k = cd_wa A k
  | [], _, k, h => absurd h (Nat.not_lt_zero k)
  | _ :: _, _, 0, _ => rfl
  | a :: A, B, k + 1, h => cd_wa_l A B k (Nat.lt_of_succ_lt_succ h)
theorem cd_wa_m : ∀ (A B : List cd_W) (x : cd_W), cd_wa (A ++ x :: B) A.length = x
  | [], _, _ => rfl
  | a :: A, B, x => cd_wa_m A B x
theorem cd_wa_o : ∀ (A B : List cd_W) (x y : cd_W) (k : Nat), ¬ k = A.length → cd_wa (A ++ x :: B) k = cd_wa (A ++ y :: B) k
  | [], _, _, _, 0, h => absurd rfl h
  | [], _, _, _, k + 1, _ => rfl
  | a :: A, B, x, y, 0, _ => rfl
  | a :: A, B, x, y, k + 1, h => cd_wa_o A B x y k (fun q => h (congrArg Nat.succ q))
theorem cd_wa_map (l : Nat) : ∀ (W : List cd_W) (k : Nat), k < W.length → cd_at (W.map (cd_cp l)) k = cd_cp l (cd_wa W k)
  | [], k, h => absurd h (Nat.not_lt_zero k)
  | _ :: _, 0, _ => rfl
  | a :: W, k + 1, h => cd_wa_map l W k (Nat.lt_of_succ_lt_succ h)
theorem cd_R_0 {f1 f2 f3 f4 : Nat → Int32} : cd_R f1 f2 f3 f4 [] := fun k h => absurd h (Nat.not_lt_zero k)
theorem cd_R_app {f1 f2 f3 f4 g1 g2 g3 g4 : Nat → Int32} {W : List cd_W} {x : cd_W} (h : cd_R f1 f2 f3 f4 W)
    (hk : ∀ k, k < W.length → g1 k = f1 k ∧ g2 k = f2 k ∧ g3 k = f3 k ∧ g4 k = f4 k) (hx : cd_Q g1 g2 g3 g4 W.length x) : cd_R g1 g2 g3 g4 (W ++ [x]) := by
  intro k hk'
  rw [List.length_append, List.length_singleton] at hk'
  by_cases c : k = W.length
  · subst c
    rw [cd_wa_m]
    exact hx
  · have hk2 : k < W.length := by omega
    rw [cd_wa_l _ _ _ hk2]
    obtain ⟨e1, e2, e3, e4⟩ := hk k hk2
    obtain ⟨q1, q2, q3, q4⟩ := h k hk2
    exact ⟨e1.trans q1, e2.trans q2, e3.trans q3, e4.trans q4⟩
theorem cd_R_set {f1 f2 f3 f4 g1 g2 g3 g4 : Nat → Int32} {A B : List cd_W} {x y : cd_W} (h : cd_R f1 f2 f3 f4 (A ++ x :: B))
    (hk : ∀ k, k < (A ++ x :: B).length → ¬ k = A.length → g1 k = f1 k ∧ g2 k = f2 k ∧ g3 k = f3 k ∧ g4 k = f4 k) (hy : cd_Q g1 g2 g3 g4 A.length y) : cd_R g1 g2 g3 g4 (A ++ y :: B) := by
  intro k hk'
  by_cases c : k = A.length
  · subst c
    rw [cd_wa_m]
    exact hy
  · have hl : k < (A ++ x :: B).length := by
      rw [List.length_append, List.length_cons] at hk' ⊢
      exact hk'
    rw [cd_wa_o A B y x k c]
    obtain ⟨e1, e2, e3, e4⟩ := hk k hl c
    obtain ⟨q1, q2, q3, q4⟩ := h k hl
    exact ⟨e1.trans q1, e2.trans q2, e3.trans q3, e4.trans q4⟩
/-- a string's weights in the component's array -/
def cd_X4 (w : Nat → Int32) (s : Nat) (W : List cd_W) : Prop := cd_R (fun k => w (96 * s + k)) (fun k => w (96 * s + 24 + k)) (fun k => w (96 * s + 48 + k)) (fun k => w (96 * s + 72 + k)) W
def cd_SL (cnt w : Nat → Int32) (s : Nat) (W : List cd_W) : Prop := cnt s = nI W.length ∧ cd_X4 w s W ∧ W.length ≤ 24 ∧ ∀ x, x ∈ W → cd_sw x
theorem cd_SL_at {cnt w : Nat → Int32} {s : Nat} {W : List cd_W} (h : cd_SL cnt w s W) {l k : Nat} (h1 : 1 ≤ l) (h4 : l ≤ 4) (hk : k < W.length) :
    w (96 * s + 24 * (l - 1) + k) = nI (cd_at (W.map (cd_cp l)) k) := by
  rw [cd_wa_map l W k hk]
  obtain ⟨q1, q2, q3, q4⟩ := h.2.1 k hk
  have c : l = 1 ∨ l = 2 ∨ l = 3 ∨ l = 4 := by omega
  rcases c with c | c | c | c
  · subst c
    exact q1
  · subst c
    exact q2
  · subst c
    exact q3
  · subst c
    exact q4
theorem cd_at_rev (L : List Nat) {k : Nat} (h : k < L.length) : cd_at L.reverse k = cd_at L (L.length - 1 - k) := by
  unfold cd_at
  rw [List.getD_eq_getElem?_getD, List.getD_eq_getElem?_getD, List.getElem?_reverse h]
theorem cd_rd_at (bk l : Nat) (W : List cd_W) {k : Nat} (h : k < W.length) : cd_at (cd_rd bk l W) k = if l = 2 ∧ bk = 1 then cd_at (W.map (cd_cp l)) (W.length - 1 - k) else cd_at (W.map (cd_cp l)) k := by
  unfold cd_rd
  split
  · rw [cd_at_rev _ (by rw [List.length_map]; exact h), List.length_map]
  · rfl
theorem cd_rd_sm {W : List cd_W} (h : ∀ x, x ∈ W → cd_sw x) (bk l : Nat) {k : Nat} (hk : k < W.length) : cd_at (cd_rd bk l W) k < 32 :=
  cd_rd_lt h bk l _ (cd_at_mem _ k (by rw [cd_rd_len]; exact hk))
end
section
/-! the component's reading methods over kept weights -/
section XREAD
variable {f_groups f_backwards f_shifted f_top f_ready f_ordered f_wordLength : Int32} {a_length a_letters a_cells a_groupLength a_groupLetters a_groupsFrom a_count a_weights a_order a_word : Nat → Int32}
theorem cd_xWeightAt {post : Int32 → Prop} {W : List cd_W} {bk s l p : Nat} (hb : f_backwards = nI bk ∧ bk ≤ 1) (hs : s < 11) (hS : cd_SL a_count a_weights s W) (h1 : 1 ≤ l) (h4 : l ≤ 4) (hp : p < W.length)
    (h : post (nI (cd_at (cd_rd bk l W) p))) : wpX_weightAt post (f_groups, f_backwards, f_shifted, f_top, f_ready, f_ordered, f_wordLength, a_length, a_letters, a_cells, a_groupLength, a_groupLetters, a_groupsFrom, a_count, a_weights, a_order, a_word) (nI s) (nI l) (nI p) := by
  have hW := hS.2.2.1
  have kk : ∀ q, q < W.length → cd_at (cd_rd bk l W) p = cd_at (W.map (cd_cp l)) q → wX_weightAt_26 post (nI s) (nI l) (nI q) f_groups f_backwards f_shifted f_top f_ready f_ordered f_wordLength a_length a_letters a_cells a_groupLength a_groupLetters a_groupsFrom a_count a_weights a_order a_word := by
    intro q hq e
    refine And.intro (pk_in (96 * s + 24 * (l - 1) + q) 1056 (by omega) (cd_ixw h1) (by omega)) ?_
    rw [cd_ixw h1, nI_clamp (by omega), cd_SL_at hS h1 h4 hq, ← e]
    exact h
  by_cases c2 : l = 2
  · refine br_t (show nI l = 2 by rw [c2]; rfl) ?_
    by_cases cb : bk = 1
    · refine br_f (show ¬ f_backwards = 0 by rw [hb.1, cb]; decide) (And.intro (vp_in_nI hs (by omega)) ?_)
      have e : ((a_count (nI s).toNatClampNeg) - 1) - nI p = nI (W.length - 1 - p) := by
        rw [nI_clamp (by omega), hS.1, cd_s1 (by omega), pk_sub (by omega)]
      rw [e]
      exact kk _ (by omega) (by rw [cd_rd_at bk l W hp, if_pos ⟨c2, cb⟩])
    · refine br_t (show f_backwards = 0 by rw [hb.1, show bk = 0 by have := hb.2; omega]; rfl) ?_
      exact kk p hp (by rw [cd_rd_at bk l W hp, if_neg (fun q => cb q.2)])
  · refine br_f (show ¬ nI l = 2 from fun q => c2 ((nI_eq (b := 2) (by omega) (by omega)).mp q)) ?_
    exact kk p hp (by rw [cd_rd_at bk l W hp, if_neg (fun q => c2 q.1)])
theorem cd_xNext_3 {W : List cd_W} {bk s l : Nat} (hb : f_backwards = nI bk ∧ bk ≤ 1) (hs : s < 11) (hS : cd_SL a_count a_weights s W) (h1 : 1 ≤ l) (h4 : l ≤ 4) :
    ∀ d p, p + d = W.length → ∃ q, p ≤ q ∧ q ≤ W.length ∧ cd_fl ((cd_rd bk l W).drop p) = cd_fl ((cd_rd bk l W).drop q) ∧ (q < W.length → ¬ cd_at (cd_rd bk l W) q = 0) ∧
      ∀ (post : Int32 → Prop) (n : Nat), d < n → post (nI q) → wX_nextPlace_3 post (nI s) (nI l) f_groups f_backwards f_shifted f_top f_ready f_ordered f_wordLength a_length a_letters a_cells a_groupLength a_groupLetters a_groupsFrom a_count a_weights a_order a_word n (nI p) := by
  have hW := hS.2.2.1
  have ec : a_count (nI s).toNatClampNeg = nI W.length := by rw [nI_clamp (by omega), hS.1]
  intro d
  induction d with
  | zero =>
    intro p hp
    refine ⟨p, Nat.le_refl p, by omega, rfl, fun q => by omega, ?_⟩
    intro post n hn h
    obtain ⟨m, rfl⟩ : ∃ m, n = m + 1 := ⟨n - 1, by omega⟩
    exact And.intro (vp_in_nI hs (by omega)) (br_t (by rw [ec]; exact nI_le (by omega) (by omega)) h)
  | succ d ih =>
    intro p hp
    have hsm := cd_rd_sm hS.2.2.2 bk l (k := p) (by omega)
    by_cases z : cd_at (cd_rd bk l W) p = 0
    · obtain ⟨q, a1, a2, a3, a4, a5⟩ := ih (p + 1) (by omega)
      refine ⟨q, by omega, a2, (cd_fd_0 (by rw [cd_rd_len]; omega) z).trans a3, a4, ?_⟩
      intro post n hn h
      obtain ⟨m, rfl⟩ : ∃ m, n = m + 1 := ⟨n - 1, by omega⟩
      refine And.intro (vp_in_nI hs (by omega)) (br_f (by rw [ec]; exact nI_ge (by omega) (by omega)) ?_)
      refine cd_xWeightAt hb hs hS h1 h4 (by omega) ?_
      exact br_t (by rw [z]; exact nI_0) (nm_r (nI_1 p) (a5 post m (by omega) h))
    · refine ⟨p, Nat.le_refl p, by omega, rfl, fun _ => z, ?_⟩
      intro post n hn h
      obtain ⟨m, rfl⟩ : ∃ m, n = m + 1 := ⟨n - 1, by omega⟩
      refine And.intro (vp_in_nI hs (by omega)) (br_f (by rw [ec]; exact nI_ge (by omega) (by omega)) ?_)
      refine cd_xWeightAt hb hs hS h1 h4 (by omega) ?_
      exact br_f (nI_ne0 (by omega) (by omega)) h
theorem cd_xNext {W : List cd_W} {bk s l p : Nat} (hb : f_backwards = nI bk ∧ bk ≤ 1) (hs : s < 11) (hS : cd_SL a_count a_weights s W) (h1 : 1 ≤ l) (h4 : l ≤ 4) (hp : p ≤ W.length) :
    ∃ q, p ≤ q ∧ q ≤ W.length ∧ cd_fl ((cd_rd bk l W).drop p) = cd_fl ((cd_rd bk l W).drop q) ∧ (q < W.length → ¬ cd_at (cd_rd bk l W) q = 0) ∧
      ∀ (post : Int32 → Prop), post (nI q) → wpX_nextPlace post (f_groups, f_backwards, f_shifted, f_top, f_ready, f_ordered, f_wordLength, a_length, a_letters, a_cells, a_groupLength, a_groupLetters, a_groupsFrom, a_count, a_weights, a_order, a_word) (nI s) (nI l) (nI p) := by
  obtain ⟨q, a1, a2, a3, a4, a5⟩ := cd_xNext_3 (f_groups := f_groups) (f_shifted := f_shifted) (f_top := f_top) (f_ready := f_ready) (f_ordered := f_ordered) (f_wordLength := f_wordLength) (a_length := a_length) (a_letters := a_letters) (a_cells := a_cells) (a_groupLength := a_groupLength) (a_groupLetters := a_groupLetters) (a_groupsFrom := a_groupsFrom) (a_order := a_order) (a_word := a_word) hb hs hS h1 h4 (W.length - p) p (by omega)
  exact ⟨q, a1, a2, a3, a4, fun post h => Exists.intro (W.length - p + 1) (a5 post _ (by omega) h)⟩
theorem cd_xCl_107 {post : Int32 → Prop} {W V : List cd_W} {bk i j l p q : Nat} (hi : i < 11) (hj : j < 11) (hSW : cd_SL a_count a_weights i W) (hSV : cd_SL a_count a_weights j V)
    (hp : p ≤ W.length) (hq : q ≤ V.length) (np : p < W.length → ¬ cd_at (cd_rd bk l W) p = 0) (nq : q < V.length → ¬ cd_at (cd_rd bk l V) q = 0) (hpq : W.length ≤ p ∨ V.length ≤ q)
    (h : post (cd_cm (cd_fl ((cd_rd bk l W).drop p)) (cd_fl ((cd_rd bk l V).drop q)))) : wX_compareLevel_107 post (nI i) (nI j) (nI p) (nI q) f_groups f_backwards f_shifted f_top f_ready f_ordered f_wordLength a_length a_letters a_cells a_groupLength a_groupLetters a_groupsFrom a_count a_weights a_order a_word := by
  have hW := hSW.2.2.1
  have hV := hSV.2.2.1
  have e1 : a_count (nI i).toNatClampNeg = nI W.length := by rw [nI_clamp (by omega), hSW.1]
  have e2 : a_count (nI j).toNatClampNeg = nI V.length := by rw [nI_clamp (by omega), hSV.1]
  refine And.intro (vp_in_nI hi (by omega)) ?_
  by_cases cp : W.length ≤ p
  · rw [cd_drop_end (cd_rd bk l W) (k := p) (by rw [cd_rd_len]; exact cp)] at h
    refine br_t (by rw [e1]; exact nI_le cp (by omega)) (And.intro (vp_in_nI hj (by omega)) ?_)
    by_cases cq : V.length ≤ q
    · rw [cd_drop_end (cd_rd bk l V) (k := q) (by rw [cd_rd_len]; exact cq)] at h
      exact br_t (by rw [e2]; exact nI_le cq (by omega)) h
    · rw [cd_fd_c (l := cd_rd bk l V) (k := q) (by rw [cd_rd_len]; omega) (nq (by omega))] at h
      exact br_f (by rw [e2]; exact nI_ge (by omega) (by omega)) h
  · have cq : V.length ≤ q := by omega
    rw [cd_drop_end (cd_rd bk l V) (k := q) (by rw [cd_rd_len]; exact cq), cd_fd_c (l := cd_rd bk l W) (k := p) (by rw [cd_rd_len]; omega) (np (by omega))] at h
    exact br_f (by rw [e1]; exact nI_ge (by omega) (by omega)) h
theorem cd_xCl_18 {post : Int32 → Prop} {W V : List cd_W} {bk i j l : Nat} (hb : f_backwards = nI bk ∧ bk ≤ 1) (hi : i < 11) (hj : j < 11) (hSW : cd_SL a_count a_weights i W) (hSV : cd_SL a_count a_weights j V) (h1 : 1 ≤ l) (h4 : l ≤ 4) :
    ∀ n p q, p ≤ W.length → q ≤ V.length → (p < W.length → ¬ cd_at (cd_rd bk l W) p = 0) → (q < V.length → ¬ cd_at (cd_rd bk l V) q = 0) → W.length < n + p →
      post (cd_cm (cd_fl ((cd_rd bk l W).drop p)) (cd_fl ((cd_rd bk l V).drop q))) → wX_compareLevel_18 post (nI i) (nI j) (nI l) f_groups f_backwards f_shifted f_top f_ready f_ordered f_wordLength a_length a_letters a_cells a_groupLength a_groupLetters a_groupsFrom a_count a_weights a_order a_word n (nI p) (nI q) := by
  have hW := hSW.2.2.1
  have hV := hSV.2.2.1
  have e1 : a_count (nI i).toNatClampNeg = nI W.length := by rw [nI_clamp (by omega), hSW.1]
  have e2 : a_count (nI j).toNatClampNeg = nI V.length := by rw [nI_clamp (by omega), hSV.1]
  intro n
  induction n with
  | zero => intro p q hp hq np nq hn; omega
  | succ n ih =>
    intro p q hp hq np nq hn h
    refine And.intro (vp_in_nI hi (by omega)) ?_
    by_cases cp : W.length ≤ p
    · exact br_t (by rw [e1]; exact nI_le cp (by omega)) (cd_xCl_107 hi hj hSW hSV hp hq np nq (Or.inl cp) h)
    · refine br_f (by rw [e1]; exact nI_ge (by omega) (by omega)) (And.intro (vp_in_nI hj (by omega)) ?_)
      by_cases cq : V.length ≤ q
      · exact br_t (by rw [e2]; exact nI_le cq (by omega)) (cd_xCl_107 hi hj hSW hSV hp hq np nq (Or.inr cq) h)
      · refine br_f (by rw [e2]; exact nI_ge (by omega) (by omega)) ?_
        have lp := cd_rd_sm hSW.2.2.2 bk l (k := p) (by omega)
        have lq := cd_rd_sm hSV.2.2.2 bk l (k := q) (by omega)
        rw [cd_fd_c (l := cd_rd bk l W) (k := p) (by rw [cd_rd_len]; omega) (np (by omega)), cd_fd_c (l := cd_rd bk l V) (k := q) (by rw [cd_rd_len]; omega) (nq (by omega))] at h
        refine cd_xWeightAt hb hi hSW h1 h4 (by omega) ?_
        refine cd_xWeightAt hb hj hSV h1 h4 (by omega) ?_
        by_cases c : cd_at (cd_rd bk l W) p = cd_at (cd_rd bk l V) q
        · refine br_t (congrArg nI c) ?_
          rw [c, cd_cm_e] at h
          obtain ⟨p', a1, a2, a3, a4, a5⟩ := cd_xNext (f_groups := f_groups) (f_shifted := f_shifted) (f_top := f_top) (f_ready := f_ready) (f_ordered := f_ordered) (f_wordLength := f_wordLength) (a_length := a_length) (a_letters := a_letters) (a_cells := a_cells) (a_groupLength := a_groupLength) (a_groupLetters := a_groupLetters) (a_groupsFrom := a_groupsFrom) (a_order := a_order) (a_word := a_word) (p := p + 1) hb hi hSW h1 h4 (by omega)
          obtain ⟨q', b1, b2, b3, b4, b5⟩ := cd_xNext (f_groups := f_groups) (f_shifted := f_shifted) (f_top := f_top) (f_ready := f_ready) (f_ordered := f_ordered) (f_wordLength := f_wordLength) (a_length := a_length) (a_letters := a_letters) (a_cells := a_cells) (a_groupLength := a_groupLength) (a_groupLetters := a_groupLetters) (a_groupsFrom := a_groupsFrom) (a_order := a_order) (a_word := a_word) (p := q + 1) hb hj hSV h1 h4 (by omega)
          rw [nI_1 p, nI_1 q]
          refine a5 _ (b5 _ ?_)
          rw [a3, b3] at h
          exact ih p' q' a2 b2 a4 b4 (by omega) h
        · refine br_f (fun z => c ((nI_eq (by omega) (by omega)).mp z)) ?_
          by_cases d : cd_at (cd_rd bk l V) q ≤ cd_at (cd_rd bk l W) p
          · rw [cd_cm_g _ _ (by omega)] at h
            exact br_t (nI_le d (by omega)) h
          · rw [cd_cm_l _ _ (by omega)] at h
            exact br_f (nI_ge (by omega) (by omega)) h
theorem cd_xCompareLevel {post : Int32 → Prop} {W V : List cd_W} {bk i j l : Nat} (hb : f_backwards = nI bk ∧ bk ≤ 1) (hi : i < 11) (hj : j < 11) (hSW : cd_SL a_count a_weights i W) (hSV : cd_SL a_count a_weights j V) (h1 : 1 ≤ l) (h4 : l ≤ 4)
    (h : post (cd_cm (cd_lv bk W l) (cd_lv bk V l))) : wpX_compareLevel post (f_groups, f_backwards, f_shifted, f_top, f_ready, f_ordered, f_wordLength, a_length, a_letters, a_cells, a_groupLength, a_groupLetters, a_groupsFrom, a_count, a_weights, a_order, a_word) (nI i) (nI j) (nI l) := by
  obtain ⟨p', a1, a2, a3, a4, a5⟩ := cd_xNext (f_groups := f_groups) (f_shifted := f_shifted) (f_top := f_top) (f_ready := f_ready) (f_ordered := f_ordered) (f_wordLength := f_wordLength) (a_length := a_length) (a_letters := a_letters) (a_cells := a_cells) (a_groupLength := a_groupLength) (a_groupLetters := a_groupLetters) (a_groupsFrom := a_groupsFrom) (a_order := a_order) (a_word := a_word) (p := 0) hb hi hSW h1 h4 (by omega)
  obtain ⟨q', b1, b2, b3, b4, b5⟩ := cd_xNext (f_groups := f_groups) (f_shifted := f_shifted) (f_top := f_top) (f_ready := f_ready) (f_ordered := f_ordered) (f_wordLength := f_wordLength) (a_length := a_length) (a_letters := a_letters) (a_cells := a_cells) (a_groupLength := a_groupLength) (a_groupLetters := a_groupLetters) (a_groupsFrom := a_groupsFrom) (a_order := a_order) (a_word := a_word) (p := 0) hb hj hSV h1 h4 (by omega)
  unfold cd_lv at h
  rw [List.drop_zero] at a3 b3
  rw [a3, b3] at h
  refine a5 _ (b5 _ (Exists.intro (W.length + 1) ?_))
  exact cd_xCl_18 hb hi hj hSW hSV h1 h4 _ p' q' a2 b2 a4 b4 (by omega) h
theorem cd_xCr_3 {post : Int32 → Prop} {W V : List cd_W} {bk i j st : Nat} (hb : f_backwards = nI bk ∧ bk ≤ 1) (hi : i < 11) (hj : j < 11) (hSW : cd_SL a_count a_weights i W) (hSV : cd_SL a_count a_weights j V) (hst : st ≤ 4) :
    ∀ d l n, 1 ≤ l → l + d = st → d + 1 < n → post (cd_cm (cd_kt bk W d l) (cd_kt bk V d l)) → wX_compareReady_3 post (nI i) (nI j) (nI st) f_groups f_backwards f_shifted f_top f_ready f_ordered f_wordLength a_length a_letters a_cells a_groupLength a_groupLetters a_groupsFrom a_count a_weights a_order a_word n (nI l) := by
  intro d
  induction d with
  | zero =>
    intro l n h1 hl hn h
    obtain ⟨m, rfl⟩ : ∃ m, n = m + 2 := ⟨n - 2, by omega⟩
    refine br_f (nI_nlt (by omega) (by omega)) ?_
    refine cd_xCompareLevel hb hi hj hSW hSV h1 (by omega) ?_
    have h' : post (cd_cm (cd_lv bk W l) (cd_lv bk V l)) := h
    by_cases c : cd_cm (cd_lv bk W l) (cd_lv bk V l) = 0
    · rw [c] at h'
      exact br_t c (nm_r (nI_1 l) (br_t (nI_lt (by omega) (by omega)) h'))
    · exact br_f c h'
  | succ d ih =>
    intro l n h1 hl hn h
    obtain ⟨m, rfl⟩ : ∃ m, n = m + 1 := ⟨n - 1, by omega⟩
    refine br_f (nI_nlt (by omega) (by omega)) ?_
    refine cd_xCompareLevel hb hi hj hSW hSV h1 (by omega) ?_
    rw [cd_kt_cm] at h
    by_cases c : cd_cm (cd_lv bk W l) (cd_lv bk V l) = 0
    · rw [if_pos c] at h
      exact br_t c (nm_r (nI_1 l) (ih (l + 1) m (by omega) (by omega) (by omega) h))
    · rw [if_neg c] at h
      exact br_f c h
theorem cd_xCmp {post : Int32 → Prop} {W V : List cd_W} {bk i j st : Nat} (hb : f_backwards = nI bk ∧ bk ≤ 1) (hi : i < 11) (hj : j < 11) (hSW : cd_SL a_count a_weights i W) (hSV : cd_SL a_count a_weights j V) (h1 : 1 ≤ st) (hst : st ≤ 4)
    (h : post (cd_cm (cd_key bk W st) (cd_key bk V st))) : wpX_compareReady post (f_groups, f_backwards, f_shifted, f_top, f_ready, f_ordered, f_wordLength, a_length, a_letters, a_cells, a_groupLength, a_groupLetters, a_groupsFrom, a_count, a_weights, a_order, a_word) (nI i) (nI j) (nI st) :=
  Exists.intro (st + 1) (cd_xCr_3 hb hi hj hSW hSV hst (st - 1) 1 _ (by omega) (by omega) (by omega) h)
theorem cd_xHv_5 {post : Int32 → Prop} {W : List cd_W} {bk s l : Nat} (hb : f_backwards = nI bk ∧ bk ≤ 1) (hs : s < 11) (hS : cd_SL a_count a_weights s W) (h1 : 1 ≤ l) (h4 : l ≤ 4) :
    ∀ d k a n, k + d = W.length → d < n → post (nI (a + (cd_fl ((cd_rd bk l W).drop k)).length)) → wX_heavyOnes_5 post (nI s) (nI l) f_groups f_backwards f_shifted f_top f_ready f_ordered f_wordLength a_length a_letters a_cells a_groupLength a_groupLetters a_groupsFrom a_count a_weights a_order a_word n (nI a) (nI k) := by
  have hW := hS.2.2.1
  have ec : a_count (nI s).toNatClampNeg = nI W.length := by rw [nI_clamp (by omega), hS.1]
  intro d
  induction d with
  | zero =>
    intro k a n hk hn h
    obtain ⟨m, rfl⟩ : ∃ m, n = m + 1 := ⟨n - 1, by omega⟩
    rw [cd_drop_end (cd_rd bk l W) (k := k) (by rw [cd_rd_len]; omega)] at h
    exact And.intro (vp_in_nI hs (by omega)) (br_t (by rw [ec]; exact nI_le (by omega) (by omega)) h)
  | succ d ih =>
    intro k a n hk hn h
    obtain ⟨m, rfl⟩ : ∃ m, n = m + 1 := ⟨n - 1, by omega⟩
    have hsm := cd_rd_sm hS.2.2.2 bk l (k := k) (by omega)
    refine And.intro (vp_in_nI hs (by omega)) (br_f (by rw [ec]; exact nI_ge (by omega) (by omega)) ?_)
    refine cd_xWeightAt hb hs hS h1 h4 (by omega) ?_
    by_cases z : cd_at (cd_rd bk l W) k = 0
    · rw [cd_fd_0 (by rw [cd_rd_len]; omega) z] at h
      exact br_t (by rw [z]; exact nI_0) (nm_r (cd_a0 a) (nm_r (nI_1 k) (ih (k + 1) a m (by omega) (by omega) h)))
    · rw [cd_fd_c (by rw [cd_rd_len]; omega) z, List.length_cons] at h
      refine br_f (nI_ne0 (by omega) (by omega)) (nm_r (nI_1 a) (nm_r (nI_1 k) (ih (k + 1) (a + 1) m (by omega) (by omega) ?_)))
      rw [show a + 1 + (cd_fl ((cd_rd bk l W).drop (k + 1))).length = a + ((cd_fl ((cd_rd bk l W).drop (k + 1))).length + 1) by omega]
      exact h
theorem cd_xHv {post : Int32 → Prop} {W : List cd_W} {bk s l : Nat} (hb : f_backwards = nI bk ∧ bk ≤ 1) (hs : s < 11) (hS : cd_SL a_count a_weights s W) (h1 : 1 ≤ l) (h4 : l ≤ 4)
    (h : post (nI (cd_lv bk W l).length)) : wpX_heavyOnes post (f_groups, f_backwards, f_shifted, f_top, f_ready, f_ordered, f_wordLength, a_length, a_letters, a_cells, a_groupLength, a_groupLetters, a_groupsFrom, a_count, a_weights, a_order, a_word) (nI s) (nI l) := by
  refine Exists.intro (W.length + 1) (cd_xHv_5 hb hs hS h1 h4 W.length 0 0 _ (by omega) (by omega) ?_)
  rw [List.drop_zero, Nat.zero_add]
  exact h
theorem cd_xKs_32 {post : Int32 → SX → Prop} {W : List cd_W} {bk s st : Nat} (hb : f_backwards = nI bk ∧ bk ≤ 1) (hs : s < 11) (hS : cd_SL a_count a_weights s W) (hst : st ≤ 4) :
    ∀ d l a n, 1 ≤ l → l + d = st → d + 1 < n → post (nI (a + cd_sm bk W d l)) (f_groups, f_backwards, f_shifted, f_top, f_ready, f_ordered, f_wordLength, a_length, a_letters, a_cells, a_groupLength, a_groupLetters, a_groupsFrom, a_count, a_weights, a_order, a_word) → wX_keySize_32 post (nI s) (nI st) f_groups f_backwards f_shifted f_top f_ready f_ordered f_wordLength a_length a_letters a_cells a_groupLength a_groupLetters a_groupsFrom a_count a_weights a_order a_word n (nI a) (nI l) := by
  intro d
  induction d with
  | zero =>
    intro l a n h1 hl hn h
    obtain ⟨m, rfl⟩ : ∃ m, n = m + 2 := ⟨n - 2, by omega⟩
    refine br_f (nI_nlt (by omega) (by omega)) ?_
    refine cd_xHv hb hs hS h1 (by omega) ?_
    exact nm_r (nI_add a _) (nm_r (nI_1 l) (br_t (nI_lt (by omega) (by omega)) h))
  | succ d ih =>
    intro l a n h1 hl hn h
    obtain ⟨m, rfl⟩ : ∃ m, n = m + 1 := ⟨n - 1, by omega⟩
    refine br_f (nI_nlt (by omega) (by omega)) ?_
    refine cd_xHv hb hs hS h1 (by omega) ?_
    refine nm_r (nI_add a _) (nm_r (nI_1 l) (ih (l + 1) _ m (by omega) (by omega) (by omega) ?_))
    rw [Nat.add_assoc]
    exact h
theorem cd_xHo_12 {post : Int32 → Prop} {W : List cd_W} {bk s l num : Nat} (hb : f_backwards = nI bk ∧ bk ≤ 1) (hs : s < 11) (hS : cd_SL a_count a_weights s W) (h1 : 1 ≤ l) (h4 : l ≤ 4) (hnum : num < (cd_lv bk W l).length)
    (h : post (nI (cd_at (cd_lv bk W l) num))) :
    ∀ d k p n, k + d = num → d < n → p ≤ W.length → (p < W.length → ¬ cd_at (cd_rd bk l W) p = 0) → cd_fl ((cd_rd bk l W).drop p) = (cd_lv bk W l).drop k → wX_heavyOne_12 post (nI s) (nI l) (nI num) f_groups f_backwards f_shifted f_top f_ready f_ordered f_wordLength a_length a_letters a_cells a_groupLength a_groupLetters a_groupsFrom a_count a_weights a_order a_word n (nI p) (nI k) := by
  have hW := hS.2.2.1
  have hl24 := cd_lv_len bk W l
  have pin : ∀ k p, k ≤ num → p ≤ W.length → cd_fl ((cd_rd bk l W).drop p) = (cd_lv bk W l).drop k → p < W.length := by
    intro k p hk hp e
    rcases Nat.lt_or_ge p W.length with c | c
    · exact c
    · exfalso
      rw [cd_drop_end (cd_rd bk l W) (k := p) (by rw [cd_rd_len]; exact c)] at e
      have e' := congrArg List.length e
      rw [List.length_drop] at e'
      have e'' : (0 : Nat) = (cd_lv bk W l).length - k := e'
      omega
  intro d
  induction d with
  | zero =>
    intro k p n hk hn hp np e
    obtain ⟨m, rfl⟩ : ∃ m, n = m + 1 := ⟨n - 1, by omega⟩
    have hpl := pin k p (by omega) hp e
    refine br_t (nI_le (by omega) (by omega)) ?_
    refine cd_xWeightAt hb hs hS h1 h4 hpl ?_
    rw [cd_fd_c (by rw [cd_rd_len]; omega) (np hpl)] at e
    have q := cd_drop_k (cd_lv bk W l) k 0
    rw [← e, cd_at_0, Nat.add_zero, show k = num by omega] at q
    rw [q]
    exact h
  | succ d ih =>
    intro k p n hk hn hp np e
    obtain ⟨m, rfl⟩ : ∃ m, n = m + 1 := ⟨n - 1, by omega⟩
    have hpl := pin k p (by omega) hp e
    refine br_f (nI_ge (by omega) (by omega)) ?_
    obtain ⟨p', a1, a2, a3, a4, a5⟩ := cd_xNext (f_groups := f_groups) (f_shifted := f_shifted) (f_top := f_top) (f_ready := f_ready) (f_ordered := f_ordered) (f_wordLength := f_wordLength) (a_length := a_length) (a_letters := a_letters) (a_cells := a_cells) (a_groupLength := a_groupLength) (a_groupLetters := a_groupLetters) (a_groupsFrom := a_groupsFrom) (a_order := a_order) (a_word := a_word) (p := p + 1) hb hs hS h1 h4 (by omega)
    rw [nI_1 p]
    refine a5 _ (nm_r (nI_1 k) (ih (k + 1) p' m (by omega) (by omega) a2 a4 ?_))
    rw [cd_fd_c (by rw [cd_rd_len]; omega) (np hpl), cd_drop_at (cd_lv bk W l) k (by omega)] at e
    rw [← a3]
    exact (List.cons.inj e).2
theorem cd_xHo {post : Int32 → Prop} {W : List cd_W} {bk s l num : Nat} (hb : f_backwards = nI bk ∧ bk ≤ 1) (hs : s < 11) (hS : cd_SL a_count a_weights s W) (h1 : 1 ≤ l) (h4 : l ≤ 4) (hnum : num < (cd_lv bk W l).length)
    (h : post (nI (cd_at (cd_lv bk W l) num))) : wpX_heavyOne post (f_groups, f_backwards, f_shifted, f_top, f_ready, f_ordered, f_wordLength, a_length, a_letters, a_cells, a_groupLength, a_groupLetters, a_groupsFrom, a_count, a_weights, a_order, a_word) (nI s) (nI l) (nI num) := by
  obtain ⟨p', a1, a2, a3, a4, a5⟩ := cd_xNext (f_groups := f_groups) (f_shifted := f_shifted) (f_top := f_top) (f_ready := f_ready) (f_ordered := f_ordered) (f_wordLength := f_wordLength) (a_length := a_length) (a_letters := a_letters) (a_cells := a_cells) (a_groupLength := a_groupLength) (a_groupLetters := a_groupLetters) (a_groupsFrom := a_groupsFrom) (a_order := a_order) (a_word := a_word) (p := 0) hb hs hS h1 h4 (by omega)
  refine a5 _ (Exists.intro (num + 1) ?_)
  refine cd_xHo_12 hb hs hS h1 h4 hnum h num 0 p' _ (by omega) (by omega) a2 a4 ?_
  rw [← a3, List.drop_zero, List.drop_zero]
  rfl
theorem cd_xKa_35 {post : Int32 → SX → Prop} {W : List cd_W} {bk s st : Nat} (hb : f_backwards = nI bk ∧ bk ≤ 1) (hs : s < 11) (hS : cd_SL a_count a_weights s W) (hst : st ≤ 4) :
    ∀ d l r n, 1 ≤ l → l + d = st → d < n → r < (cd_kt bk W d l).length → post (nI (cd_at (cd_kt bk W d l) r)) (f_groups, f_backwards, f_shifted, f_top, f_ready, f_ordered, f_wordLength, a_length, a_letters, a_cells, a_groupLength, a_groupLetters, a_groupsFrom, a_count, a_weights, a_order, a_word) → wX_keyAt_35 post (nI s) (nI st) f_groups f_backwards f_shifted f_top f_ready f_ordered f_wordLength a_length a_letters a_cells a_groupLength a_groupLetters a_groupsFrom a_count a_weights a_order a_word n (nI r) (nI l) := by
  have hW := hS.2.2.1
  intro d
  induction d with
  | zero =>
    intro l r n h1 hl hn hr h
    obtain ⟨m, rfl⟩ : ∃ m, n = m + 1 := ⟨n - 1, by omega⟩
    have hl24 := cd_lv_len bk W l
    have hr' : r < (cd_lv bk W l).length := hr
    refine br_f (nI_nlt (by omega) (by omega)) ?_
    refine cd_xHv hb hs hS h1 (by omega) ?_
    exact br_f (nI_ge hr' (by omega)) (cd_xHo hb hs hS h1 (by omega) hr' h)
  | succ d ih =>
    intro l r n h1 hl hn hr h
    obtain ⟨m, rfl⟩ : ∃ m, n = m + 1 := ⟨n - 1, by omega⟩
    have hl24 := cd_lv_len bk W l
    have hm := cd_kt_len bk W d (l + 1)
    have hm2 := cd_sm_le bk W d (l + 1)
    have hm3 : (d + 1) * W.length ≤ 5 * 24 := Nat.mul_le_mul (by omega) hW
    have hr' : r < (cd_lv bk W l ++ 0 :: cd_kt bk W d (l + 1)).length := hr
    have h' : post (nI (cd_at (cd_lv bk W l ++ 0 :: cd_kt bk W d (l + 1)) r)) (f_groups, f_backwards, f_shifted, f_top, f_ready, f_ordered, f_wordLength, a_length, a_letters, a_cells, a_groupLength, a_groupLetters, a_groupsFrom, a_count, a_weights, a_order, a_word) := h
    rw [List.length_append, List.length_cons] at hr'
    refine br_f (nI_nlt (by omega) (by omega)) ?_
    refine cd_xHv hb hs hS h1 (by omega) ?_
    by_cases c : (cd_lv bk W l).length ≤ r
    · refine br_t (nI_le c (by omega)) ?_
      by_cases e : r = (cd_lv bk W l).length
      · have q := cd_at_r (cd_lv bk W l) (0 :: cd_kt bk W d (l + 1)) 0
        rw [Nat.add_zero (cd_lv bk W l).length, ← e, cd_at_0] at q
        rw [q] at h'
        exact br_t (congrArg nI e) h'
      · obtain ⟨t, ht⟩ : ∃ t, r = (cd_lv bk W l).length + (t + 1) := ⟨r - (cd_lv bk W l).length - 1, by omega⟩
        refine br_f (fun z => e ((nI_eq (by omega) (by omega)).mp z)) ?_
        refine nm_r (e' := nI t) ?_ (nm_r (nI_1 l) (ih (l + 1) t m (by omega) (by omega) (by omega) (by omega) ?_))
        · rw [nI_1, pk_sub (by omega)]
          congr 1
          omega
        · rw [ht, cd_at_r, cd_at_s] at h'
          exact h'
    · rw [cd_at_l _ _ _ (by omega)] at h'
      exact br_f (nI_ge (by omega) (by omega)) (cd_xHo hb hs hS h1 (by omega) (by omega) h')
end XREAD
end
section
/-! the component's entries: letters, groups, cells -/
def cd_oI : Option Nat → Int32
  | none => -1
  | some b => nI b
def cd_XG (g : Nat) (gL gT : Nat → Nat) (gl gt gf : Nat → Int32) : Prop :=
  (∀ i, i < g → gl i = nI (gL i) ∧ 2 ≤ gL i ∧ gL i ≤ 3) ∧ (∀ j, j < 18 → gt j = nI (gT j) ∧ gT j < 10) ∧ (∀ c i, c < 10 → i < g → (bt (gf c) i = true ↔ gT (3 * i) = c))
def cd_nm (gL gT : Nat → Nat) (i : Nat) : Nat := cd_wn gT (gL i) (3 * i)
def cd_XC (E : cd_E) (g : Nat) (gL gT : Nat → Nat) (cells : Nat → Int32) : Prop :=
  (∀ i, i < g → ∃ a b, E (cd_nm gL gT i) = some (a, b) ∧ cells (20 + 2 * i) = nI a ∧ cells (20 + 2 * i + 1) = cd_oI b) ∧
  (∀ c, c < 10 → ∃ a b, E (c + 1) = some (a, b) ∧ cells (2 * c) = nI a ∧ cells (2 * c + 1) = cd_oI b) ∧
  (∀ i j, i < g → j < g → cd_nm gL gT i = cd_nm gL gT j → i = j) ∧
  (∀ w, (E w).isSome = true → (∃ c, c < 10 ∧ w = c + 1) ∨ ∃ i, i < g ∧ w = cd_nm gL gT i)
/-- the facts of the pure state -/
def cd_D (ln lt : Nat → Nat) (E : cd_E) (g bk sh top : Nat) : Prop :=
  (∀ s, s < 10 → ln s ≤ 12) ∧ (∀ j, j < 120 → lt j < 10) ∧ cd_Ok E ∧ g ≤ 6 ∧ bk ≤ 1 ∧ sh ≤ 1 ∧ top ≤ 30
/-- the component's fields that questions leave alone -/
def cd_XS (ln lt : Nat → Nat) (E : cd_E) (g bk sh top : Nat) (gL gT : Nat → Nat) (f_groups f_backwards f_shifted f_top : Int32) (a_length a_letters a_cells a_groupLength a_groupLetters a_groupsFrom : Nat → Int32) : Prop :=
  f_groups = nI g ∧ f_backwards = nI bk ∧ f_shifted = nI sh ∧ f_top = nI top ∧ (∀ s, s < 10 → a_length s = nI (ln s)) ∧ (∀ j, j < 120 → a_letters j = nI (lt j)) ∧
  cd_XG g gL gT a_groupLength a_groupLetters a_groupsFrom ∧ cd_XC E g gL gT a_cells
/-- group j stands at a place -/
def cd_St (gL gT lt : Nat → Nat) (a en j : Nat) : Prop := a + gL j ≤ en ∧ ∀ k, k < gL j → gT (3 * j + k) = lt (a + k)
theorem cd_St_nm {gL gT lt : Nat → Nat} {a en j : Nat} (h : cd_St gL gT lt a en j) : cd_nm gL gT j = cd_wn lt (gL j) a := cd_wn_ext _ _ _ _ _ h.2
theorem cd_St_of {E : cd_E} {g : Nat} {gL gT lt : Nat → Nat} {gl gt gf cells : Nat → Int32} {a en n : Nat} (hg : g ≤ 6) (hG : cd_XG g gL gT gl gt gf) (hC : cd_XC E g gL gT cells)
    (hlt : ∀ j, j < 120 → lt j < 10) (he : en ≤ 120) (hn : 2 ≤ n) (ha : a + n ≤ en) (hE : (E (cd_wn lt n a)).isSome = true) : ∃ j, j < g ∧ cd_St gL gT lt a en j ∧ gL j = n := by
  have hl : ∀ k, k < n → lt (a + k) < 10 := fun k hk => hlt _ (by omega)
  rcases hC.2.2.2 _ hE with ⟨c, hc, e⟩ | ⟨i, hi, e⟩
  · exfalso
    have q := cd_wn_inj lt (fun _ => c) n 1 a 0 hl (fun k _ => hc) e
    omega
  · obtain ⟨-, l2, l3⟩ := hG.1 i hi
    obtain ⟨q1, q2⟩ := cd_wn_inj lt gT n (gL i) a (3 * i) hl (fun k hk => (hG.2.1 _ (by omega)).2) e
    exact ⟨i, hi, ⟨by omega, fun k hk => (q2 k (by omega)).symm⟩, q1.symm⟩
theorem cd_St_none {E : cd_E} {g : Nat} {gL gT lt : Nat → Nat} {gl gt gf cells : Nat → Int32} {a en : Nat} (hg : g ≤ 6) (hG : cd_XG g gL gT gl gt gf) (hC : cd_XC E g gL gT cells)
    (hlt : ∀ j, j < 120 → lt j < 10) (he : en ≤ 120) (h : ∀ j, j < g → ¬ cd_St gL gT lt a en j) : cd_ln E lt a en = 1 := by
  unfold cd_ln
  rw [if_neg, if_neg]
  · rintro ⟨h1, h2⟩
    obtain ⟨j, hj, hs, -⟩ := cd_St_of hg hG hC hlt he (n := 2) (by omega) h1 h2
    exact h j hj hs
  · rintro ⟨h1, h2⟩
    obtain ⟨j, hj, hs, -⟩ := cd_St_of hg hG hC hlt he (n := 3) (by omega) h1 h2
    exact h j hj hs
theorem cd_St_some {E : cd_E} {g : Nat} {gL gT lt : Nat → Nat} {gl gt gf cells : Nat → Int32} {a en i : Nat} (hg : g ≤ 6) (hG : cd_XG g gL gT gl gt gf) (hC : cd_XC E g gL gT cells)
    (hlt : ∀ j, j < 120 → lt j < 10) (he : en ≤ 120) (hi : i < g) (hs : cd_St gL gT lt a en i) (h : ∀ j, j < g → cd_St gL gT lt a en j → gL j ≤ gL i) : cd_ln E lt a en = gL i := by
  obtain ⟨-, l2, l3⟩ := hG.1 i hi
  obtain ⟨x, y, hE, -, -⟩ := hC.1 i hi
  rw [cd_St_nm hs] at hE
  have hE' : (E (cd_wn lt (gL i) a)).isSome = true := by rw [hE]; rfl
  have ha := hs.1
  unfold cd_ln
  have c : gL i = 2 ∨ gL i = 3 := by omega
  rcases c with c | c
  · rw [if_neg, if_pos, c]
    · rw [c] at hE' ha
      exact ⟨ha, hE'⟩
    · rintro ⟨h1, h2⟩
      obtain ⟨j, hj, hs', e⟩ := cd_St_of hg hG hC hlt he (n := 3) (by omega) h1 h2
      have := h j hj hs'
      omega
  · rw [if_pos, c]
    rw [c] at hE' ha
    exact ⟨ha, hE'⟩
section XGROUP
variable {f_groups f_backwards f_shifted f_top f_ready f_ordered f_wordLength : Int32} {a_length a_letters a_cells a_groupLength a_groupLetters a_groupsFrom a_count a_weights a_order a_word : Nat → Int32}
theorem cd_xStands_2 {post : Int32 → Prop} {g : Nat} {gL gT lt : Nat → Nat} {a j : Nat} (hg : g ≤ 6) (hG : cd_XG g gL gT a_groupLength a_groupLetters a_groupsFrom) (hL : ∀ j, j < 120 → a_letters j = nI (lt j)) (hlt : ∀ j, j < 120 → lt j < 10)
    (hj : j < g) (ha : a + gL j ≤ 120) :
    ∀ d k n, k + d = gL j → d < n → ((∀ k', k ≤ k' → k' < gL j → gT (3 * j + k') = lt (a + k')) → post 1) → ((¬ ∀ k', k ≤ k' → k' < gL j → gT (3 * j + k') = lt (a + k')) → post 0) →
      wX_stands_2 post (nI j) (nI a) f_groups f_backwards f_shifted f_top f_ready f_ordered f_wordLength a_length a_letters a_cells a_groupLength a_groupLetters a_groupsFrom a_count a_weights a_order a_word n (nI k) := by
  obtain ⟨e1, l2, l3⟩ := hG.1 j hj
  have ec : a_groupLength (nI j).toNatClampNeg = nI (gL j) := by rw [nI_clamp (by omega), e1]
  intro d
  induction d with
  | zero =>
    intro k n hk hn h1 _
    obtain ⟨m, rfl⟩ : ∃ m, n = m + 1 := ⟨n - 1, by omega⟩
    exact And.intro (vp_in_nI (by omega) (by omega)) (br_t (by rw [ec]; exact nI_le (by omega) (by omega)) (h1 (fun k' a b => by omega)))
  | succ d ih =>
    intro k n hk hn h1 h0
    obtain ⟨m, rfl⟩ : ∃ m, n = m + 1 := ⟨n - 1, by omega⟩
    obtain ⟨et, lt1⟩ := hG.2.1 (3 * j + k) (by omega)
    have el := hL (a + k) (by omega)
    have ll := hlt (a + k) (by omega)
    refine And.intro (vp_in_nI (by omega) (by omega)) (br_f (by rw [ec]; exact nI_ge (by omega) (by omega)) ?_)
    rw [cd_m3, nI_add, nI_add, nI_clamp (by omega), nI_clamp (by omega), et, el]
    refine And.intro (vp_in_nI (by omega) (by omega)) (And.intro (vp_in_nI (by omega) (by omega)) ?_)
    by_cases c : gT (3 * j + k) = lt (a + k)
    · refine br_t (congrArg nI c) (nm_r (nI_1 k) (ih (k + 1) m (by omega) (by omega) (fun q => h1 (fun k' u v => ?_)) (fun q => h0 (fun z => q (fun k' u v => z k' (by omega) v)))))
      by_cases e : k' = k
      · rw [e]
        exact c
      · exact q k' (by omega) v
    · exact br_f (fun z => c ((nI_eq (by omega) (by omega)).mp z)) (h0 (fun z => c (z k (by omega) (by omega))))
theorem cd_xStands {post : Int32 → Prop} {g : Nat} {gL gT lt : Nat → Nat} {a j : Nat} (hg : g ≤ 6) (hG : cd_XG g gL gT a_groupLength a_groupLetters a_groupsFrom) (hL : ∀ j, j < 120 → a_letters j = nI (lt j)) (hlt : ∀ j, j < 120 → lt j < 10)
    (hj : j < g) (ha : a + gL j ≤ 120) (h1 : (∀ k', 1 ≤ k' → k' < gL j → gT (3 * j + k') = lt (a + k')) → post 1) (h0 : (¬ ∀ k', 1 ≤ k' → k' < gL j → gT (3 * j + k') = lt (a + k')) → post 0) :
    wpX_stands post (f_groups, f_backwards, f_shifted, f_top, f_ready, f_ordered, f_wordLength, a_length, a_letters, a_cells, a_groupLength, a_groupLetters, a_groupsFrom, a_count, a_weights, a_order, a_word) (nI j) (nI a) := by
  obtain ⟨-, l2, l3⟩ := hG.1 j hj
  exact Exists.intro (gL j) (cd_xStands_2 hg hG hL hlt hj ha (gL j - 1) 1 _ (by omega) (by omega) h1 h0)
/-- what groupAt knows ahead of group i -/
def cd_gi (gL gT lt : Nat → Nat) (a en i : Nat) (x : Int32) (m : Nat) : Prop :=
  (x = -1 ∧ m = 1 ∧ ∀ j, j < i → ¬ cd_St gL gT lt a en j) ∨ (∃ i0, i0 < i ∧ x = nI i0 ∧ m = gL i0 ∧ cd_St gL gT lt a en i0 ∧ ∀ j, j < i → cd_St gL gT lt a en j → gL j ≤ m)
theorem cd_gi_skip {gL gT lt : Nat → Nat} {a en i : Nat} {x : Int32} {m : Nat} (h : cd_gi gL gT lt a en i x m) (h2 : 2 ≤ gL i) (hs : cd_St gL gT lt a en i → gL i ≤ m) : cd_gi gL gT lt a en (i + 1) x m := by
  rcases h with ⟨e1, e2, e3⟩ | ⟨i0, h0, e1, e2, e3, e4⟩
  · refine Or.inl ⟨e1, e2, fun j hj => ?_⟩
    by_cases c : j = i
    · rw [c]
      intro q
      have := hs q
      omega
    · exact e3 j (by omega)
  · refine Or.inr ⟨i0, by omega, e1, e2, e3, fun j hj q => ?_⟩
    by_cases c : j = i
    · rw [c] at q ⊢
      exact hs q
    · exact e4 j (by omega) q
theorem cd_gi_take {gL gT lt : Nat → Nat} {a en i : Nat} {x : Int32} {m : Nat} (h : cd_gi gL gT lt a en i x m) (hm : m < gL i) (hs : cd_St gL gT lt a en i) : cd_gi gL gT lt a en (i + 1) (nI i) (gL i) := by
  refine Or.inr ⟨i, by omega, rfl, rfl, hs, fun j hj q => ?_⟩
  by_cases c : j = i
  · rw [c]
    exact Nat.le_refl _
  · rcases h with ⟨-, -, e3⟩ | ⟨i0, -, -, -, -, e4⟩
    · exact absurd q (e3 j (by omega))
    · have := e4 j (by omega) q
      omega
theorem cd_xGroupAt_21 {post : Int32 → Prop} {g : Nat} {gL gT lt : Nat → Nat} {a en : Nat} {x5 : Int32} (hg : g ≤ 6) (hfg : f_groups = nI g) (hG : cd_XG g gL gT a_groupLength a_groupLetters a_groupsFrom) (hL : ∀ j, j < 120 → a_letters j = nI (lt j)) (hlt : ∀ j, j < 120 → lt j < 10)
    (ha : a < en) (he : en ≤ 120) (h5 : ∀ i, i < g → (bt x5 i = true ↔ gT (3 * i) = lt a)) (h : ∀ x m, cd_gi gL gT lt a en g x m → post x) :
    ∀ d i x m n, i + d = g → d < n → m ≤ 3 → cd_gi gL gT lt a en i x m → wX_groupAt_21 post (nI a) (nI en) x5 f_groups f_backwards f_shifted f_top f_ready f_ordered f_wordLength a_length a_letters a_cells a_groupLength a_groupLetters a_groupsFrom a_count a_weights a_order a_word n x (nI m) (nI i) := by
  intro d
  induction d with
  | zero =>
    intro i x m n hi hn hm hI
    obtain ⟨n, rfl⟩ : ∃ k, n = k + 1 := ⟨n - 1, by omega⟩
    have e : i = g := by omega
    subst e
    exact br_t (by rw [hfg]; exact nI_le (Nat.le_refl _) (by omega)) (h x m hI)
  | succ d ih =>
    intro i x m n hi hn hm hI
    obtain ⟨n, rfl⟩ : ∃ k, n = k + 1 := ⟨n - 1, by omega⟩
    have hig : i < g := by omega
    obtain ⟨e1, l2, l3⟩ := hG.1 i hig
    have ec : a_groupLength (nI i).toNatClampNeg = nI (gL i) := by rw [nI_clamp (by omega), e1]
    have skip : (cd_St gL gT lt a en i → gL i ≤ m) → wX_groupAt_70 post (wX_groupAt_21 post (nI a) (nI en) x5 f_groups f_backwards f_shifted f_top f_ready f_ordered f_wordLength a_length a_letters a_cells a_groupLength a_groupLetters a_groupsFrom a_count a_weights a_order a_word n) (nI a) (nI en) x (nI m) x5 (nI i) f_groups f_backwards f_shifted f_top f_ready f_ordered f_wordLength a_length a_letters a_cells a_groupLength a_groupLetters a_groupsFrom a_count a_weights a_order a_word := by
      intro q
      unfold wX_groupAt_70 wX_groupAt_71
      exact br_t rfl (nm_r (nI_1 i) (ih (i + 1) x m n (by omega) (by omega) hm (cd_gi_skip hI l2 q)))
    refine br_f (by rw [hfg]; exact nI_ge hig (by omega)) ?_
    by_cases cb : bt x5 i = true
    · refine br_t ((cd_bit1 x5 (by omega)).mpr cb) (And.intro (vp_in_nI (by omega) (by omega)) ?_)
      by_cases cm : gL i ≤ m
      · exact br_t (by rw [ec]; exact nI_le cm (by omega)) (skip (fun _ => cm))
      · refine br_f (by rw [ec]; exact nI_ge (by omega) (by omega)) (And.intro (vp_in_nI (by omega) (by omega)) ?_)
        by_cases ce : en < a + gL i
        · exact br_t (by rw [ec, nI_add]; exact nI_lt ce (by omega)) (skip (fun q => by have := q.1; omega))
        · refine br_f (by rw [ec, nI_add]; exact nI_nlt (by omega) (by omega)) ?_
          unfold wX_groupAt_71
          refine br_f (by decide) ?_
          have h0 := (h5 i hig).mp cb
          refine cd_xStands hg hG hL hlt hig (by omega) (fun q => ?_) (fun q => ?_)
          · refine br_f (by decide) (And.intro (vp_in_nI (by omega) (by omega)) (nm_r ec (nm_r (nI_1 i) (ih (i + 1) _ _ n (by omega) (by omega) l3 (cd_gi_take hI (by omega) ⟨by omega, fun k hk => ?_⟩)))))
            by_cases c : k = 0
            · rw [c]
              exact h0
            · exact q k (by omega) hk
          · exact br_t rfl (nm_r (nI_1 i) (ih (i + 1) x m n (by omega) (by omega) hm (cd_gi_skip hI l2 (fun z => absurd (fun k' _ hk => z.2 k' hk) q))))
    · exact br_f (fun z => cb ((cd_bit1 x5 (by omega)).mp z)) (skip (fun q => absurd ((h5 i hig).mpr (by have := q.2 0 (by omega); exact this)) cb))
theorem cd_xGroupAt {post : Int32 → Prop} {E : cd_E} {g : Nat} {gL gT lt : Nat → Nat} {a en : Nat} (hg : g ≤ 6) (hfg : f_groups = nI g) (hG : cd_XG g gL gT a_groupLength a_groupLetters a_groupsFrom) (hC : cd_XC E g gL gT a_cells) (hL : ∀ j, j < 120 → a_letters j = nI (lt j)) (hlt : ∀ j, j < 120 → lt j < 10)
    (ha : a < en) (he : en ≤ 120) (h0 : cd_ln E lt a en = 1 → post (-1)) (h1 : ∀ j, j < g → cd_ln E lt a en = gL j → cd_nm gL gT j = cd_wn lt (gL j) a → post (nI j)) :
    wpX_groupAt post (f_groups, f_backwards, f_shifted, f_top, f_ready, f_ordered, f_wordLength, a_length, a_letters, a_cells, a_groupLength, a_groupLetters, a_groupsFrom, a_count, a_weights, a_order, a_word) (nI a) (nI en) := by
  have el := hL a (by omega)
  have ll := hlt a (by omega)
  have ec : a_letters (nI a).toNatClampNeg = nI (lt a) := by rw [nI_clamp (by omega), el]
  refine And.intro (vp_in_nI (by omega) (by omega)) (And.intro (by rw [ec]; exact vp_in_nI ll (by omega)) (nm_r (e' := a_groupsFrom (lt a)) (by rw [ec, nI_clamp (by omega)]) (Exists.intro (g + 1) ?_)))
  refine cd_xGroupAt_21 hg hfg hG hL hlt ha he (fun i hi => hG.2.2 (lt a) i ll hi) (fun x m hI => ?_) g 0 (-1) 1 _ (by omega) (by omega) (by omega) (Or.inl ⟨rfl, rfl, fun j hj => by omega⟩)
  rcases hI with ⟨e1, e2, e3⟩ | ⟨i0, hi, e1, e2, e3, e4⟩
  · rw [e1]
    exact h0 (cd_St_none hg hG hC hlt he e3)
  · rw [e1]
    exact h1 i0 hi (cd_St_some hg hG hC hlt he hi e3 (fun j hj q => by rw [← e2]; exact e4 j hj q)) (cd_St_nm e3)
end XGROUP
end
section
/-! the component works out a string's weights -/
def cd_out (s : Nat) (w w' : Nat → Int32) : Prop := ∀ j, (j < 96 * s ∨ 96 * s + 96 ≤ j) → w' j = w j
theorem cd_out_r (s : Nat) (w : Nat → Int32) : cd_out s w w := fun _ _ => rfl
theorem cd_out_t {s : Nat} {w w' w'' : Nat → Int32} (h : cd_out s w w') (h' : cd_out s w' w'') : cd_out s w w'' := fun j hj => (h' j hj).trans (h j hj)
/-- four stores -/
def cd_u4 (w : Nat → Int32) (b : Nat) (p q r t : Int32) : Nat → Int32 := upd (upd (upd (upd w b p) (b + 24) q) (b + 48) r) (b + 72) t
theorem cd_u4_0 {w : Nat → Int32} {b : Nat} {p q r t : Int32} : cd_u4 w b p q r t b = p := by
  unfold cd_u4
  rw [pk_un (by omega), pk_un (by omega), pk_un (by omega), pk_us]
theorem cd_u4_1 {w : Nat → Int32} {b : Nat} {p q r t : Int32} : cd_u4 w b p q r t (b + 24) = q := by
  unfold cd_u4
  rw [pk_un (by omega), pk_un (by omega), pk_us]
theorem cd_u4_2 {w : Nat → Int32} {b : Nat} {p q r t : Int32} : cd_u4 w b p q r t (b + 48) = r := by
  unfold cd_u4
  rw [pk_un (by omega), pk_us]
theorem cd_u4_3 {w : Nat → Int32} {b : Nat} {p q r t : Int32} : cd_u4 w b p q r t (b + 72) = t := by
  unfold cd_u4
  rw [pk_us]
theorem cd_u4_n {w : Nat → Int32} {b : Nat} {p q r t : Int32} {j : Nat} (h0 : j ≠ b) (h1 : j ≠ b + 24) (h2 : j ≠ b + 48) (h3 : j ≠ b + 72) : cd_u4 w b p q r t j = w j := by
  unfold cd_u4
  rw [pk_un h3, pk_un h2, pk_un h1, pk_un h0]
theorem cd_u4_out {s m : Nat} {w : Nat → Int32} {p q r t : Int32} (hm : m < 24) : cd_out s w (cd_u4 w (96 * s + m) p q r t) := fun j hj => cd_u4_n (by omega) (by omega) (by omega) (by omega)
theorem cd_u4_Q {s m : Nat} {w : Nat → Int32} {x : cd_W} : cd_Q (fun k => cd_u4 w (96 * s + m) (nI x.1) (nI x.2.1) (nI x.2.2.1) (nI x.2.2.2) (96 * s + k)) (fun k => cd_u4 w (96 * s + m) (nI x.1) (nI x.2.1) (nI x.2.2.1) (nI x.2.2.2) (96 * s + 24 + k))
    (fun k => cd_u4 w (96 * s + m) (nI x.1) (nI x.2.1) (nI x.2.2.1) (nI x.2.2.2) (96 * s + 48 + k)) (fun k => cd_u4 w (96 * s + m) (nI x.1) (nI x.2.1) (nI x.2.2.1) (nI x.2.2.2) (96 * s + 72 + k)) m x := by
  refine ⟨cd_u4_0, ?_, ?_, ?_⟩
  · show cd_u4 w (96 * s + m) (nI x.1) (nI x.2.1) (nI x.2.2.1) (nI x.2.2.2) (96 * s + 24 + m) = _
    rw [show 96 * s + 24 + m = 96 * s + m + 24 by omega]
    exact cd_u4_1
  · show cd_u4 w (96 * s + m) (nI x.1) (nI x.2.1) (nI x.2.2.1) (nI x.2.2.2) (96 * s + 48 + m) = _
    rw [show 96 * s + 48 + m = 96 * s + m + 48 by omega]
    exact cd_u4_2
  · show cd_u4 w (96 * s + m) (nI x.1) (nI x.2.1) (nI x.2.2.1) (nI x.2.2.2) (96 * s + 72 + m) = _
    rw [show 96 * s + 72 + m = 96 * s + m + 72 by omega]
    exact cd_u4_3
theorem cd_u4_o {s m k : Nat} {w : Nat → Int32} {p q r t : Int32} (hm : m < 24) (hk : k < 24) (h : ¬ k = m) :
    cd_u4 w (96 * s + m) p q r t (96 * s + k) = w (96 * s + k) ∧ cd_u4 w (96 * s + m) p q r t (96 * s + 24 + k) = w (96 * s + 24 + k) ∧
    cd_u4 w (96 * s + m) p q r t (96 * s + 48 + k) = w (96 * s + 48 + k) ∧ cd_u4 w (96 * s + m) p q r t (96 * s + 72 + k) = w (96 * s + 72 + k) :=
  ⟨cd_u4_n (by omega) (by omega) (by omega) (by omega), cd_u4_n (by omega) (by omega) (by omega) (by omega), cd_u4_n (by omega) (by omega) (by omega) (by omega), cd_u4_n (by omega) (by omega) (by omega) (by omega)⟩
theorem cd_u4_app {s : Nat} {w : Nat → Int32} {W : List cd_W} {x : cd_W} (hm : W.length < 24) (h : cd_X4 w s W) : cd_X4 (cd_u4 w (96 * s + W.length) (nI x.1) (nI x.2.1) (nI x.2.2.1) (nI x.2.2.2)) s (W ++ [x]) :=
  cd_R_app h (fun k hk => cd_u4_o hm (by omega) (by omega)) cd_u4_Q
theorem cd_u4_set {s : Nat} {w : Nat → Int32} {A B : List cd_W} {x y : cd_W} (hm : (A ++ x :: B).length ≤ 24) (h : cd_X4 w s (A ++ x :: B)) : cd_X4 (cd_u4 w (96 * s + A.length) (nI y.1) (nI y.2.1) (nI y.2.2.1) (nI y.2.2.2)) s (A ++ y :: B) := by
  have hm' := hm
  rw [List.length_append, List.length_cons] at hm'
  exact cd_R_set h (fun k hk hn => cd_u4_o (by omega) (by omega) hn) cd_u4_Q
/-- one store into the fourth -/
theorem cd_u1_set {s : Nat} {w : Nat → Int32} {A B : List cd_W} {p q r t t' : Nat} (hm : (A ++ (p, q, r, t) :: B).length ≤ 24) (h : cd_X4 w s (A ++ (p, q, r, t) :: B)) : cd_X4 (upd w (96 * s + A.length + 72) (nI t')) s (A ++ (p, q, r, t') :: B) := by
  have hm' := hm
  rw [List.length_append, List.length_cons] at hm'
  have hq := h A.length (by rw [List.length_append, List.length_cons]; omega)
  rw [cd_wa_m] at hq
  refine cd_R_set h (fun k hk hn => ⟨?_, ?_, ?_, ?_⟩) ⟨?_, ?_, ?_, ?_⟩
  · exact pk_un (by omega)
  · exact pk_un (by omega)
  · exact pk_un (by omega)
  · exact pk_un (by omega)
  · exact (pk_un (by omega)).trans hq.1
  · exact (pk_un (by omega)).trans hq.2.1
  · exact (pk_un (by omega)).trans hq.2.2.1
  · show upd w (96 * s + A.length + 72) (nI t') (96 * s + 72 + A.length) = nI t'
    rw [show 96 * s + 72 + A.length = 96 * s + A.length + 72 by omega]
    exact pk_us
theorem cd_u1_out {s m : Nat} {w : Nat → Int32} {t : Int32} (hm : m < 24) : cd_out s w (upd w (96 * s + m + 72) t) := fun j hj => pk_un (by omega)
theorem cd_or0 : ∀ e, e < 1024 → (((nI (e % 32) ||| nI (e / 32 % 8)) ||| nI (e / 256)) = 0 ↔ e = 0) := by decide +kernel
section XWORK
variable {f_groups f_backwards f_shifted f_top f_ready f_ordered f_wordLength : Int32} {a_length a_letters a_cells a_groupLength a_groupLetters a_groupsFrom a_count a_weights a_order a_word : Nat → Int32}
theorem cd_xAppend {post : Int32 → SX → Prop} {W : List cd_W} {s e : Nat} (hs : s < 11) (hm : W.length < 24) (he : e < 1024) (hX : cd_X4 a_weights s W)
    (h : ∀ w', cd_X4 w' s (W ++ [cd_w0 e]) → cd_out s a_weights w' → post (nI (W.length + 1)) (f_groups, f_backwards, f_shifted, f_top, f_ready, f_ordered, f_wordLength, a_length, a_letters, a_cells, a_groupLength, a_groupLetters, a_groupsFrom, a_count, w', a_order, a_word)) : wpX_append post (f_groups, f_backwards, f_shifted, f_top, f_ready, f_ordered, f_wordLength, a_length, a_letters, a_cells, a_groupLength, a_groupLetters, a_groupsFrom, a_count, a_weights, a_order, a_word) (nI s) (nI W.length) (nI e) := by
  have h' := h (cd_u4 a_weights (96 * s + W.length) (nI (e % 32)) (nI (e / 32 % 8)) (nI (e / 256)) 0) (cd_u4_app (x := cd_w0 e) hm hX) (cd_u4_out hm)
  refine nm_r (e' := nI (96 * s + W.length)) (by rw [cd_m96, nI_add]) ?_
  unfold wpX_firstOf wpX_secondOf wpX_thirdOf
  rw [cd_a24, cd_a48, cd_a72, cd_e1 he, cd_e2 he, cd_e3 he, nI_clamp (by omega), nI_clamp (by omega), nI_clamp (by omega), nI_clamp (by omega), nI_1]
  exact And.intro (vp_in_nI (by omega) (by omega)) (nm_e (And.intro (vp_in_nI (by omega) (by omega)) (nm_e (And.intro (vp_in_nI (by omega) (by omega)) (nm_e (And.intro (vp_in_nI (by omega) (by omega)) (nm_e h')))))))
def cd_bI (b : Bool) : Int32 := if b = true then 1 else 0
/-- the store of a variable or swallowed element -/
theorem cd_xSh_79 {post : SX → Prop} {J : Int32 → Int32 → (Nat → Int32) → (Nat → Int32) → (Nat → Int32) → (Nat → Int32) → (Nat → Int32) → (Nat → Int32) → (Nat → Int32) → (Nat → Int32) → (Nat → Int32) → (Nat → Int32) → Prop} {s m p : Nat} (hs : s < 11) (hm : m < 24)
    (h : J 1 (nI (m + 1)) a_length a_letters a_cells a_groupLength a_groupLetters a_groupsFrom a_count (cd_u4 a_weights (96 * s + m) 0 0 0 (nI p)) a_order a_word) : wX_shift_79 post J (nI s) (nI m) (nI (96 * s + m)) (nI p) f_groups f_backwards f_shifted f_top f_ready f_ordered f_wordLength a_length a_letters a_cells a_groupLength a_groupLetters a_groupsFrom a_count a_weights a_order a_word := by
  unfold wX_shift_79
  rw [cd_a24, cd_a48, cd_a72, nI_clamp (by omega), nI_clamp (by omega), nI_clamp (by omega), nI_clamp (by omega), nI_1]
  exact And.intro (vp_in_nI (by omega) (by omega)) (nm_e (And.intro (vp_in_nI (by omega) (by omega)) (nm_e (And.intro (vp_in_nI (by omega) (by omega)) (nm_e (And.intro (vp_in_nI (by omega) (by omega)) (nm_e (nm_e h))))))))
theorem cd_xShift_4 {post : SX → Prop} {s top : Nat} {T : List Nat} (hs : s < 11) (ht : f_top = nI top) (htop : top ≤ 30) (hc : a_count s = nI T.length) (hT : T.length ≤ 24) (hok : ∀ e, e ∈ T → cd_ok e)
    (h : ∀ w', cd_X4 w' s (cd_sf top false T) → cd_out s a_weights w' → post (f_groups, f_backwards, f_shifted, f_top, f_ready, f_ordered, f_wordLength, a_length, a_letters, a_cells, a_groupLength, a_groupLetters, a_groupsFrom, a_count, w', a_order, a_word)) :
    ∀ (R : List Nat) (A : List cd_W) (b : Bool) (w : Nat → Int32) (n : Nat), A ++ cd_sf top b R = cd_sf top false T → A.length + R.length = T.length → (∀ e, e ∈ R → cd_ok e) → R.length < n →
      cd_X4 w s (A ++ R.map cd_w0) → cd_out s a_weights w → wX_shift_4 post (nI s) f_groups f_backwards f_shifted f_top f_ready f_ordered f_wordLength n (cd_bI b) (nI A.length) a_length a_letters a_cells a_groupLength a_groupLetters a_groupsFrom a_count w a_order a_word := by
  have ec : a_count (nI s).toNatClampNeg = nI T.length := by rw [nI_clamp (by omega), hc]
  intro R
  induction R with
  | nil =>
    intro A b w n hA hl _ hn hw ho
    obtain ⟨n, rfl⟩ : ∃ k, n = k + 1 := ⟨n - 1, by omega⟩
    rw [List.length_nil, Nat.add_zero] at hl
    rw [List.map_nil, List.append_nil] at hw
    have hA' : A = cd_sf top false T := by
      rw [← hA]
      exact (List.append_nil A).symm
    exact And.intro (vp_in_nI hs (by omega)) (br_t (by rw [ec]; exact nI_le (by omega) (by omega)) (h w (by rw [← hA']; exact hw) ho))
  | cons e R ih =>
    intro A b w n hA hl hR hn hw ho
    obtain ⟨n, rfl⟩ : ∃ k, n = k + 1 := ⟨n - 1, by omega⟩
    rw [List.length_cons] at hl hn
    rw [List.map_cons] at hw
    have hR' : ∀ e, e ∈ R → cd_ok e := fun x hx => hR x (List.mem_cons_of_mem _ hx)
    obtain ⟨o1, o2⟩ := hR e List.mem_cons_self
    have hlen : (A ++ cd_w0 e :: R.map cd_w0).length ≤ 24 := by
      rw [List.length_append, List.length_cons, List.length_map]
      omega
    have hq := hw A.length (by rw [List.length_append, List.length_cons]; omega)
    rw [cd_wa_m] at hq
    obtain ⟨q1, q2, q3, q4⟩ := hq
    have q1' : w (96 * s + A.length) = nI (e % 32) := q1
    have q2' : w (96 * s + A.length + 24) = nI (e / 32 % 8) := by
      rw [show 96 * s + A.length + 24 = 96 * s + 24 + A.length by omega]
      exact q2
    have q3' : w (96 * s + A.length + 48) = nI (e / 256) := by
      rw [show 96 * s + A.length + 48 = 96 * s + 48 + A.length by omega]
      exact q3
    have hp : e % 32 < 32 := by omega
    -- the next turn
    have next : ∀ (y : cd_W) (b' : Bool) (w' : Nat → Int32), cd_sf top b (e :: R) = y :: cd_sf top b' R → cd_X4 w' s (A ++ y :: R.map cd_w0) → cd_out s w w' →
        wX_shift_4 post (nI s) f_groups f_backwards f_shifted f_top f_ready f_ordered f_wordLength n (cd_bI b') (nI (A.length + 1)) a_length a_letters a_cells a_groupLength a_groupLetters a_groupsFrom a_count w' a_order a_word := by
      intro y b' w' hy hw' ho'
      have z := ih (A ++ [y]) b' w' n (by rw [List.append_assoc, List.singleton_append, ← hy]; exact hA) (by rw [List.length_append, List.length_singleton]; omega) hR' (by omega)
        (by rw [List.append_assoc, List.singleton_append]; exact hw') (cd_out_t ho ho')
      rw [List.length_append, List.length_singleton] at z
      exact z
    refine And.intro (vp_in_nI hs (by omega)) (br_f (by rw [ec]; exact nI_ge (by omega) (by omega)) (nm_r (e' := nI (96 * s + A.length)) (by rw [cd_m96, nI_add]) (And.intro (vp_in_nI (by omega) (by omega)) (nm_r (e' := nI (e % 32)) (by rw [nI_clamp (by omega), q1']) ?_))))
    -- a variable or swallowed element
    have dead : ∀ p : Nat, cd_sf top b (e :: R) = (0, 0, 0, p) :: cd_sf top true R →
        wX_shift_79 post (wX_shift_4 post (nI s) f_groups f_backwards f_shifted f_top f_ready f_ordered f_wordLength n) (nI s) (nI A.length) (nI (96 * s + A.length)) (nI p) f_groups f_backwards f_shifted f_top f_ready f_ordered f_wordLength a_length a_letters a_cells a_groupLength a_groupLetters a_groupsFrom a_count w a_order a_word := by
      intro p hy
      exact cd_xSh_79 hs (by omega) (next (0, 0, 0, p) true _ hy (cd_u4_set (y := (0, 0, 0, p)) hlen hw) (cd_u4_out (by omega)))
    -- another one
    have live : cd_sf top b (e :: R) = (e % 32, e / 32 % 8, e / 256, if e = 0 then 0 else 31) :: cd_sf top false R →
        wX_shift_67 post (wX_shift_4 post (nI s) f_groups f_backwards f_shifted f_top f_ready f_ordered f_wordLength n) (nI s) (nI A.length) (nI (96 * s + A.length)) (nI (e % 32)) 0 0 f_groups f_backwards f_shifted f_top f_ready f_ordered f_wordLength a_length a_letters a_cells a_groupLength a_groupLetters a_groupsFrom a_count w a_order a_word := by
      intro hy
      unfold wX_shift_67
      rw [cd_a24, cd_a48, cd_a72, nI_clamp (by omega), nI_clamp (by omega), nI_clamp (by omega), q2', q3', nI_1]
      refine br_t rfl (br_t rfl (And.intro (vp_in_nI (by omega) (by omega)) (And.intro (vp_in_nI (by omega) (by omega)) (nm_e ?_))))
      by_cases c : e = 0
      · refine br_t ((cd_or0 e o1).mpr c) (And.intro (vp_in_nI (by omega) (by omega)) (nm_e (nm_e ?_)))
        rw [if_pos c] at hy
        exact next _ false _ hy (cd_u1_set (t' := 0) hlen hw) (cd_u1_out (by omega))
      · refine br_f (fun z => c ((cd_or0 e o1).mp z)) (And.intro (vp_in_nI (by omega) (by omega)) (nm_e (nm_e ?_)))
        rw [if_neg c] at hy
        exact next _ false _ hy (cd_u1_set (t' := 31) hlen hw) (cd_u1_out (by omega))
    by_cases cz : e % 32 = 0
    · -- weight 0
      refine br_t (by rw [cz]; decide) ?_
      unfold wX_shift_50 wX_shift_51
      refine br_t (by rw [cz]; exact nI_0) ?_
      cases b with
      | true =>
        refine br_f (by decide) ?_
        unfold wX_shift_67
        refine br_t rfl (br_f (by decide) ?_)
        have hy : cd_sf top true (e :: R) = (0, 0, 0, e % 32) :: cd_sf top true R := by
          rw [cd_sf_s, if_neg (by omega), if_pos ⟨cz, rfl⟩, cz]
        exact dead _ hy
      | false =>
        refine br_t rfl ?_
        unfold wX_shift_66
        apply live
        rw [cd_sf_s, if_neg (by omega), if_neg (fun q => by cases q.2)]
    · refine br_f (fun q => cz (by have := (nI_ltI (b := 1) (by omega) (by omega)).mp q; omega)) ?_
      have hne : ¬ nI (e % 32) = 0 := nI_ne0 (by omega) (by omega)
      by_cases ct : e % 32 ≤ top
      · refine br_f (by rw [ht]; exact nI_nlt ct (by omega)) ?_
        unfold wX_shift_51
        refine br_f hne ?_
        unfold wX_shift_66 wX_shift_67
        refine br_f (by decide) ?_
        exact dead _ (by rw [cd_sf_s, if_pos ⟨by omega, ct⟩])
      · refine br_t (by rw [ht]; exact nI_lt (by omega) (by omega)) ?_
        unfold wX_shift_50 wX_shift_51
        refine br_f hne ?_
        unfold wX_shift_66
        apply live
        rw [cd_sf_s, if_neg (fun q => ct q.2), if_neg (fun q => cz q.1)]
theorem cd_xShift {post : SX → Prop} {s top : Nat} {T : List Nat} (hs : s < 11) (ht : f_top = nI top) (htop : top ≤ 30) (hc : a_count s = nI T.length) (hT : T.length ≤ 24) (hok : ∀ e, e ∈ T → cd_ok e) (hw : cd_X4 a_weights s (T.map cd_w0))
    (h : ∀ w', cd_X4 w' s (cd_sf top false T) → cd_out s a_weights w' → post (f_groups, f_backwards, f_shifted, f_top, f_ready, f_ordered, f_wordLength, a_length, a_letters, a_cells, a_groupLength, a_groupLetters, a_groupsFrom, a_count, w', a_order, a_word)) : wpX_shift post (f_groups, f_backwards, f_shifted, f_top, f_ready, f_ordered, f_wordLength, a_length, a_letters, a_cells, a_groupLength, a_groupLetters, a_groupsFrom, a_count, a_weights, a_order, a_word) (nI s) :=
  Exists.intro (T.length + 1) (cd_xShift_4 hs ht htop hc hT hok h T [] false a_weights _ rfl (by rw [List.length_nil]; omega) hok (by omega) hw (cd_out_r s a_weights))
theorem cd_xWo_130 {post : SX → Prop} {s sh top : Nat} {T : List Nat} (hs : s < 11) (hsh : f_shifted = nI sh) (hsh1 : sh ≤ 1) (ht : f_top = nI top) (htop : top ≤ 30) (hT : T.length ≤ 24) (hok : ∀ e, e ∈ T → cd_ok e) (hw : cd_X4 a_weights s (T.map cd_w0))
    (h : ∀ c' w', (∀ j, ¬ j = s → c' j = a_count j) → cd_out s a_weights w' → cd_SL c' w' s (cd_ws sh top T) → post (f_groups, f_backwards, f_shifted, f_top, f_ready, f_ordered, f_wordLength, a_length, a_letters, a_cells, a_groupLength, a_groupLetters, a_groupsFrom, c', w', a_order, a_word)) : wX_workOut_130 post (nI s) (nI T.length) f_groups f_backwards f_shifted f_top f_ready f_ordered f_wordLength a_length a_letters a_cells a_groupLength a_groupLetters a_groupsFrom a_count a_weights a_order a_word := by
  have hl : (cd_ws sh top T).length = T.length := cd_ws_len sh top T
  refine And.intro (vp_in_nI hs (by omega)) (nm_r (e' := upd a_count s (nI T.length)) (by rw [nI_clamp (by omega)]) ?_)
  by_cases c : sh = 1
  · refine br_f (by rw [hsh, c]; decide) ?_
    refine cd_xShift hs ht htop pk_us hT hok hw (fun w' h1 h2 => ?_)
    refine h _ w' (fun j hj => pk_un hj) h2 ⟨by rw [hl]; exact pk_us, ?_, by omega, cd_ws_sw sh top T hok⟩
    unfold cd_ws
    rw [if_pos c]
    exact h1
  · refine br_t (by rw [hsh, show sh = 0 by omega]; rfl) ?_
    refine h _ a_weights (fun j hj => pk_un hj) (cd_out_r s a_weights) ⟨by rw [hl]; exact pk_us, ?_, by omega, cd_ws_sw sh top T hok⟩
    unfold cd_ws
    rw [if_neg c]
    exact hw
end XWORK
end
section
/-! workOut, prepare -/
def cd_Wf (ln lt : Nat → Nat) (E : cd_E) (sh top s : Nat) : List cd_W := cd_ws sh top (cd_el E lt (12 * s) (12 * s + ln s))
def cd_CA (Wf : Nat → List cd_W) (bk : Nat) (f_ready f_ordered : Int32) (a_count a_weights a_order : Nat → Int32) : Prop :=
  (∀ s, s < 10 → bt f_ready s = true → cd_SL a_count a_weights s (Wf s)) ∧
  (∀ t, 1 ≤ t → t ≤ 4 → bt f_ordered t = true → (∀ s, s < 10 → bt f_ready s = true) ∧ ∃ L, cd_so (fun i => cd_key bk (Wf i) t) L 10 ∧ ∀ k, k < 10 → a_order (10 * (t - 1) + k) = nI (cd_at L k))
theorem cd_SL_out {c w c' w' : Nat → Int32} {s s' : Nat} {W : List cd_W} (h : cd_SL c w s' W) (hn : ¬ s' = s) (hc : ∀ j, ¬ j = s → c' j = c j) (hw : cd_out s w w') : cd_SL c' w' s' W := by
  obtain ⟨h1, h2, h3, h4⟩ := h
  refine ⟨(hc s' hn).trans h1, fun k hk => ?_, h3, h4⟩
  obtain ⟨q1, q2, q3, q4⟩ := h2 k hk
  exact ⟨(hw _ (by omega)).trans q1, (hw _ (by omega)).trans q2, (hw _ (by omega)).trans q3, (hw _ (by omega)).trans q4⟩
section XPREP
variable {f_groups f_backwards f_shifted f_top f_ready f_ordered f_wordLength : Int32} {a_length a_letters a_cells a_groupLength a_groupLetters a_groupsFrom a_count a_weights a_order a_word : Nat → Int32}
theorem cd_xWo_55 {post : SX → Prop} {J : Int32 → Int32 → Int32 → Int32 → Int32 → Int32 → Int32 → Int32 → Int32 → Int32 → (Nat → Int32) → (Nat → Int32) → (Nat → Int32) → (Nat → Int32) → (Nat → Int32) → (Nat → Int32) → (Nat → Int32) → (Nat → Int32) → (Nat → Int32) → (Nat → Int32) → Prop}
    {s z a : Nat} {b : Option Nat} {A : List Nat} {x3 x5 x6 x7 : Int32} (hs : s < 11) (hz : z + 1 < 32) (hA : A.length + 2 ≤ 24) (ha : a < 1024) (hb : ∀ c, b = some c → c < 1024) (e1 : a_cells z = nI a) (e2 : a_cells (z + 1) = cd_oI b)
    (hX : cd_X4 a_weights s (A.map cd_w0))
    (h : ∀ w', cd_X4 w' s ((A ++ cd_ee (some (a, b))).map cd_w0) → cd_out s a_weights w' → wX_workOut_103 post J (nI s) x3 (nI (A ++ cd_ee (some (a, b))).length) x5 x6 x7 f_groups f_backwards f_shifted f_top f_ready f_ordered f_wordLength a_length a_letters a_cells a_groupLength a_groupLetters a_groupsFrom a_count w' a_order a_word) :
    wX_workOut_55 post J (nI s) x3 (nI A.length) x5 x6 x7 (nI z) f_groups f_backwards f_shifted f_top f_ready f_ordered f_wordLength a_length a_letters a_cells a_groupLength a_groupLetters a_groupsFrom a_count a_weights a_order a_word := by
  have hlA : (A.map cd_w0).length = A.length := List.length_map ..
  refine And.intro (vp_in_nI (by omega) (by omega)) ?_
  rw [nI_clamp (by omega), e1, ← hlA]
  refine cd_xAppend hs (by omega) ha hX (fun w' x1 o1 => ?_)
  rw [hlA]
  have mA : A.map cd_w0 ++ [cd_w0 a] = (A ++ [a]).map cd_w0 := by rw [List.map_append]; rfl
  rw [mA] at x1
  refine And.intro (by rw [nI_1]; exact vp_in_nI hz (by omega)) ?_
  match b, hb, e2, h with
  | none, hb, e2, h =>
    refine br_t (by rw [nI_1, nI_clamp (by omega), e2]; decide) ?_
    have q := h w' x1 o1
    rw [cd_ee_1, List.length_append, List.length_singleton] at q
    exact q
  | some c, hb, e2, h =>
    have hc := hb c rfl
    have e2' : a_cells (nI z + 1).toNatClampNeg = nI c := by rw [nI_1, nI_clamp (by omega), e2]; rfl
    refine br_f (by rw [e2']; exact nI_pos (by omega)) (And.intro (by rw [nI_1]; exact vp_in_nI hz (by omega)) ?_)
    rw [e2']
    have hl2 : ((A ++ [a]).map cd_w0).length = A.length + 1 := by rw [List.length_map, List.length_append, List.length_singleton]
    rw [← hl2]
    refine cd_xAppend hs (by omega) hc x1 (fun w'' x2 o2 => ?_)
    rw [hl2]
    have q := h w'' (by
      rw [cd_ee_2, show A ++ [a, c] = (A ++ [a]) ++ [c] by rw [List.append_assoc]; rfl, List.map_append]
      exact x2) (cd_out_t o1 o2)
    rw [cd_ee_2, List.length_append] at q
    exact q
theorem cd_xWo_9 {post : SX → Prop} {E : cd_E} {g : Nat} {gL gT lt : Nat → Nat} {s en : Nat} {T : List Nat} (hs : s < 11) (hok : cd_Ok E) (hg : g ≤ 6) (hfg : f_groups = nI g) (hG : cd_XG g gL gT a_groupLength a_groupLetters a_groupsFrom) (hC : cd_XC E g gL gT a_cells)
    (hL : ∀ j, j < 120 → a_letters j = nI (lt j)) (hlt : ∀ j, j < 120 → lt j < 10) (he : en ≤ 120)
    (h : ∀ w', cd_X4 w' s (T.map cd_w0) → cd_out s a_weights w' → wX_workOut_130 post (nI s) (nI T.length) f_groups f_backwards f_shifted f_top f_ready f_ordered f_wordLength a_length a_letters a_cells a_groupLength a_groupLetters a_groupsFrom a_count w' a_order a_word) :
    ∀ n a i A w, en < a + n → a ≤ en → i + (en - a) ≤ 12 → A.length + 2 * (en - a) ≤ 24 → A ++ cd_el E lt a en = T → cd_X4 w s (A.map cd_w0) → cd_out s a_weights w →
      wX_workOut_9 post (nI s) (nI en) n (nI A.length) (nI a) (nI i) f_groups f_backwards f_shifted f_top f_ready f_ordered f_wordLength a_length a_letters a_cells a_groupLength a_groupLetters a_groupsFrom a_count w a_order a_word := by
  intro n
  induction n with
  | zero =>
    intro a i A w hn h120 hi hA hT hX ho
    exfalso
    omega
  | succ n ih =>
    intro a i A w hn h120 hi hA hT hX ho
    by_cases ce : en ≤ a
    · have hT' : A = T := by rw [← hT, cd_el_0 E lt ce, List.append_nil]
      have q := h w (by rw [← hT']; exact hX) ho
      rw [← hT'] at q
      exact br_c (fun _ => q) (fun _ => br_t (nI_le ce (by omega)) q)
    · have b := cd_ln_b E lt a en
      have b2 := cd_ln_e E lt (a := a) (en := en) (by omega)
      refine br_f (nI_ge (b := 12) (by omega) (by omega)) (br_f (nI_ge (by omega) (by omega)) ?_)
      rw [cd_el_s E lt (by omega), ← List.append_assoc] at hT
      have step : ∀ (x : Nat) (y : Option Nat) (w' : Nat → Int32), E (cd_wn lt (cd_ln E lt a en) a) = some (x, y) → cd_X4 w' s ((A ++ cd_ee (some (x, y))).map cd_w0) → cd_out s w w' →
          wX_workOut_9 post (nI s) (nI en) n (nI (A ++ cd_ee (some (x, y))).length) (nI (a + cd_ln E lt a en)) (nI (i + 1)) f_groups f_backwards f_shifted f_top f_ready f_ordered f_wordLength a_length a_letters a_cells a_groupLength a_groupLetters a_groupsFrom a_count w' a_order a_word := by
        intro x y w' hE hX' ho'
        have hl := cd_ee_len (some (x, y))
        rw [hE] at hT
        exact ih (a + cd_ln E lt a en) (i + 1) (A ++ cd_ee (some (x, y))) w' (by omega) (by omega) (by omega) (by rw [List.length_append]; omega) hT hX' (cd_out_t ho ho')
      refine cd_xGroupAt hg hfg hG hC hL hlt (by omega) he (fun h1 => ?_) (fun j hj hl hnm => ?_)
      · refine br_f (by decide) (And.intro (vp_in_nI (by omega) (by omega)) ?_)
        rw [nI_clamp (by omega), hL a (by omega), cd_m2]
        have hla := hlt a (by omega)
        obtain ⟨x, y, hE, c1, c2⟩ := hC.2.1 (lt a) hla
        have ho2 := hok.1 _ x y hE
        refine cd_xWo_55 hs (by omega) (by omega) ho2.1.1 (fun c q => (ho2.2 c q).1) c1 c2 hX (fun w' x1 o1 => ?_)
        unfold wX_workOut_103
        refine br_f (by decide) (nm_r (nI_1 a) (nm_r (nI_1 i) ?_))
        have q := step x y w' (by rw [h1]; exact hE) x1 o1
        rw [h1] at q
        exact q
      · refine br_t (nI_pos' (by omega)) ?_
        rw [cd_m2, cd_p20]
        obtain ⟨x, y, hE, c1, c2⟩ := hC.1 j hj
        obtain ⟨g1, g2, g3⟩ := hG.1 j hj
        have ho2 := hok.1 _ x y hE
        refine cd_xWo_55 hs (by omega) (by omega) ho2.1.1 (fun c q => (ho2.2 c q).1) c1 c2 hX (fun w' x1 o1 => ?_)
        unfold wX_workOut_103
        refine br_t (nI_pos' (by omega)) (And.intro (vp_in_nI (by omega) (by omega)) (nm_r (e' := nI (a + gL j)) (by rw [nI_clamp (by omega), g1, nI_add]) (nm_r (nI_1 i) ?_)))
        have q := step x y w' (by rw [hl, ← hnm]; exact hE) x1 o1
        rw [hl] at q
        exact q
/-- workOut: the weights of a row of letters, for a slot or to spare -/
theorem cd_xWorkOut {post : SX → Prop} {ln lt : Nat → Nat} {E : cd_E} {g bk sh top : Nat} {gL gT : Nat → Nat} {s a en : Nat} (D : cd_D ln lt E g bk sh top)
    (S : cd_XS ln lt E g bk sh top gL gT f_groups f_backwards f_shifted f_top a_length a_letters a_cells a_groupLength a_groupLetters a_groupsFrom) (hs : s < 11) (he : en ≤ 120) (ha : a ≤ en) (h12 : en ≤ a + 12)
    (h : ∀ c' w', (∀ j, ¬ j = s → c' j = a_count j) → cd_out s a_weights w' → cd_SL c' w' s (cd_ws sh top (cd_el E lt a en)) → post (f_groups, f_backwards, f_shifted, f_top, f_ready, f_ordered, f_wordLength, a_length, a_letters, a_cells, a_groupLength, a_groupLetters, a_groupsFrom, c', w', a_order, a_word)) :
    wpX_workOut post (f_groups, f_backwards, f_shifted, f_top, f_ready, f_ordered, f_wordLength, a_length, a_letters, a_cells, a_groupLength, a_groupLetters, a_groupsFrom, a_count, a_weights, a_order, a_word) (nI s) (nI a) (nI en) := by
  obtain ⟨d1, d2, d3, d4, d5, d6, d7⟩ := D
  obtain ⟨s1, s2, s3, s4, s5, s6, s7, s8⟩ := S
  have hl := cd_el_len E lt a en
  have hok : ∀ e, e ∈ cd_el E lt a en → cd_ok e := fun e q => cd_el_ok d3 lt a en e q
  refine Exists.intro (en - a + 1) ?_
  refine cd_xWo_9 (T := cd_el E lt a en) hs d3 d4 s1 s7 s8 s6 d2 he (fun w' x1 o1 => ?_) _ a 0 [] a_weights (by omega) (by omega) (by omega) (by rw [List.length_nil]; omega) (List.nil_append _) cd_R_0 (cd_out_r s a_weights)
  exact cd_xWo_130 hs s3 d6 s4 d7 (by omega) hok x1 (fun c' w'' q1 q2 q3 => h c' w'' q1 (cd_out_t o1 q2) q3)
/-- prepare -/
theorem cd_xPrepare {post : SX → Prop} {ln lt : Nat → Nat} {E : cd_E} {g bk sh top : Nat} {gL gT : Nat → Nat} {s : Nat} (D : cd_D ln lt E g bk sh top)
    (S : cd_XS ln lt E g bk sh top gL gT f_groups f_backwards f_shifted f_top a_length a_letters a_cells a_groupLength a_groupLetters a_groupsFrom) (hs : s < 10)
    (C : cd_CA (cd_Wf ln lt E sh top) bk f_ready f_ordered a_count a_weights a_order)
    (h : ∀ r' c' w', cd_CA (cd_Wf ln lt E sh top) bk r' f_ordered c' w' a_order → bt r' s = true → (∀ i, i < 10 → bt f_ready i = true → bt r' i = true) → post (f_groups, f_backwards, f_shifted, f_top, r', f_ordered, f_wordLength, a_length, a_letters, a_cells, a_groupLength, a_groupLetters, a_groupsFrom, c', w', a_order, a_word)) :
    wpX_prepare post (f_groups, f_backwards, f_shifted, f_top, f_ready, f_ordered, f_wordLength, a_length, a_letters, a_cells, a_groupLength, a_groupLetters, a_groupsFrom, a_count, a_weights, a_order, a_word) (nI s) := by
  by_cases c : bt f_ready s = true
  · exact br_f (fun z => (cd_bit f_ready (by omega)).mp z c) (h f_ready a_count a_weights C c (fun _ _ q => q))
  · refine br_t ((cd_bit f_ready (by omega)).mpr c) (And.intro (vp_in_nI hs (by omega)) ?_)
    have d1 := D.1 s hs
    rw [nI_clamp (by omega), S.2.2.2.2.1 s hs, cd_m12, nI_add]
    refine cd_xWorkOut D S (by omega) (by omega) (by omega) (by omega) (fun c' w' q1 q2 q3 => nm_e (h _ c' w' ?_ ?_ ?_))
    · refine ⟨fun i hi hb => ?_, fun t t1 t4 hb => ?_⟩
      · by_cases e : i = s
        · rw [e]
          exact q3
        · refine cd_SL_out (C.1 i hi ?_) e q1 q2
          rw [cd_bset f_ready (by omega) (by omega), decide_eq_false (p := s = i) (by omega), Bool.or_false] at hb
          exact hb
      · exact absurd ((C.2 t t1 t4 hb).1 s hs) c
    · rw [cd_bset f_ready (by omega) (by omega), decide_eq_true rfl, Bool.or_true]
    · intro i hi hb
      rw [cd_bset f_ready (by omega) (by omega), hb, Bool.true_or]
end XPREP
end
section
/-! insert, sort -/
section XSORT
variable {f_groups f_backwards f_shifted f_top f_ready f_ordered f_wordLength : Int32} {a_length a_letters a_cells a_groupLength a_groupLetters a_groupsFrom a_count a_weights a_order a_word : Nat → Int32}
theorem cd_xInsert_78 {post : SX → Prop} {base i a : Nat} {x : Int32} (hb : base + a < 40) (h : post (f_groups, f_backwards, f_shifted, f_top, f_ready, f_ordered, f_wordLength, a_length, a_letters, a_cells, a_groupLength, a_groupLetters, a_groupsFrom, a_count, a_weights, upd a_order (base + a) x, a_word)) : wX_insert_78 post (nI base) x (nI a) f_groups f_backwards f_shifted f_top f_ready f_ordered f_wordLength a_length a_letters a_cells a_groupLength a_groupLetters a_groupsFrom a_count a_weights a_order a_word := by
  refine And.intro (by rw [nI_add]; exact vp_in_nI hb (by omega)) (nm_r (e' := upd a_order (base + a) x) (by rw [nI_add, nI_clamp (by omega)]) h)
theorem cd_xInsert_6 {post : SX → Prop} {Wf : Nat → List cd_W} {bk t base i : Nat} {L : List Nat} (hb : f_backwards = nI bk ∧ bk ≤ 1) (ht1 : 1 ≤ t) (ht4 : t ≤ 4) (hbase : base + 10 ≤ 40) (hi : i < 10)
    (hS : ∀ s, s ≤ i → cd_SL a_count a_weights s (Wf s)) (hL : cd_so (fun s => cd_key bk (Wf s) t) L i)
    (h : ∀ o' L', (∀ j, (j < base ∨ base + 10 ≤ j) → o' j = a_order j) → cd_so (fun s => cd_key bk (Wf s) t) L' (i + 1) → (∀ k, k < i + 1 → o' (base + k) = nI (cd_at L' k)) → post (f_groups, f_backwards, f_shifted, f_top, f_ready, f_ordered, f_wordLength, a_length, a_letters, a_cells, a_groupLength, a_groupLetters, a_groupsFrom, a_count, a_weights, o', a_word)) :
    ∀ n a o, a ≤ i → a + 1 < n → (∀ j, (j < base ∨ base + 10 ≤ j) → o j = a_order j) → (∀ k, k < a → o (base + k) = nI (cd_at L k)) → (∀ k, a ≤ k → k < i → o (base + (k + 1)) = nI (cd_at L k)) →
      (∀ k, a ≤ k → k < i → cd_cm (cd_key bk (Wf i) t) (cd_key bk (Wf (cd_at L k)) t) = -1) →
      wX_insert_6 post (nI base) (nI i) (nI t) f_groups f_backwards f_shifted f_top f_ready f_ordered f_wordLength n (nI a) 1 a_length a_letters a_cells a_groupLength a_groupLetters a_groupsFrom a_count a_weights o a_word := by
  have hlen := cd_so_len hL
  intro n
  induction n with
  | zero => intro a o ha hn; omega
  | succ n ih =>
    intro a o ha hn ho hlo hhi hcm
    have fin : (a = 0 ∨ ¬ cd_cm (cd_key bk (Wf i) t) (cd_key bk (Wf (cd_at L (a - 1))) t) = -1) → wX_insert_78 post (nI base) (nI i) (nI a) f_groups f_backwards f_shifted f_top f_ready f_ordered f_wordLength a_length a_letters a_cells a_groupLength a_groupLetters a_groupsFrom a_count a_weights o a_word := by
      intro hz
      refine cd_xInsert_78 (i := i) (by omega) (h _ (cd_ins L a i) (fun j hj => ?_) (cd_ins_so hL ha hcm hz) (fun k hk => ?_))
      · rw [pk_un (by omega)]
        exact ho j hj
      · rcases Nat.lt_trichotomy k a with c | c | c
        · rw [cd_ins_lo (by omega) c, pk_un (by omega)]
          exact hlo k c
        · rw [c, cd_ins_at (by omega)]
          exact pk_us
        · obtain ⟨m, rfl⟩ : ∃ m, k = m + 1 := ⟨k - 1, by omega⟩
          rw [cd_ins_hi (by omega) (by omega), pk_un (by omega)]
          exact hhi m (by omega) (by omega)
    by_cases c0 : a = 0
    · exact br_t (by rw [c0]; decide) (fin (Or.inl c0))
    · have hat : cd_at L (a - 1) < i := cd_so_lt hL (by omega)
      have eo : o (base + (a - 1)) = nI (cd_at L (a - 1)) := hlo (a - 1) (by omega)
      have ei : (nI base + nI a) - 1 = nI (base + (a - 1)) := by
        rw [nI_add, cd_s1 (by omega)]
        congr 1
        omega
      refine br_f (nI_nle (by omega) (by omega)) (br_f (by decide) ?_)
      rw [ei]
      refine And.intro (vp_in_nI (by omega) (by omega)) ?_
      rw [nI_clamp (by omega), eo]
      refine cd_xCmp hb (by omega) (by omega) (hS i (Nat.le_refl i)) (hS _ (by omega)) ht1 ht4 ?_
      by_cases c : cd_cm (cd_key bk (Wf i) t) (cd_key bk (Wf (cd_at L (a - 1))) t) = -1
      · refine br_f (fun z => (cd_cm_ge _ _).mp z c) ?_
        unfold wX_insert_45
        refine br_f (by decide) ?_
        rw [ei]
        refine And.intro (vp_in_nI (by omega) (by omega)) (And.intro (by rw [nI_add]; exact vp_in_nI (by omega) (by omega)) (nm_r (e' := upd o (base + a) (nI (cd_at L (a - 1)))) (by rw [nI_add, nI_clamp (by omega), nI_clamp (by omega), eo]) (nm_r (cd_d1 (by omega)) ?_)))
        refine ih (a - 1) _ (by omega) (by omega) (fun j hj => ?_) (fun k hk => ?_) (fun k h1 h2 => ?_) (fun k h1 h2 => ?_)
        · rw [pk_un (by omega)]
          exact ho j hj
        · rw [pk_un (by omega)]
          exact hlo k (by omega)
        · by_cases e : k = a - 1
          · rw [e, show base + (a - 1 + 1) = base + a by omega]
            exact pk_us
          · rw [pk_un (by omega)]
            exact hhi k (by omega) h2
        · by_cases e : k = a - 1
          · rw [e]
            exact c
          · exact hcm k (by omega) h2
      · refine br_t ((cd_cm_ge _ _).mpr c) ?_
        unfold wX_insert_45
        refine br_t rfl ?_
        obtain ⟨n, rfl⟩ : ∃ m, n = m + 1 := ⟨n - 1, by omega⟩
        exact br_f (nI_nle (by omega) (by omega)) (br_t rfl (fin (Or.inr c)))
theorem cd_xInsert {post : SX → Prop} {Wf : Nat → List cd_W} {bk t base i : Nat} {L : List Nat} (hb : f_backwards = nI bk ∧ bk ≤ 1) (ht1 : 1 ≤ t) (ht4 : t ≤ 4) (hbase : base + 10 ≤ 40) (hi : i < 10)
    (hS : ∀ s, s ≤ i → cd_SL a_count a_weights s (Wf s)) (hL : cd_so (fun s => cd_key bk (Wf s) t) L i) (ho : ∀ k, k < i → a_order (base + k) = nI (cd_at L k))
    (h : ∀ o' L', (∀ j, (j < base ∨ base + 10 ≤ j) → o' j = a_order j) → cd_so (fun s => cd_key bk (Wf s) t) L' (i + 1) → (∀ k, k < i + 1 → o' (base + k) = nI (cd_at L' k)) → post (f_groups, f_backwards, f_shifted, f_top, f_ready, f_ordered, f_wordLength, a_length, a_letters, a_cells, a_groupLength, a_groupLetters, a_groupsFrom, a_count, a_weights, o', a_word)) :
    wpX_insert post (f_groups, f_backwards, f_shifted, f_top, f_ready, f_ordered, f_wordLength, a_length, a_letters, a_cells, a_groupLength, a_groupLetters, a_groupsFrom, a_count, a_weights, a_order, a_word) (nI base) (nI i) (nI t) :=
  Exists.intro (i + 2) (cd_xInsert_6 hb ht1 ht4 hbase hi hS hL h _ i a_order (Nat.le_refl i) (by omega) (fun _ _ => rfl) ho (fun k h1 h2 => by omega) (fun k h1 h2 => by omega))
theorem cd_so_0 (kf : Nat → List Nat) : cd_so kf [] 0 := ⟨List.Perm.refl _, fun k k' _ h => absurd h (Nat.not_lt_zero _)⟩
theorem cd_xSort_22 {post : SX → Prop} {ln lt : Nat → Nat} {E : cd_E} {g bk sh top : Nat} {gL gT : Nat → Nat} {t : Nat} (D : cd_D ln lt E g bk sh top)
    (S : cd_XS ln lt E g bk sh top gL gT f_groups f_backwards f_shifted f_top a_length a_letters a_cells a_groupLength a_groupLetters a_groupsFrom) (ht1 : 1 ≤ t) (ht4 : t ≤ 4) (hno : ¬ bt f_ordered t = true)
    (h : ∀ r' o' c' w' od', cd_CA (cd_Wf ln lt E sh top) bk r' o' c' w' od' → bt o' t = true → post (f_groups, f_backwards, f_shifted, f_top, r', o', f_wordLength, a_length, a_letters, a_cells, a_groupLength, a_groupLetters, a_groupsFrom, c', w', od', a_word)) :
    ∀ d i n r c w od, i + d = 10 → d < n → cd_CA (cd_Wf ln lt E sh top) bk r f_ordered c w od → (∀ s, s < i → bt r s = true) → (∃ L, cd_so (fun s => cd_key bk (cd_Wf ln lt E sh top s) t) L i ∧ ∀ k, k < i → od (10 * (t - 1) + k) = nI (cd_at L k)) →
      wX_sort_22 post (nI t) (nI (10 * (t - 1))) n (nI i) f_groups f_backwards f_shifted f_top r f_ordered f_wordLength a_length a_letters a_cells a_groupLength a_groupLetters a_groupsFrom c w od a_word := by
  have hb : f_backwards = nI bk ∧ bk ≤ 1 := ⟨S.2.1, D.2.2.2.2.1⟩
  intro d
  induction d with
  | zero =>
    intro i n r c w od hi hn C hr ⟨L, hL, hod⟩
    obtain ⟨n, rfl⟩ : ∃ m, n = m + 1 := ⟨n - 1, by omega⟩
    have e : i = 10 := by omega
    subst e
    refine br_t (nI_le (a := 10) (Nat.le_refl _) (by omega)) (nm_e (h r _ c w od ?_ ?_))
    · refine ⟨C.1, fun t' h1 h4 hbt => ?_⟩
      by_cases e : t' = t
      · rw [e]
        exact ⟨hr, L, hL, hod⟩
      · rw [cd_bset f_ordered (by omega) (by omega), decide_eq_false (p := t = t') (by omega), Bool.or_false] at hbt
        exact C.2 t' h1 h4 hbt
    · rw [cd_bset f_ordered (by omega) (by omega), decide_eq_true rfl, Bool.or_true]
  | succ d ih =>
    intro i n r c w od hi hn C hr ⟨L, hL, hod⟩
    obtain ⟨n, rfl⟩ : ∃ m, n = m + 1 := ⟨n - 1, by omega⟩
    refine br_f (nI_ge (b := 10) (by omega) (by omega)) ?_
    refine cd_xPrepare D S (by omega) C (fun r' c' w' C' b1 b2 => ?_)
    have hr' : ∀ s, s ≤ i → bt r' s = true := fun s hs => by
      by_cases e : s = i
      · rw [e]
        exact b1
      · exact b2 s (by omega) (hr s (by omega))
    refine cd_xInsert hb ht1 ht4 (by omega) (by omega) (fun s hs => C'.1 s (by omega) (hr' s hs)) hL hod (fun o' L' q1 q2 q3 => nm_r (nI_1 i) ?_)
    refine ih (i + 1) n r' c' w' o' (by omega) (by omega) ⟨C'.1, fun t' h1 h4 hbt => ?_⟩ (fun s hs => hr' s (by omega)) ⟨L', q2, q3⟩
    obtain ⟨z1, L2, z2, z3⟩ := C'.2 t' h1 h4 hbt
    have e : ¬ t' = t := fun e => hno (e ▸ hbt)
    exact ⟨z1, L2, z2, fun k hk => (q1 _ (by omega)).trans (z3 k hk)⟩
theorem cd_xSort {post : SX → Prop} {ln lt : Nat → Nat} {E : cd_E} {g bk sh top : Nat} {gL gT : Nat → Nat} {t : Nat} (D : cd_D ln lt E g bk sh top)
    (S : cd_XS ln lt E g bk sh top gL gT f_groups f_backwards f_shifted f_top a_length a_letters a_cells a_groupLength a_groupLetters a_groupsFrom) (ht1 : 1 ≤ t) (ht4 : t ≤ 4)
    (C : cd_CA (cd_Wf ln lt E sh top) bk f_ready f_ordered a_count a_weights a_order)
    (h : ∀ r' o' c' w' od', cd_CA (cd_Wf ln lt E sh top) bk r' o' c' w' od' → bt o' t = true → post (f_groups, f_backwards, f_shifted, f_top, r', o', f_wordLength, a_length, a_letters, a_cells, a_groupLength, a_groupLetters, a_groupsFrom, c', w', od', a_word)) :
    wpX_sort post (f_groups, f_backwards, f_shifted, f_top, f_ready, f_ordered, f_wordLength, a_length, a_letters, a_cells, a_groupLength, a_groupLetters, a_groupsFrom, a_count, a_weights, a_order, a_word) (nI t) := by
  by_cases c : bt f_ordered t = true
  · exact br_t ((cd_bit1 f_ordered (by omega)).mpr c) (h _ _ _ _ _ C c)
  · refine br_f (fun z => c ((cd_bit1 f_ordered (by omega)).mp z)) (nm_r (e' := nI (10 * (t - 1))) (by rw [cd_s1 ht1, cd_m10]) (Exists.intro 11 ?_))
    exact cd_xSort_22 D S ht1 ht4 c h 10 0 11 f_ready a_count a_weights a_order (by omega) (by omega) C (fun s hs => by omega) ⟨[], cd_so_0 _, fun k hk => by omega⟩
end XSORT
end
section
/-! the component's questions -/
def cd_bad (n : Nat) (x : Int32) : Prop := ¬ ∃ j, j < n ∧ x = nI j
def cd_badS (x : Int32) : Prop := ¬ ∃ t, 1 ≤ t ∧ t ≤ 4 ∧ x = nI t
theorem cd_bad_ge {n : Nat} {x : Int32} (hx : cd_bad n x) (hn : n < 2 ^ 31) (h0 : ¬ x < 0) : nI n ≤ x := by
  rcases pk_ix x hn with h | h | h
  · exact absurd h h0
  · exact h
  · exact absurd h hx
theorem cd_badS_gt {x : Int32} (hx : cd_badS x) (h1 : ¬ x < 1) : (4 : Int32) < x := by
  have h0 : ¬ x < 0 := fun z => h1 (Int32.lt_trans z (by decide))
  obtain ⟨j, hj, rfl⟩ := nI_of h0
  have g1 : ¬ j < 1 := fun z => h1 ((nI_ltI (b := 1) hj (by omega)).mpr z)
  apply (nI_ltI (a := 4) (by omega) hj).mpr
  rcases Nat.lt_or_ge 4 j with c | c
  · exact c
  · exact absurd ⟨j, by omega, c, rfl⟩ hx
theorem cd_slot (n : Nat) (x : Int32) : (∃ j, j < n ∧ x = nI j) ∨ cd_bad n x := Classical.em _
theorem cd_str (x : Int32) : (∃ t, 1 ≤ t ∧ t ≤ 4 ∧ x = nI t) ∨ cd_badS x := Classical.em _
theorem cd_xSlot1 {post : Int32 → Prop} {j : Nat} (hj : j < 10) (h : post 1) : wpX_isSlot post (nI j) := br_f (nI_pos (by omega)) (br_f (nI_ge (b := 10) hj (by omega)) h)
theorem cd_xSlot0 {post : Int32 → Prop} {x : Int32} (hx : cd_bad 10 x) (h : post 0) : wpX_isSlot post x := br_c (fun _ => h) (fun n => br_t (cd_bad_ge (n := 10) hx (by omega) n) h)
theorem cd_xLet1 {post : Int32 → Prop} {j : Nat} (hj : j < 10) (h : post 1) : wpX_isLetter post (nI j) := br_f (nI_pos (by omega)) (br_f (nI_ge (b := 10) hj (by omega)) h)
theorem cd_xLet0 {post : Int32 → Prop} {x : Int32} (hx : cd_bad 10 x) (h : post 0) : wpX_isLetter post x := br_c (fun _ => h) (fun n => br_t (cd_bad_ge (n := 10) hx (by omega) n) h)
theorem cd_xStr1 {post : Int32 → Prop} {t : Nat} (h1 : 1 ≤ t) (h4 : t ≤ 4) (h : post 1) : wpX_isStrength post (nI t) := br_f (nI_nlt (b := 1) h1 (by omega)) (br_f (nI_nlt (a := 4) h4 (by omega)) h)
theorem cd_xStr0 {post : Int32 → Prop} {x : Int32} (hx : cd_badS x) (h : post 0) : wpX_isStrength post x := br_c (fun _ => h) (fun n => br_t (cd_badS_gt hx n) h)
theorem cd_10 : ¬ (1 : Int32) = 0 := by decide
/-- the component's state -/
def cd_RX (ln lt : Nat → Nat) (E : cd_E) (g bk sh top : Nat) (u : SX) : Prop := match u with
  | (f_groups, f_backwards, f_shifted, f_top, f_ready, f_ordered, f_wordLength, a_length, a_letters, a_cells, a_groupLength, a_groupLetters, a_groupsFrom, a_count, a_weights, a_order, a_word) => (∃ gL gT, cd_XS ln lt E g bk sh top gL gT f_groups f_backwards f_shifted f_top a_length a_letters a_cells a_groupLength a_groupLetters a_groupsFrom) ∧
    cd_CA (cd_Wf ln lt E sh top) bk f_ready f_ordered a_count a_weights a_order
def cd_kf (ln lt : Nat → Nat) (E : cd_E) (bk sh top t s : Nat) : List Nat := cd_key bk (cd_Wf ln lt E sh top s) t
theorem cd_Wf_len {ln lt : Nat → Nat} {E : cd_E} {g bk sh top s : Nat} (D : cd_D ln lt E g bk sh top) (hs : s < 10) : (cd_Wf ln lt E sh top s).length ≤ 24 := by
  have h1 := D.1 s hs
  have h2 := cd_el_len E lt (12 * s) (12 * s + ln s)
  unfold cd_Wf
  rw [cd_ws_len]
  omega
section XASK
variable {ln lt : Nat → Nat} {E : cd_E} {g bk sh top : Nat} {u : SX} {post : Int32 → SX → Prop}
theorem cd_xElements (D : cd_D ln lt E g bk sh top) (R : cd_RX ln lt E g bk sh top u) {s : Nat} (hs : s < 10) (h : ∀ u', cd_RX ln lt E g bk sh top u' → post (nI (cd_Wf ln lt E sh top s).length) u') : wpX_elements post u (nI s) := by
  obtain ⟨f_groups, f_backwards, f_shifted, f_top, f_ready, f_ordered, f_wordLength, a_length, a_letters, a_cells, a_groupLength, a_groupLetters, a_groupsFrom, a_count, a_weights, a_order, a_word⟩ := u
  unfold wpX_elements
  obtain ⟨⟨gL, gT, S⟩, C⟩ := R
  refine cd_xSlot1 hs (br_f cd_10 (cd_xPrepare D S hs C (fun r' c' w' C' b1 b2 => ?_)))
  refine And.intro (vp_in_nI (by omega) (by omega)) ?_
  rw [nI_clamp (by omega), (C'.1 s hs b1).1]
  exact h _ ⟨⟨gL, gT, S⟩, C'⟩
theorem cd_xElements_b {x : Int32} (hx : cd_bad 10 x) (h : post (-2) u) : wpX_elements post u x := by
  obtain ⟨f_groups, f_backwards, f_shifted, f_top, f_ready, f_ordered, f_wordLength, a_length, a_letters, a_cells, a_groupLength, a_groupLetters, a_groupsFrom, a_count, a_weights, a_order, a_word⟩ := u
  unfold wpX_elements
  exact cd_xSlot0 hx (br_t rfl h)
theorem cd_xCompare (D : cd_D ln lt E g bk sh top) (R : cd_RX ln lt E g bk sh top u) {i j t : Nat} (hi : i < 10) (hj : j < 10) (h1 : 1 ≤ t) (h4 : t ≤ 4)
    (h : ∀ u', cd_RX ln lt E g bk sh top u' → post (cd_cm (cd_kf ln lt E bk sh top t i) (cd_kf ln lt E bk sh top t j)) u') : wpX_compare post u (nI i) (nI j) (nI t) := by
  obtain ⟨f_groups, f_backwards, f_shifted, f_top, f_ready, f_ordered, f_wordLength, a_length, a_letters, a_cells, a_groupLength, a_groupLetters, a_groupsFrom, a_count, a_weights, a_order, a_word⟩ := u
  unfold wpX_compare
  obtain ⟨⟨gL, gT, S⟩, C⟩ := R
  refine cd_xSlot1 hi (br_f cd_10 (cd_xSlot1 hj (br_f cd_10 (cd_xStr1 h1 h4 (br_f cd_10 (cd_xPrepare D S hi C (fun r' c' w' C' b1 b2 => ?_)))))))
  refine cd_xPrepare D S hj C' (fun r2 c2 w2 C2 b3 b4 => ?_)
  exact cd_xCmp ⟨S.2.1, D.2.2.2.2.1⟩ (by omega) (by omega) (C2.1 i hi (b4 i hi b1)) (C2.1 j hj b3) h1 h4 (h _ ⟨⟨gL, gT, S⟩, C2⟩)
theorem cd_xCompare_b {x y z : Int32} (hx : cd_bad 10 x ∨ cd_bad 10 y) (h : post (-2) u) : wpX_compare post u x y z := by
  obtain ⟨f_groups, f_backwards, f_shifted, f_top, f_ready, f_ordered, f_wordLength, a_length, a_letters, a_cells, a_groupLength, a_groupLetters, a_groupsFrom, a_count, a_weights, a_order, a_word⟩ := u
  unfold wpX_compare
  rcases cd_slot 10 x with ⟨i, hi, rfl⟩ | c
  · rcases hx with hx | hx
    · exact absurd ⟨i, hi, rfl⟩ hx
    · exact cd_xSlot1 hi (br_f cd_10 (cd_xSlot0 hx (br_t rfl h)))
  · exact cd_xSlot0 c (br_t rfl h)
theorem cd_xCompare_s {i j : Nat} (hi : i < 10) (hj : j < 10) {z : Int32} (hz : cd_badS z) (h : post (-3) u) : wpX_compare post u (nI i) (nI j) z := by
  obtain ⟨f_groups, f_backwards, f_shifted, f_top, f_ready, f_ordered, f_wordLength, a_length, a_letters, a_cells, a_groupLength, a_groupLetters, a_groupsFrom, a_count, a_weights, a_order, a_word⟩ := u
  unfold wpX_compare
  exact cd_xSlot1 hi (br_f cd_10 (cd_xSlot1 hj (br_f cd_10 (cd_xStr0 hz (br_t rfl h)))))
theorem cd_xKeySize' (D : cd_D ln lt E g bk sh top) (R : cd_RX ln lt E g bk sh top u) {s t : Nat} (hs : s < 10) (h1 : 1 ≤ t) (h4 : t ≤ 4)
    (h : ∀ u', cd_RX ln lt E g bk sh top u' → (∃ f_groups f_backwards f_shifted f_top f_ready f_ordered f_wordLength a_length a_letters a_cells a_groupLength a_groupLetters a_groupsFrom a_count a_weights a_order a_word, u' = (f_groups, f_backwards, f_shifted, f_top, f_ready, f_ordered, f_wordLength, a_length, a_letters, a_cells, a_groupLength, a_groupLetters, a_groupsFrom, a_count, a_weights, a_order, a_word) ∧ cd_SL a_count a_weights s (cd_Wf ln lt E sh top s) ∧ f_backwards = nI bk) → post (nI (cd_kf ln lt E bk sh top t s).length) u') : wpX_keySize post u (nI s) (nI t) := by
  obtain ⟨f_groups, f_backwards, f_shifted, f_top, f_ready, f_ordered, f_wordLength, a_length, a_letters, a_cells, a_groupLength, a_groupLetters, a_groupsFrom, a_count, a_weights, a_order, a_word⟩ := u
  unfold wpX_keySize
  obtain ⟨⟨gL, gT, S⟩, C⟩ := R
  refine cd_xSlot1 hs (br_f cd_10 (cd_xStr1 h1 h4 (br_f cd_10 (cd_xPrepare D S hs C (fun r' c' w' C' b1 b2 => ?_)))))
  refine nm_r (cd_s1 h1) (Exists.intro (t + 1) ?_)
  refine cd_xKs_32 ⟨S.2.1, D.2.2.2.2.1⟩ (by omega) (C'.1 s hs b1) h4 (t - 1) 1 (t - 1) _ (by omega) (by omega) (by omega) ?_
  have q := h (f_groups, f_backwards, f_shifted, f_top, r', f_ordered, f_wordLength, a_length, a_letters, a_cells, a_groupLength, a_groupLetters, a_groupsFrom, c', w', a_order, a_word) ⟨⟨gL, gT, S⟩, C'⟩ ⟨_, _, _, _, _, _, _, _, _, _, _, _, _, _, _, _, _, rfl, C'.1 s hs b1, S.2.1⟩
  unfold cd_kf cd_key at q
  rw [cd_kt_len] at q
  exact q
theorem cd_xKeySize (D : cd_D ln lt E g bk sh top) (R : cd_RX ln lt E g bk sh top u) {s t : Nat} (hs : s < 10) (h1 : 1 ≤ t) (h4 : t ≤ 4)
    (h : ∀ u', cd_RX ln lt E g bk sh top u' → post (nI (cd_kf ln lt E bk sh top t s).length) u') : wpX_keySize post u (nI s) (nI t) := cd_xKeySize' D R hs h1 h4 (fun u' r _ => h u' r)
theorem cd_xKeySize_b {x y : Int32} (hx : cd_bad 10 x) (h : post (-2) u) : wpX_keySize post u x y := by
  obtain ⟨f_groups, f_backwards, f_shifted, f_top, f_ready, f_ordered, f_wordLength, a_length, a_letters, a_cells, a_groupLength, a_groupLetters, a_groupsFrom, a_count, a_weights, a_order, a_word⟩ := u
  unfold wpX_keySize
  exact cd_xSlot0 hx (br_t rfl h)
theorem cd_xKeySize_s {i : Nat} (hi : i < 10) {z : Int32} (hz : cd_badS z) (h : post (-3) u) : wpX_keySize post u (nI i) z := by
  obtain ⟨f_groups, f_backwards, f_shifted, f_top, f_ready, f_ordered, f_wordLength, a_length, a_letters, a_cells, a_groupLength, a_groupLetters, a_groupsFrom, a_count, a_weights, a_order, a_word⟩ := u
  unfold wpX_keySize
  exact cd_xSlot1 hi (br_f cd_10 (cd_xStr0 hz (br_t rfl h)))
theorem cd_kf_len (D : cd_D ln lt E g bk sh top) {s t : Nat} (hs : s < 10) (h1 : 1 ≤ t) (h4 : t ≤ 4) : (cd_kf ln lt E bk sh top t s).length ≤ 99 := by
  have hl := cd_Wf_len D hs
  have h2 := cd_sm_le bk (cd_Wf ln lt E sh top s) (t - 1) 1
  have h3 : (t - 1 + 1) * (cd_Wf ln lt E sh top s).length ≤ 4 * 24 := Nat.mul_le_mul (by omega) hl
  unfold cd_kf cd_key
  rw [cd_kt_len]
  omega
theorem cd_xKeyAt (D : cd_D ln lt E g bk sh top) (R : cd_RX ln lt E g bk sh top u) {s t k : Nat} (hs : s < 10) (h1 : 1 ≤ t) (h4 : t ≤ 4) (hk : k < (cd_kf ln lt E bk sh top t s).length)
    (h : ∀ u', cd_RX ln lt E g bk sh top u' → post (nI (cd_at (cd_kf ln lt E bk sh top t s) k)) u') : wpX_keyAt post u (nI s) (nI t) (nI k) := by
  have hlen := cd_kf_len D hs h1 h4
  obtain ⟨f_groups, f_backwards, f_shifted, f_top, f_ready, f_ordered, f_wordLength, a_length, a_letters, a_cells, a_groupLength, a_groupLetters, a_groupsFrom, a_count, a_weights, a_order, a_word⟩ := u
  unfold wpX_keyAt
  refine cd_xKeySize' D R hs h1 h4 (fun u' R' hS => ?_)
  obtain ⟨g1, g2, g3, g4, g5, g6, g7, b1, b2, b3, b4, b5, b6, b7, b8, b9, b10, rfl, hSL, hbk⟩ := hS
  refine br_t (nI_pos' (by omega)) (br_f (nI_pos (by omega)) (br_t (nI_lt hk (by omega)) (Exists.intro t ?_)))
  exact cd_xKa_35 ⟨hbk, D.2.2.2.2.1⟩ (by omega) hSL h4 (t - 1) 1 k _ (by omega) (by omega) (by omega) hk (h _ R')
theorem cd_xKeyAt_p (D : cd_D ln lt E g bk sh top) (R : cd_RX ln lt E g bk sh top u) {s t : Nat} (hs : s < 10) (h1 : 1 ≤ t) (h4 : t ≤ 4) {x : Int32} (hx : cd_bad (cd_kf ln lt E bk sh top t s).length x)
    (h : ∀ u', cd_RX ln lt E g bk sh top u' → post (-4) u') : wpX_keyAt post u (nI s) (nI t) x := by
  have hlen := cd_kf_len D hs h1 h4
  obtain ⟨f_groups, f_backwards, f_shifted, f_top, f_ready, f_ordered, f_wordLength, a_length, a_letters, a_cells, a_groupLength, a_groupLetters, a_groupsFrom, a_count, a_weights, a_order, a_word⟩ := u
  unfold wpX_keyAt
  refine cd_xKeySize D R hs h1 h4 (fun u' R' => ?_)
  obtain ⟨g1, g2, g3, g4, g5, g6, g7, b1, b2, b3, b4, b5, b6, b7, b8, b9, b10⟩ := u'
  refine br_t (nI_pos' (by omega)) (br_c (fun _ => h _ R') (fun n => br_f ?_ (h _ R')))
  exact Int32.not_lt.mpr (cd_bad_ge hx (by omega) n)
theorem cd_xKeyAt_b {x y z : Int32} (hx : cd_bad 10 x) (h : post (-2) u) : wpX_keyAt post u x y z := by
  obtain ⟨f_groups, f_backwards, f_shifted, f_top, f_ready, f_ordered, f_wordLength, a_length, a_letters, a_cells, a_groupLength, a_groupLetters, a_groupsFrom, a_count, a_weights, a_order, a_word⟩ := u
  unfold wpX_keyAt
  exact cd_xKeySize_b hx (br_f (by decide) h)
theorem cd_xKeyAt_s {i : Nat} (hi : i < 10) {z y : Int32} (hz : cd_badS z) (h : post (-3) u) : wpX_keyAt post u (nI i) z y := by
  obtain ⟨f_groups, f_backwards, f_shifted, f_top, f_ready, f_ordered, f_wordLength, a_length, a_letters, a_cells, a_groupLength, a_groupLetters, a_groupsFrom, a_count, a_weights, a_order, a_word⟩ := u
  unfold wpX_keyAt
  exact cd_xKeySize_s hi hz (br_f (by decide) h)
end XASK
end
section
/-! the component's questions: rank, nth, kinds, find -/
section XASK2
variable {f_groups f_backwards f_shifted f_top f_ready f_ordered f_wordLength : Int32} {a_length a_letters a_cells a_groupLength a_groupLetters a_groupsFrom a_count a_weights a_order a_word : Nat → Int32}
theorem cd_ixo {t k : Nat} (h : 1 ≤ t) : (10 * (nI t - 1)) + nI k = nI (10 * (t - 1) + k) := by rw [cd_s1 h, cd_m10, nI_add]
theorem cd_xRank_30 {post : Int32 → SX → Prop} {Wf : Nat → List cd_W} {bk t s : Nat} {L : List Nat} (hb : f_backwards = nI bk ∧ bk ≤ 1) (h1 : 1 ≤ t) (h4 : t ≤ 4) (hs : s < 10) (hS : ∀ i, i < 10 → cd_SL a_count a_weights i (Wf i))
    (hL : cd_so (fun i => cd_key bk (Wf i) t) L 10) (ho : ∀ k, k < 10 → a_order (10 * (t - 1) + k) = nI (cd_at L k)) (h : post (nI (cd_rk (fun i => cd_key bk (Wf i) t) s)) (f_groups, f_backwards, f_shifted, f_top, f_ready, f_ordered, f_wordLength, a_length, a_letters, a_cells, a_groupLength, a_groupLetters, a_groupsFrom, a_count, a_weights, a_order, a_word)) :
    ∀ d k n, k + d = 10 → d < n → (∀ j, j < k → cd_cm (cd_key bk (Wf (cd_at L j)) t) (cd_key bk (Wf s) t) = -1) → wX_rank_30 post (nI s) (nI t) f_groups f_backwards f_shifted f_top f_ready f_ordered f_wordLength a_length a_letters a_cells a_groupLength a_groupLetters a_groupsFrom a_count a_weights a_order a_word n (nI k) (nI k) := by
  intro d
  induction d with
  | zero =>
    intro k n hk hn hc
    obtain ⟨n, rfl⟩ : ∃ m, n = m + 1 := ⟨n - 1, by omega⟩
    rw [cd_rk_at hL (r := k) (by omega) hc (Or.inl (by omega))] at h
    exact br_t (nI_le (a := 10) (by omega) (by omega)) h
  | succ d ih =>
    intro k n hk hn hc
    obtain ⟨n, rfl⟩ : ∃ m, n = m + 1 := ⟨n - 1, by omega⟩
    have hlt := cd_so_lt hL (k := k) (by omega)
    refine br_f (nI_ge (b := 10) (by omega) (by omega)) ?_
    rw [cd_ixo h1, nI_clamp (by omega), ho k (by omega)]
    refine And.intro (vp_in_nI (by omega) (by omega)) (cd_xCmp hb (by omega) (by omega) (hS _ hlt) (hS s hs) h1 h4 ?_)
    by_cases c : cd_cm (cd_key bk (Wf (cd_at L k)) t) (cd_key bk (Wf s) t) = -1
    · refine br_t ((cd_cm_lt _ _).mpr c) (nm_r (nI_1 k) (nm_r (nI_1 k) (ih (k + 1) n (by omega) (by omega) (fun j hj => ?_))))
      by_cases e : j = k
      · rw [e]
        exact c
      · exact hc j (by omega)
    · rw [cd_rk_at hL (r := k) (by omega) hc (Or.inr c)] at h
      exact br_f (fun z => c ((cd_cm_lt _ _).mp z)) h
def cd_Qk (Wf : Nat → List cd_W) (bk t : Nat) (L : List Nat) (k : Nat) : Bool := decide (k = 0 ∨ ¬ cd_cm (cd_key bk (Wf (cd_at L (k - 1))) t) (cd_key bk (Wf (cd_at L k)) t) = 0)
theorem cd_xKinds_27 {post : Int32 → SX → Prop} {Wf : Nat → List cd_W} {bk t : Nat} {L : List Nat} (hb : f_backwards = nI bk ∧ bk ≤ 1) (h1 : 1 ≤ t) (h4 : t ≤ 4) (hS : ∀ i, i < 10 → cd_SL a_count a_weights i (Wf i))
    (hL : cd_so (fun i => cd_key bk (Wf i) t) L 10) (ho : ∀ k, k < 10 → a_order (10 * (t - 1) + k) = nI (cd_at L k)) (h : post (nI (cd_ct (cd_Qk Wf bk t L) 10)) (f_groups, f_backwards, f_shifted, f_top, f_ready, f_ordered, f_wordLength, a_length, a_letters, a_cells, a_groupLength, a_groupLetters, a_groupsFrom, a_count, a_weights, a_order, a_word)) :
    ∀ d k n, k + d = 10 → 1 ≤ k → d < n → wX_kinds_27 post (nI t) (nI (10 * (t - 1))) f_groups f_backwards f_shifted f_top f_ready f_ordered f_wordLength a_length a_letters a_cells a_groupLength a_groupLetters a_groupsFrom a_count a_weights a_order a_word n (nI (cd_ct (cd_Qk Wf bk t L) k)) (nI k) := by
  intro d
  induction d with
  | zero =>
    intro k n hk hk1 hn
    obtain ⟨n, rfl⟩ : ∃ m, n = m + 1 := ⟨n - 1, by omega⟩
    rw [show k = 10 by omega]
    exact br_t (nI_le (a := 10) (by omega) (by omega)) h
  | succ d ih =>
    intro k n hk hk1 hn
    obtain ⟨n, rfl⟩ : ∃ m, n = m + 1 := ⟨n - 1, by omega⟩
    have l1 := cd_so_lt hL (k := k - 1) (by omega)
    have l2 := cd_so_lt hL (k := k) (by omega)
    have e1 : nI (10 * (t - 1)) + nI k - 1 = nI (10 * (t - 1) + (k - 1)) := by
      rw [nI_add, cd_s1 (by omega)]
      congr 1
      omega
    refine br_f (nI_ge (b := 10) (by omega) (by omega)) ?_
    rw [e1, nI_add, nI_clamp (by omega), nI_clamp (by omega), ho k (by omega), ho (k - 1) (by omega)]
    refine And.intro (vp_in_nI (by omega) (by omega)) (And.intro (vp_in_nI (by omega) (by omega)) (cd_xCmp hb (by omega) (by omega) (hS _ l1) (hS _ l2) h1 h4 ?_))
    by_cases c : cd_cm (cd_key bk (Wf (cd_at L (k - 1))) t) (cd_key bk (Wf (cd_at L k)) t) = 0
    · have q : ¬ cd_Qk Wf bk t L k = true := by
        unfold cd_Qk
        rw [decide_eq_true_iff]
        rintro (z | z)
        · omega
        · exact z c
      have w := ih (k + 1) n (by omega) (by omega) (by omega)
      rw [cd_ct_f q] at w
      exact br_t c (nm_r (cd_a0 _) (nm_r (nI_1 k) w))
    · have q : cd_Qk Wf bk t L k = true := by
        unfold cd_Qk
        rw [decide_eq_true_iff]
        exact Or.inr c
      have w := ih (k + 1) n (by omega) (by omega) (by omega)
      rw [cd_ct_t q] at w
      exact br_f c (nm_r (nI_1 _) (nm_r (nI_1 k) w))
/-- a part of string i from p to q is alike to string j -/
def cd_F (ln lt : Nat → Nat) (E : cd_E) (bk sh top t i j p q : Nat) : Prop := cd_cm (cd_key bk (cd_ws sh top (cd_el E lt (12 * i + p) (12 * i + q))) t) (cd_kf ln lt E bk sh top t j) = 0
def cd_hit (ln lt : Nat → Nat) (E : cd_E) (bk sh top t i j p : Nat) : Prop := ∃ q, p ≤ q ∧ q ≤ ln i ∧ cd_F ln lt E bk sh top t i j p q
theorem cd_CA_out {Wf : Nat → List cd_W} {bk : Nat} {r o : Int32} {c w c' w' od : Nat → Int32} (C : cd_CA Wf bk r o c w od) (hc : ∀ j, ¬ j = 10 → c' j = c j) (hw : cd_out 10 w w') : cd_CA Wf bk r o c' w' od :=
  ⟨fun s hs hb => cd_SL_out (C.1 s hs hb) (by omega) hc hw, C.2⟩
theorem cd_xSf_3 {post : Int32 → SX → Prop} {ln lt : Nat → Nat} {E : cd_E} {g bk sh top : Nat} {gL gT : Nat → Nat} {i j p t : Nat} (D : cd_D ln lt E g bk sh top)
    (S : cd_XS ln lt E g bk sh top gL gT f_groups f_backwards f_shifted f_top a_length a_letters a_cells a_groupLength a_groupLetters a_groupsFrom) (hi : i < 10) (hj : j < 10) (h1 : 1 ≤ t) (h4 : t ≤ 4) (hp : p ≤ ln i) (hr : bt f_ready j = true)
    (hy : ∀ c w, cd_CA (cd_Wf ln lt E sh top) bk f_ready f_ordered c w a_order → cd_hit ln lt E bk sh top t i j p → post 1 (f_groups, f_backwards, f_shifted, f_top, f_ready, f_ordered, f_wordLength, a_length, a_letters, a_cells, a_groupLength, a_groupLetters, a_groupsFrom, c, w, a_order, a_word))
    (hn : ∀ c w, cd_CA (cd_Wf ln lt E sh top) bk f_ready f_ordered c w a_order → ¬ cd_hit ln lt E bk sh top t i j p → post 0 (f_groups, f_backwards, f_shifted, f_top, f_ready, f_ordered, f_wordLength, a_length, a_letters, a_cells, a_groupLength, a_groupLetters, a_groupsFrom, c, w, a_order, a_word)) :
    ∀ n e c w, ln i + 1 < e + n → p ≤ e → e ≤ ln i + 1 → cd_CA (cd_Wf ln lt E sh top) bk f_ready f_ordered c w a_order → (∀ q, p ≤ q → q < e → ¬ cd_F ln lt E bk sh top t i j p q) →
      wX_standsFrom_3 post (nI i) (nI p) (nI j) (nI t) (nI (cd_lv bk (cd_Wf ln lt E sh top j) 1).length) n (nI e) f_groups f_backwards f_shifted f_top f_ready f_ordered f_wordLength a_length a_letters a_cells a_groupLength a_groupLetters a_groupsFrom c w a_order a_word := by
  have d1 := D.1 i hi
  have ec : a_length (nI i).toNatClampNeg = nI (ln i) := by rw [nI_clamp (by omega), S.2.2.2.2.1 i hi]
  have hb : f_backwards = nI bk ∧ bk ≤ 1 := ⟨S.2.1, D.2.2.2.2.1⟩
  have hWj := cd_Wf_len D hj
  have hlj := cd_lv_len bk (cd_Wf ln lt E sh top j) 1
  intro n
  induction n with
  | zero => intro e c w h0 h2 h3; omega
  | succ n ih =>
    intro e c w h0 h2 h3 C hq
    refine And.intro (vp_in_nI hi (by omega)) ?_
    by_cases ce : ln i < e
    · refine br_t (by rw [ec]; exact nI_lt ce (by omega)) (hn c w C ?_)
      rintro ⟨q, q1, q2, q3⟩
      exact hq q q1 (by omega) q3
    · refine br_f (by rw [ec]; exact nI_nlt (by omega) (by omega)) ?_
      rw [cd_m12, nI_add, nI_add]
      refine cd_xWorkOut (s := 10) D S (by omega) (by omega) (by omega) (by omega) (fun c' w' q1 q2 q3 => ?_)
      have C' := cd_CA_out C q1 q2
      have hl1 := cd_lv_len bk (cd_ws sh top (cd_el E lt (12 * i + p) (12 * i + e))) 1
      have hl2 := q3.2.2.1
      have next : ¬ cd_F ln lt E bk sh top t i j p e → wX_standsFrom_3 post (nI i) (nI p) (nI j) (nI t) (nI (cd_lv bk (cd_Wf ln lt E sh top j) 1).length) n (nI (e + 1)) f_groups f_backwards f_shifted f_top f_ready f_ordered f_wordLength a_length a_letters a_cells a_groupLength a_groupLetters a_groupsFrom c' w' a_order a_word := by
        intro z
        refine ih (e + 1) c' w' (by omega) (by omega) (by omega) C' (fun q a b => ?_)
        by_cases x : q = e
        · rw [x]
          exact z
        · exact hq q a (by omega)
      refine cd_xHv (s := 10) (l := 1) hb (by omega) q3 (by omega) (by omega) ?_
      by_cases cl : (cd_lv bk (cd_ws sh top (cd_el E lt (12 * i + p) (12 * i + e))) 1).length = (cd_lv bk (cd_Wf ln lt E sh top j) 1).length
      · refine br_t (congrArg nI cl) ?_
        refine cd_xCmp (i := 10) hb (by omega) (by omega) q3 (C'.1 j hj hr) h1 h4 ?_
        by_cases cf : cd_F ln lt E bk sh top t i j p e
        · exact br_t cf (hy c' w' C' ⟨e, h2, by omega, cf⟩)
        · exact br_f cf (nm_r (nI_1 e) (next cf))
      · refine br_f (fun z => cl ((nI_eq (by omega) (by omega)).mp z)) (nm_r (nI_1 e) (next (fun z => cl ?_)))
        exact cd_kt_eqlen bk _ _ (t - 1) 1 z
theorem cd_xStandsFrom {post : Int32 → SX → Prop} {ln lt : Nat → Nat} {E : cd_E} {g bk sh top : Nat} {gL gT : Nat → Nat} {i j p t : Nat} (D : cd_D ln lt E g bk sh top)
    (S : cd_XS ln lt E g bk sh top gL gT f_groups f_backwards f_shifted f_top a_length a_letters a_cells a_groupLength a_groupLetters a_groupsFrom) (hi : i < 10) (hj : j < 10) (h1 : 1 ≤ t) (h4 : t ≤ 4) (hp : p ≤ ln i) (hr : bt f_ready j = true)
    (C : cd_CA (cd_Wf ln lt E sh top) bk f_ready f_ordered a_count a_weights a_order)
    (hy : ∀ c w, cd_CA (cd_Wf ln lt E sh top) bk f_ready f_ordered c w a_order → cd_hit ln lt E bk sh top t i j p → post 1 (f_groups, f_backwards, f_shifted, f_top, f_ready, f_ordered, f_wordLength, a_length, a_letters, a_cells, a_groupLength, a_groupLetters, a_groupsFrom, c, w, a_order, a_word))
    (hn : ∀ c w, cd_CA (cd_Wf ln lt E sh top) bk f_ready f_ordered c w a_order → ¬ cd_hit ln lt E bk sh top t i j p → post 0 (f_groups, f_backwards, f_shifted, f_top, f_ready, f_ordered, f_wordLength, a_length, a_letters, a_cells, a_groupLength, a_groupLetters, a_groupsFrom, c, w, a_order, a_word)) :
    wpX_standsFrom post (f_groups, f_backwards, f_shifted, f_top, f_ready, f_ordered, f_wordLength, a_length, a_letters, a_cells, a_groupLength, a_groupLetters, a_groupsFrom, a_count, a_weights, a_order, a_word) (nI i) (nI p) (nI j) (nI t) (nI (cd_lv bk (cd_Wf ln lt E sh top j) 1).length) :=
  Exists.intro (ln i + 2) (cd_xSf_3 D S hi hj h1 h4 hp hr hy hn _ p a_count a_weights (by omega) (Nat.le_refl p) (by omega) C (fun q a b => by omega))
theorem cd_xFind_57 {post : Int32 → SX → Prop} {ln lt : Nat → Nat} {E : cd_E} {g bk sh top : Nat} {gL gT : Nat → Nat} {i j b t : Nat} (D : cd_D ln lt E g bk sh top)
    (S : cd_XS ln lt E g bk sh top gL gT f_groups f_backwards f_shifted f_top a_length a_letters a_cells a_groupLength a_groupLetters a_groupsFrom) (hi : i < 10) (hj : j < 10) (h1 : 1 ≤ t) (h4 : t ≤ 4) (hr : bt f_ready j = true)
    (hy : ∀ p c w, cd_CA (cd_Wf ln lt E sh top) bk f_ready f_ordered c w a_order → b ≤ p → p ≤ ln i → cd_hit ln lt E bk sh top t i j p → (∀ q, b ≤ q → q < p → ¬ cd_hit ln lt E bk sh top t i j q) → post (nI p) (f_groups, f_backwards, f_shifted, f_top, f_ready, f_ordered, f_wordLength, a_length, a_letters, a_cells, a_groupLength, a_groupLetters, a_groupsFrom, c, w, a_order, a_word))
    (hn : ∀ c w, cd_CA (cd_Wf ln lt E sh top) bk f_ready f_ordered c w a_order → (∀ q, b ≤ q → q ≤ ln i → ¬ cd_hit ln lt E bk sh top t i j q) → post (-4) (f_groups, f_backwards, f_shifted, f_top, f_ready, f_ordered, f_wordLength, a_length, a_letters, a_cells, a_groupLength, a_groupLetters, a_groupsFrom, c, w, a_order, a_word)) :
    ∀ n p c w, ln i + 2 ≤ p + n → 1 ≤ n → p < 2 ^ 31 → b ≤ p → cd_CA (cd_Wf ln lt E sh top) bk f_ready f_ordered c w a_order → (∀ q, b ≤ q → q < p → ¬ cd_hit ln lt E bk sh top t i j q) →
      wX_find_57 post (nI i) (nI j) (nI t) (nI (cd_lv bk (cd_Wf ln lt E sh top j) 1).length) n (nI p) f_groups f_backwards f_shifted f_top f_ready f_ordered f_wordLength a_length a_letters a_cells a_groupLength a_groupLetters a_groupsFrom c w a_order a_word := by
  have d1 := D.1 i hi
  have ec : a_length (nI i).toNatClampNeg = nI (ln i) := by rw [nI_clamp (by omega), S.2.2.2.2.1 i hi]
  intro n
  induction n with
  | zero => intro p c w h0 h2; omega
  | succ n ih =>
    intro p c w h0 h2 hp hbp C hq
    refine And.intro (vp_in_nI hi (by omega)) ?_
    by_cases cp : ln i < p
    · exact br_t (by rw [ec]; exact nI_lt cp (by omega)) (hn c w C (fun q a z => hq q a (by omega)))
    · refine br_f (by rw [ec]; exact nI_nlt (by omega) (by omega)) ?_
      refine cd_xStandsFrom D S hi hj h1 h4 (by omega) hr C (fun c' w' C' ht => ?_) (fun c' w' C' ht => ?_)
      · exact br_f cd_10 (hy p c' w' C' hbp (by omega) ht hq)
      · refine br_t rfl (nm_r (nI_1 p) (ih (p + 1) c' w' (by omega) (by omega) (by omega) (by omega) C' (fun q a z => ?_)))
        by_cases e : q = p
        · rw [e]
          exact ht
        · exact hq q a (by omega)
end XASK2
section XASK3
variable {ln lt : Nat → Nat} {E : cd_E} {g bk sh top : Nat} {u : SX} {post : Int32 → SX → Prop}
theorem cd_xRank (D : cd_D ln lt E g bk sh top) (R : cd_RX ln lt E g bk sh top u) {s t : Nat} (hs : s < 10) (h1 : 1 ≤ t) (h4 : t ≤ 4)
    (h : ∀ u', cd_RX ln lt E g bk sh top u' → post (nI (cd_rk (cd_kf ln lt E bk sh top t) s)) u') : wpX_rank post u (nI s) (nI t) := by
  obtain ⟨f_groups, f_backwards, f_shifted, f_top, f_ready, f_ordered, f_wordLength, a_length, a_letters, a_cells, a_groupLength, a_groupLetters, a_groupsFrom, a_count, a_weights, a_order, a_word⟩ := u
  unfold wpX_rank
  obtain ⟨⟨gL, gT, S⟩, C⟩ := R
  refine cd_xSlot1 hs (br_f cd_10 (cd_xStr1 h1 h4 (br_f cd_10 (cd_xSort D S h1 h4 C (fun r' o' c' w' od' C' b1 => ?_)))))
  obtain ⟨z1, L, z2, z3⟩ := C'.2 t h1 h4 b1
  exact Exists.intro 11 (cd_xRank_30 ⟨S.2.1, D.2.2.2.2.1⟩ h1 h4 hs (fun i hi => C'.1 i hi (z1 i hi)) z2 z3 (h _ ⟨⟨gL, gT, S⟩, C'⟩) 10 0 11 (by omega) (by omega) (fun j hj => by omega))
theorem cd_xRank_b {x y : Int32} (hx : cd_bad 10 x) (h : post (-2) u) : wpX_rank post u x y := by
  obtain ⟨f_groups, f_backwards, f_shifted, f_top, f_ready, f_ordered, f_wordLength, a_length, a_letters, a_cells, a_groupLength, a_groupLetters, a_groupsFrom, a_count, a_weights, a_order, a_word⟩ := u
  unfold wpX_rank
  exact cd_xSlot0 hx (br_t rfl h)
theorem cd_xRank_s {i : Nat} (hi : i < 10) {z : Int32} (hz : cd_badS z) (h : post (-3) u) : wpX_rank post u (nI i) z := by
  obtain ⟨f_groups, f_backwards, f_shifted, f_top, f_ready, f_ordered, f_wordLength, a_length, a_letters, a_cells, a_groupLength, a_groupLetters, a_groupsFrom, a_count, a_weights, a_order, a_word⟩ := u
  unfold wpX_rank
  exact cd_xSlot1 hi (br_f cd_10 (cd_xStr0 hz (br_t rfl h)))
theorem cd_xNth (D : cd_D ln lt E g bk sh top) (R : cd_RX ln lt E g bk sh top u) {k t : Nat} (hk : k < 10) (h1 : 1 ≤ t) (h4 : t ≤ 4)
    (h : ∀ u' m, cd_RX ln lt E g bk sh top u' → m < 10 → (∀ i, i < 10 → (cd_pl (cd_kf ln lt E bk sh top t) i = k ↔ i = m)) → post (nI m) u') : wpX_nth post u (nI k) (nI t) := by
  obtain ⟨f_groups, f_backwards, f_shifted, f_top, f_ready, f_ordered, f_wordLength, a_length, a_letters, a_cells, a_groupLength, a_groupLetters, a_groupsFrom, a_count, a_weights, a_order, a_word⟩ := u
  unfold wpX_nth
  obtain ⟨⟨gL, gT, S⟩, C⟩ := R
  refine cd_xStr1 h1 h4 (br_f cd_10 (br_f (nI_pos (by omega)) (br_t (nI_lt (b := 10) hk (by omega)) (cd_xSort D S h1 h4 C (fun r' o' c' w' od' C' b1 => ?_)))))
  obtain ⟨z1, L, z2, z3⟩ := C'.2 t h1 h4 b1
  rw [cd_ixo h1]
  refine And.intro (vp_in_nI (by omega) (by omega)) ?_
  rw [nI_clamp (by omega), z3 k hk]
  exact h _ _ ⟨⟨gL, gT, S⟩, C'⟩ (cd_so_lt z2 hk) (fun i hi => cd_pl_u z2 hk hi)
theorem cd_xNth_s {x z : Int32} (hz : cd_badS z) (h : post (-3) u) : wpX_nth post u x z := by
  obtain ⟨f_groups, f_backwards, f_shifted, f_top, f_ready, f_ordered, f_wordLength, a_length, a_letters, a_cells, a_groupLength, a_groupLetters, a_groupsFrom, a_count, a_weights, a_order, a_word⟩ := u
  unfold wpX_nth
  exact cd_xStr0 hz (br_t rfl h)
theorem cd_xNth_b {t : Nat} (h1 : 1 ≤ t) (h4 : t ≤ 4) {x : Int32} (hx : cd_bad 10 x) (h : post (-4) u) : wpX_nth post u x (nI t) := by
  obtain ⟨f_groups, f_backwards, f_shifted, f_top, f_ready, f_ordered, f_wordLength, a_length, a_letters, a_cells, a_groupLength, a_groupLetters, a_groupsFrom, a_count, a_weights, a_order, a_word⟩ := u
  unfold wpX_nth
  exact cd_xStr1 h1 h4 (br_f cd_10 (br_c (fun _ => h) (fun n => br_f (Int32.not_lt.mpr (cd_bad_ge (n := 10) hx (by omega) n)) h)))
theorem cd_xKinds (D : cd_D ln lt E g bk sh top) (R : cd_RX ln lt E g bk sh top u) {t : Nat} (h1 : 1 ≤ t) (h4 : t ≤ 4)
    (h : ∀ u', cd_RX ln lt E g bk sh top u' → post (nI (cd_kn (cd_kf ln lt E bk sh top t))) u') : wpX_kinds post u (nI t) := by
  obtain ⟨f_groups, f_backwards, f_shifted, f_top, f_ready, f_ordered, f_wordLength, a_length, a_letters, a_cells, a_groupLength, a_groupLetters, a_groupsFrom, a_count, a_weights, a_order, a_word⟩ := u
  unfold wpX_kinds
  obtain ⟨⟨gL, gT, S⟩, C⟩ := R
  refine cd_xStr1 h1 h4 (br_f cd_10 (cd_xSort D S h1 h4 C (fun r' o' c' w' od' C' b1 => ?_)))
  obtain ⟨z1, L, z2, z3⟩ := C'.2 t h1 h4 b1
  refine nm_r (e' := nI (10 * (t - 1))) (by rw [cd_s1 h1, cd_m10]) (Exists.intro 10 ?_)
  have q := h (f_groups, f_backwards, f_shifted, f_top, r', o', f_wordLength, a_length, a_letters, a_cells, a_groupLength, a_groupLetters, a_groupsFrom, c', w', od', a_word) ⟨⟨gL, gT, S⟩, C'⟩
  have e : cd_kn (cd_kf ln lt E bk sh top t) = cd_ct (cd_Qk (cd_Wf ln lt E sh top) bk t L) 10 := cd_kn_at z2
  rw [e] at q
  exact cd_xKinds_27 ⟨S.2.1, D.2.2.2.2.1⟩ h1 h4 (fun i hi => C'.1 i hi (z1 i hi)) z2 z3 q 9 1 10 (by omega) (by omega) (by omega)
theorem cd_xKinds_s {z : Int32} (hz : cd_badS z) (h : post (-3) u) : wpX_kinds post u z := by
  obtain ⟨f_groups, f_backwards, f_shifted, f_top, f_ready, f_ordered, f_wordLength, a_length, a_letters, a_cells, a_groupLength, a_groupLetters, a_groupsFrom, a_count, a_weights, a_order, a_word⟩ := u
  unfold wpX_kinds
  exact cd_xStr0 hz (br_t rfl h)
/-- find: from x on, read as b -/
theorem cd_xFind (D : cd_D ln lt E g bk sh top) (R : cd_RX ln lt E g bk sh top u) {i j t b : Nat} (hi : i < 10) (hj : j < 10) (h1 : 1 ≤ t) (h4 : t ≤ 4) {x : Int32} (hx : (x < 0 ∧ b = 0) ∨ (x = nI b ∧ b < 2 ^ 31))
    (hy : ∀ p u', cd_RX ln lt E g bk sh top u' → b ≤ p → p ≤ ln i → cd_hit ln lt E bk sh top t i j p → (∀ q, b ≤ q → q < p → ¬ cd_hit ln lt E bk sh top t i j q) → post (nI p) u')
    (hn : ∀ u', cd_RX ln lt E g bk sh top u' → (∀ q, b ≤ q → q ≤ ln i → ¬ cd_hit ln lt E bk sh top t i j q) → post (-4) u') : wpX_find post u (nI i) (nI j) (nI t) x := by
  obtain ⟨f_groups, f_backwards, f_shifted, f_top, f_ready, f_ordered, f_wordLength, a_length, a_letters, a_cells, a_groupLength, a_groupLetters, a_groupsFrom, a_count, a_weights, a_order, a_word⟩ := u
  unfold wpX_find
  obtain ⟨⟨gL, gT, S⟩, C⟩ := R
  refine cd_xSlot1 hi (br_f cd_10 (cd_xSlot1 hj (br_f cd_10 (cd_xStr1 h1 h4 (br_f cd_10 (cd_xPrepare D S hj C (fun r' c' w' C' b1 b2 => ?_)))))))
  have hl1 := cd_lv_len bk (cd_Wf ln lt E sh top j) 1
  refine cd_xHv (l := 1) ⟨S.2.1, D.2.2.2.2.1⟩ (by omega) (C'.1 j hj b1) (by omega) (by omega) ?_
  have go : b < 2 ^ 31 → ∃ n, wX_find_57 post (nI i) (nI j) (nI t) (nI (cd_lv bk (cd_Wf ln lt E sh top j) 1).length) n (nI b) f_groups f_backwards f_shifted f_top r' f_ordered f_wordLength a_length a_letters a_cells a_groupLength a_groupLetters a_groupsFrom c' w' a_order a_word := fun hb =>
    ⟨ln i + 2, cd_xFind_57 (b := b) D S hi hj h1 h4 b1 (fun p c w C2 q1 q2 q3 q4 => hy p _ ⟨⟨gL, gT, S⟩, C2⟩ q1 q2 q3 q4) (fun c w C2 q => hn _ ⟨⟨gL, gT, S⟩, C2⟩ q) _ b c' w' (by omega) (by omega) hb (Nat.le_refl b) C' (fun q a z => by omega)⟩
  rcases hx with ⟨hx, e⟩ | ⟨hx, hb⟩
  · refine br_f (Int32.not_le.mpr hx) ?_
    have z := go (by omega)
    rw [e] at z
    exact z
  · rw [hx]
    exact br_t (nI_pos' hb) (go hb)
theorem cd_xFind_b {x y z f : Int32} (hx : cd_bad 10 x ∨ cd_bad 10 y) (h : post (-2) u) : wpX_find post u x y z f := by
  obtain ⟨f_groups, f_backwards, f_shifted, f_top, f_ready, f_ordered, f_wordLength, a_length, a_letters, a_cells, a_groupLength, a_groupLetters, a_groupsFrom, a_count, a_weights, a_order, a_word⟩ := u
  unfold wpX_find
  rcases cd_slot 10 x with ⟨i, hi, rfl⟩ | c
  · rcases hx with hx | hx
    · exact absurd ⟨i, hi, rfl⟩ hx
    · exact cd_xSlot1 hi (br_f cd_10 (cd_xSlot0 hx (br_t rfl h)))
  · exact cd_xSlot0 c (br_t rfl h)
theorem cd_xFind_s {i j : Nat} (hi : i < 10) (hj : j < 10) {z f : Int32} (hz : cd_badS z) (h : post (-3) u) : wpX_find post u (nI i) (nI j) z f := by
  obtain ⟨f_groups, f_backwards, f_shifted, f_top, f_ready, f_ordered, f_wordLength, a_length, a_letters, a_cells, a_groupLength, a_groupLetters, a_groupsFrom, a_count, a_weights, a_order, a_word⟩ := u
  unfold wpX_find
  exact cd_xSlot1 hi (br_f cd_10 (cd_xSlot1 hj (br_f cd_10 (cd_xStr0 hz (br_t rfl h)))))
end XASK3
end
section
/-! the reference: entries, elements, shift -/
def cd_cI : Option Nat → Int32
  | none => 1
  | some _ => 2
def cd_YE (E : cd_E) (g : Nat) (wd : Nat → Nat) (words counts ones twos : Nat → Int32) : Prop :=
  (∀ e, e < 10 + g → words e = nI (wd e) ∧ wd e < 2 ^ 31) ∧ (∀ c, c < 10 → wd c = c + 1) ∧
  (∀ e, e < 10 + g → ∃ a b, E (wd e) = some (a, b) ∧ ones e = nI a ∧ counts e = cd_cI b ∧ ∀ c, b = some c → twos e = nI c) ∧
  (∀ e e', e < 10 + g → e' < 10 + g → wd e = wd e' → e = e') ∧ (∀ w, (E w).isSome = true → ∃ e, e < 10 + g ∧ wd e = w)
def cd_YS (ln lt : Nat → Nat) (E : cd_E) (g bk sh top : Nat) (wd : Nat → Nat) (f_longer f_backwards f_shifted f_top : Int32) (a_sizes a_letters a_words a_counts a_ones a_twos : Nat → Int32) : Prop :=
  f_longer = nI g ∧ f_backwards = nI bk ∧ f_shifted = nI sh ∧ f_top = nI top ∧ (∀ s, s < 10 → a_sizes s = nI (ln s)) ∧ (∀ j, j < 120 → a_letters j = nI (lt j)) ∧ cd_YE E g wd a_words a_counts a_ones a_twos
def cd_wt (e l : Nat) : Nat := if l = 1 then e % 32 else if l = 2 then e / 32 % 8 else e / 256
section YREAD
variable {f_longer f_backwards f_shifted f_top f_many : Int32} {a_sizes a_letters a_words a_counts a_ones a_twos a_first a_second a_third a_fourth a_keySizes a_keys : Nat → Int32}
theorem cd_yEntryOf_2 {post : Int32 → Prop} {E : cd_E} {g w : Nat} {wd : Nat → Nat} (hg : g ≤ 6) (hl : f_longer = nI g) (hE : cd_YE E g wd a_words a_counts a_ones a_twos) (hw : w < 2 ^ 31)
    (h0 : E w = none → post (-1)) (h1 : ∀ e, e < 10 + g → wd e = w → post (nI e)) :
    ∀ d e n, e + d = 10 + g → d < n → (∀ i, i < e → ¬ wd i = w) → wY_entryOf_2 post (nI w) f_longer f_backwards f_shifted f_top f_many a_sizes a_letters a_words a_counts a_ones a_twos a_first a_second a_third a_fourth a_keySizes a_keys n (nI e) := by
  intro d
  induction d with
  | zero =>
    intro e n he hn hi
    obtain ⟨n, rfl⟩ : ∃ m, n = m + 1 := ⟨n - 1, by omega⟩
    refine br_t (by rw [hl, cd_p10]; exact nI_le (by omega) (by omega)) (h0 ?_)
    cases q : E w with
    | none => rfl
    | some x =>
      exfalso
      obtain ⟨i, i1, i2⟩ := hE.2.2.2.2 w (by rw [q]; rfl)
      exact hi i (by omega) i2
  | succ d ih =>
    intro e n he hn hi
    obtain ⟨n, rfl⟩ : ∃ m, n = m + 1 := ⟨n - 1, by omega⟩
    obtain ⟨e1, e2⟩ := hE.1 e (by omega)
    refine br_f (by rw [hl, cd_p10]; exact nI_ge (by omega) (by omega)) (And.intro (vp_in_nI (by omega) (by omega)) ?_)
    rw [nI_clamp (by omega), e1]
    by_cases c : wd e = w
    · exact br_t (congrArg nI c) (h1 e (by omega) c)
    · refine br_f (fun z => c ((nI_eq e2 hw).mp z)) (nm_r (nI_1 e) (ih (e + 1) n (by omega) (by omega) (fun i hi' => ?_)))
      by_cases x : i = e
      · rw [x]
        exact c
      · exact hi i (by omega)
theorem cd_yEntryOf {post : Int32 → Prop} {E : cd_E} {g w : Nat} {wd : Nat → Nat} (hg : g ≤ 6) (hl : f_longer = nI g) (hE : cd_YE E g wd a_words a_counts a_ones a_twos) (hw : w < 2 ^ 31)
    (h0 : E w = none → post (-1)) (h1 : ∀ e, e < 10 + g → wd e = w → post (nI e)) : wpY_entryOf post (f_longer, f_backwards, f_shifted, f_top, f_many, a_sizes, a_letters, a_words, a_counts, a_ones, a_twos, a_first, a_second, a_third, a_fourth, a_keySizes, a_keys) (nI w) :=
  Exists.intro (10 + g + 1) (cd_yEntryOf_2 hg hl hE hw h0 h1 (10 + g) 0 _ (by omega) (by omega) (fun i hi => by omega))
theorem cd_32 : ¬ (32 : Int32) = 0 := by decide
theorem cd_8 : ¬ (8 : Int32) = 0 := by decide
theorem cd_256 : ¬ (256 : Int32) = 0 := by decide
theorem cd_11 : ¬ (11 : Int32) = 0 := by decide
theorem cd_yWeight {post : Int32 → Prop} {e l : Nat} (he : e < 1024) (hl : 1 ≤ l) (hl3 : l ≤ 3) (h : post (nI (cd_wt e l))) : wpY_weight post (f_longer, f_backwards, f_shifted, f_top, f_many, a_sizes, a_letters, a_words, a_counts, a_ones, a_twos, a_first, a_second, a_third, a_fourth, a_keySizes, a_keys) (nI e) (nI l) := by
  unfold cd_wt at h
  by_cases c1 : l = 1
  · rw [if_pos c1] at h
    exact br_t (by rw [c1]; rfl) (And.intro cd_32 (by rw [cd_y1 he]; exact h))
  · rw [if_neg c1] at h
    refine br_f (fun z => c1 ((nI_eq (b := 1) (by omega) (by omega)).mp z)) ?_
    by_cases c2 : l = 2
    · rw [if_pos c2] at h
      exact br_t (by rw [c2]; rfl) (And.intro cd_32 (And.intro cd_8 (by rw [cd_y2 he]; exact h)))
    · rw [if_neg c2] at h
      exact br_f (fun z => c2 ((nI_eq (b := 2) (by omega) (by omega)).mp z)) (And.intro cd_256 (by rw [cd_y3 he]; exact h))
theorem cd_yAdd {post : SY → Prop} {W : List cd_W} {e : Nat} (he : e < 1024) (hm : W.length < 24) (hf : f_many = nI W.length) (hX : cd_R a_first a_second a_third a_fourth W)
    (h : ∀ f1 f2 f3 f4, cd_R f1 f2 f3 f4 (W ++ [cd_w0 e]) → post (f_longer, f_backwards, f_shifted, f_top, nI (W.length + 1), a_sizes, a_letters, a_words, a_counts, a_ones, a_twos, f1, f2, f3, f4, a_keySizes, a_keys)) : wpY_addElement post (f_longer, f_backwards, f_shifted, f_top, f_many, a_sizes, a_letters, a_words, a_counts, a_ones, a_twos, a_first, a_second, a_third, a_fourth, a_keySizes, a_keys) (nI e) := by
  subst hf
  have h' := h (upd a_first W.length (nI (e % 32))) (upd a_second W.length (nI (e / 32 % 8))) (upd a_third W.length (nI (e / 256))) (upd a_fourth W.length (nI 0))
    (cd_R_app hX (fun k hk => ⟨pk_un (by omega), pk_un (by omega), pk_un (by omega), pk_un (by omega)⟩) ⟨pk_us, pk_us, pk_us, pk_us⟩)
  have ec : (nI W.length).toNatClampNeg = W.length := nI_clamp (by omega)
  have hv : vp_in (nI W.length) 24 := vp_in_nI hm (by omega)
  unfold wpY_addElement
  refine cd_yWeight (l := 1) he (by omega) (by omega) ?_
  refine And.intro hv (nm_r (e' := upd a_first W.length (nI (e % 32))) (by rw [ec]; rfl) ?_)
  refine cd_yWeight (l := 2) he (by omega) (by omega) ?_
  refine And.intro hv (nm_r (e' := upd a_second W.length (nI (e / 32 % 8))) (by rw [ec]; rfl) ?_)
  refine cd_yWeight (l := 3) he (by omega) (by omega) ?_
  refine And.intro hv (nm_r (e' := upd a_third W.length (nI (e / 256))) (by rw [ec]; rfl) ?_)
  exact And.intro hv (nm_r (e' := upd a_fourth W.length (nI 0)) (by rw [ec]; rfl) (nm_r (nI_1 W.length) h'))
/-- one more letter -/
theorem cd_yIn_s {post : SY → Prop} {J : Int32 → Int32 → Int32 → Int32 → Int32 → Int32 → (Nat → Int32) → (Nat → Int32) → (Nat → Int32) → (Nat → Int32) → (Nat → Int32) → (Nat → Int32) → (Nat → Int32) → (Nat → Int32) → (Nat → Int32) → (Nat → Int32) → (Nat → Int32) → (Nat → Int32) → Prop}
    {E : cd_E} {g s p to k w x w' n : Nat} {wd lt : Nat → Nat} {fd le : Int32} (hg : g ≤ 6) (hl : f_longer = nI g) (hE : cd_YE E g wd a_words a_counts a_ones a_twos) (hL : ∀ j, j < 120 → a_letters j = nI (lt j)) (hs : s < 10) (hk1 : 1 ≤ k) (hk3 : k ≤ 3) (hp : p + k ≤ to) (hto : to ≤ 12)
    (hw : w + x * (lt (12 * s + p + k - 1) + 1) = w') (hw' : w' < 2 ^ 31)
    (h0 : E w' = none → wY_findElements_29 post J (nI s) (nI to) (nI p) f_longer f_backwards f_shifted f_top f_many a_sizes a_letters a_words a_counts a_ones a_twos a_first a_second a_third a_fourth a_keySizes a_keys n fd le (nI w') (nI (11 * x)) (nI (k + 1)))
    (h1 : ∀ e, e < 10 + g → wd e = w' → wY_findElements_29 post J (nI s) (nI to) (nI p) f_longer f_backwards f_shifted f_top f_many a_sizes a_letters a_words a_counts a_ones a_twos a_first a_second a_third a_fourth a_keySizes a_keys n (nI e) (nI k) (nI w') (nI (11 * x)) (nI (k + 1))) :
    wY_findElements_29 post J (nI s) (nI to) (nI p) f_longer f_backwards f_shifted f_top f_many a_sizes a_letters a_words a_counts a_ones a_twos a_first a_second a_third a_fourth a_keySizes a_keys (n + 1) fd le (nI w) (nI x) (nI k) := by
  have ei : (((12 * nI s) + nI p) + nI k) - 1 = nI (12 * s + p + k - 1) := by rw [cd_m12, nI_add, nI_add, cd_s1 (by omega)]
  refine br_f (nI_nlt (a := 3) hk3 (by omega)) (br_f (by rw [nI_add]; exact nI_nlt hp (by omega)) ?_)
  rw [ei]
  refine And.intro (vp_in_nI (by omega) (by omega)) (nm_r (e' := nI w') (by rw [nI_clamp (by omega), hL _ (by omega), nI_1, pk_mul, nI_add, hw]) (nm_r (cd_m11 x) ?_))
  refine cd_yEntryOf hg hl hE hw' (fun q => ?_) (fun e he q => ?_)
  · refine br_t (by decide) ?_
    unfold wY_findElements_98
    exact br_t (by decide) (nm_r (nI_1 k) (h0 q))
  · refine br_f (nI_pos (by omega)) ?_
    unfold wY_findElements_98
    exact br_f (nI_pos (by omega)) (nm_r (nI_1 k) (h1 e he q))
theorem cd_yIn_x {post : SY → Prop} {J : Int32 → Int32 → Int32 → Int32 → Int32 → Int32 → (Nat → Int32) → (Nat → Int32) → (Nat → Int32) → (Nat → Int32) → (Nat → Int32) → (Nat → Int32) → (Nat → Int32) → (Nat → Int32) → (Nat → Int32) → (Nat → Int32) → (Nat → Int32) → (Nat → Int32) → Prop}
    {s p to k n : Nat} {fd le x7 x8 : Int32} (hk : k ≤ 4) (hto : to ≤ 12) (hp : p ≤ to) (hx : k = 4 ∨ to < p + k) (h : wY_findElements_120 post J (nI s) (nI to) (nI p) fd le f_longer f_backwards f_shifted f_top f_many a_sizes a_letters a_words a_counts a_ones a_twos a_first a_second a_third a_fourth a_keySizes a_keys) :
    wY_findElements_29 post J (nI s) (nI to) (nI p) f_longer f_backwards f_shifted f_top f_many a_sizes a_letters a_words a_counts a_ones a_twos a_first a_second a_third a_fourth a_keySizes a_keys (n + 1) fd le x7 x8 (nI k) := by
  by_cases c : k = 4
  · exact br_t (by rw [c]; decide) h
  · exact br_f (nI_nlt (a := 3) (by omega) (by omega)) (br_t (by rw [nI_add]; exact nI_lt (by omega) (by omega)) h)
theorem cd_yIn {post : SY → Prop} {J : Int32 → Int32 → Int32 → Int32 → Int32 → Int32 → (Nat → Int32) → (Nat → Int32) → (Nat → Int32) → (Nat → Int32) → (Nat → Int32) → (Nat → Int32) → (Nat → Int32) → (Nat → Int32) → (Nat → Int32) → (Nat → Int32) → (Nat → Int32) → (Nat → Int32) → Prop}
    {E : cd_E} {g s p to : Nat} {wd lt : Nat → Nat} (hg : g ≤ 6) (hl : f_longer = nI g) (hok : cd_Ok E) (hE : cd_YE E g wd a_words a_counts a_ones a_twos) (hL : ∀ j, j < 120 → a_letters j = nI (lt j)) (hlt : ∀ j, j < 120 → lt j < 10) (hs : s < 10) (hp : p < to) (hto : to ≤ 12)
    (h : ∀ e, e < 10 + g → wd e = cd_wn lt (cd_ln E lt (12 * s + p) (12 * s + to)) (12 * s + p) → wY_findElements_120 post J (nI s) (nI to) (nI p) (nI e) (nI (cd_ln E lt (12 * s + p) (12 * s + to))) f_longer f_backwards f_shifted f_top f_many a_sizes a_letters a_words a_counts a_ones a_twos a_first a_second a_third a_fourth a_keySizes a_keys) :
    wY_findElements_29 post J (nI s) (nI to) (nI p) f_longer f_backwards f_shifted f_top f_many a_sizes a_letters a_words a_counts a_ones a_twos a_first a_second a_third a_fourth a_keySizes a_keys 4 (-1) 0 0 1 1 := by
  have l0 := hlt (12 * s + p) (by omega)
  have e1 := cd_wn_1 lt (12 * s + p)
  have e2 := cd_wn_2 lt (12 * s + p)
  have e3 := cd_wn_3 lt (12 * s + p)
  have n1 : cd_ln E lt (12 * s + p) (12 * s + to) = 1 ∨ p + 2 ≤ to := by
    rcases Nat.lt_or_ge to (p + 2) with c | c
    · left
      unfold cd_ln
      rw [if_neg (by omega), if_neg (by omega)]
    · exact Or.inr c
  refine cd_yIn_s (k := 1) (w := 0) (x := 1) (w' := cd_wn lt 1 (12 * s + p)) hg hl hE hL hs (by omega) (by omega) (by omega) hto (by rw [e1, show 12 * s + p + 1 - 1 = 12 * s + p by omega] <;> omega) (by omega) (fun q => ?_) (fun f1 hf1 q1 => ?_)
  · exfalso
    have z := hok.2 _ l0
    rw [← e1, q] at z
    cases z
  rcases Nat.lt_or_ge to (p + 2) with c2 | c2
  · refine cd_yIn_x (k := 2) (by omega) hto (by omega) (Or.inr c2) ?_
    have z : cd_ln E lt (12 * s + p) (12 * s + to) = 1 := by omega
    rw [z] at h
    exact h f1 hf1 q1
  have l1 := hlt (12 * s + p + 1) (by omega)
  refine cd_yIn_s (k := 2) (w := cd_wn lt 1 (12 * s + p)) (x := 11 * 1) (w' := cd_wn lt 2 (12 * s + p)) hg hl hE hL hs (by omega) (by omega) (by omega) hto (by rw [e1, e2, show 12 * s + p + 2 - 1 = 12 * s + p + 1 by omega] <;> omega) (by omega) (fun q2 => ?_) (fun f2 hf2 q2 => ?_)
  · rcases Nat.lt_or_ge to (p + 3) with c3 | c3
    · refine cd_yIn_x (k := 3) (by omega) hto (by omega) (Or.inr c3) ?_
      have z : cd_ln E lt (12 * s + p) (12 * s + to) = 1 := by
        unfold cd_ln
        rw [if_neg (by omega), if_neg (by rw [q2]; intro z; cases z.2)]
      rw [z] at h
      exact h f1 hf1 q1
    · have l2 := hlt (12 * s + p + 2) (by omega)
      refine cd_yIn_s (k := 3) (w := cd_wn lt 2 (12 * s + p)) (x := 11 * (11 * 1)) (w' := cd_wn lt 3 (12 * s + p)) hg hl hE hL hs (by omega) (by omega) (by omega) hto (by rw [e2, e3, show 12 * s + p + 3 - 1 = 12 * s + p + 2 by omega] <;> omega) (by omega) (fun q3 => ?_) (fun f3 hf3 q3 => ?_)
      · refine cd_yIn_x (k := 4) (by omega) hto (by omega) (Or.inl rfl) ?_
        have z : cd_ln E lt (12 * s + p) (12 * s + to) = 1 := by
          unfold cd_ln
          rw [if_neg (by rw [q3]; intro z; cases z.2), if_neg (by rw [q2]; intro z; cases z.2)]
        rw [z] at h
        exact h f1 hf1 q1
      · refine cd_yIn_x (k := 4) (by omega) hto (by omega) (Or.inl rfl) ?_
        have z : cd_ln E lt (12 * s + p) (12 * s + to) = 3 := by
          unfold cd_ln
          obtain ⟨x, y, hx, -⟩ := hE.2.2.1 f3 hf3
          rw [if_pos]
          refine ⟨by omega, ?_⟩
          rw [← q3, hx]
          rfl
        rw [z] at h
        exact h f3 hf3 q3
  · have s2 : (E (cd_wn lt 2 (12 * s + p))).isSome = true := by
      obtain ⟨x, y, hx, -⟩ := hE.2.2.1 f2 hf2
      rw [← q2, hx]
      rfl
    rcases Nat.lt_or_ge to (p + 3) with c3 | c3
    · refine cd_yIn_x (k := 3) (by omega) hto (by omega) (Or.inr c3) ?_
      have z : cd_ln E lt (12 * s + p) (12 * s + to) = 2 := by
        unfold cd_ln
        rw [if_neg (by omega), if_pos ⟨by omega, s2⟩]
      rw [z] at h
      exact h f2 hf2 q2
    · have l2 := hlt (12 * s + p + 2) (by omega)
      refine cd_yIn_s (k := 3) (w := cd_wn lt 2 (12 * s + p)) (x := 11 * (11 * 1)) (w' := cd_wn lt 3 (12 * s + p)) hg hl hE hL hs (by omega) (by omega) (by omega) hto (by rw [e2, e3, show 12 * s + p + 3 - 1 = 12 * s + p + 2 by omega] <;> omega) (by omega) (fun q3 => ?_) (fun f3 hf3 q3 => ?_)
      · refine cd_yIn_x (k := 4) (by omega) hto (by omega) (Or.inl rfl) ?_
        have z : cd_ln E lt (12 * s + p) (12 * s + to) = 2 := by
          unfold cd_ln
          rw [if_neg (by rw [q3]; intro z; cases z.2), if_pos ⟨by omega, s2⟩]
        rw [z] at h
        exact h f2 hf2 q2
      · refine cd_yIn_x (k := 4) (by omega) hto (by omega) (Or.inl rfl) ?_
        have z : cd_ln E lt (12 * s + p) (12 * s + to) = 3 := by
          unfold cd_ln
          obtain ⟨x, y, hx, -⟩ := hE.2.2.1 f3 hf3
          rw [if_pos]
          refine ⟨by omega, ?_⟩
          rw [← q3, hx]
          rfl
        rw [z] at h
        exact h f3 hf3 q3
end YREAD
end
section
/-! the reference: shift, findElements -/
section YWORK
variable {f_longer f_backwards f_shifted f_top f_many : Int32} {a_sizes a_letters a_words a_counts a_ones a_twos a_first a_second a_third a_fourth a_keySizes a_keys : Nat → Int32}
/-- behind a variable or swallowed element -/
theorem cd_yClear {post : SY → Prop} {k : Nat} (hk : k < 24) (h : post (f_longer, f_backwards, f_shifted, f_top, f_many, a_sizes, a_letters, a_words, a_counts, a_ones, a_twos, upd a_first k 0, upd a_second k 0, upd a_third k 0, a_fourth, a_keySizes, a_keys)) : wpY_clearWeights post (f_longer, f_backwards, f_shifted, f_top, f_many, a_sizes, a_letters, a_words, a_counts, a_ones, a_twos, a_first, a_second, a_third, a_fourth, a_keySizes, a_keys) (nI k) := by
  have ec : (nI k).toNatClampNeg = k := nI_clamp (by omega)
  have hv : vp_in (nI k) 24 := vp_in_nI hk (by omega)
  exact And.intro hv (nm_r (by rw [ec]) (And.intro hv (nm_r (by rw [ec]) (And.intro hv (nm_r (by rw [ec]) h)))))
theorem cd_yShift_4 {post : SY → Prop} {top : Nat} {T : List Nat} (hsh : f_shifted = 1) (ht : f_top = nI top) (htop : top ≤ 30) (hc : f_many = nI T.length) (hT : T.length ≤ 24)
    (h : ∀ f1 f2 f3 f4, cd_R f1 f2 f3 f4 (cd_sf top false T) → post (f_longer, f_backwards, f_shifted, f_top, f_many, a_sizes, a_letters, a_words, a_counts, a_ones, a_twos, f1, f2, f3, f4, a_keySizes, a_keys)) :
    ∀ (R : List Nat) (A : List cd_W) (b : Bool) (f1 f2 f3 f4 : Nat → Int32) (n : Nat), A ++ cd_sf top b R = cd_sf top false T → A.length + R.length = T.length → (∀ e, e ∈ R → cd_ok e) → R.length < n →
      cd_R f1 f2 f3 f4 (A ++ R.map cd_w0) → wY_shift_4 post n (cd_bI b) (nI A.length) f_longer f_backwards f_shifted f_top f_many a_sizes a_letters a_words a_counts a_ones a_twos f1 f2 f3 f4 a_keySizes a_keys := by
  intro R
  induction R with
  | nil =>
    intro A b f1 f2 f3 f4 n hA hl _ hn hw
    obtain ⟨n, rfl⟩ : ∃ k, n = k + 1 := ⟨n - 1, by omega⟩
    rw [List.length_nil, Nat.add_zero] at hl
    rw [List.map_nil, List.append_nil] at hw
    have hA' : A = cd_sf top false T := by
      rw [← hA]
      exact (List.append_nil A).symm
    exact br_t (by rw [hc]; exact nI_le (by omega) (by omega)) (h f1 f2 f3 f4 (by rw [← hA']; exact hw))
  | cons e R ih =>
    intro A b f1 f2 f3 f4 n hA hl hR hn hw
    obtain ⟨n, rfl⟩ : ∃ k, n = k + 1 := ⟨n - 1, by omega⟩
    rw [List.length_cons] at hl hn
    rw [List.map_cons] at hw
    have hR' : ∀ e, e ∈ R → cd_ok e := fun x hx => hR x (List.mem_cons_of_mem _ hx)
    obtain ⟨o1, o2⟩ := hR e List.mem_cons_self
    have hq := hw A.length (by rw [List.length_append, List.length_cons]; omega)
    rw [cd_wa_m] at hq
    obtain ⟨q1, q2, q3, q4⟩ := hq
    have q1' : f1 A.length = nI (e % 32) := q1
    have q2' : f2 A.length = nI (e / 32 % 8) := q2
    have q3' : f3 A.length = nI (e / 256) := q3
    have hp : e % 32 < 32 := by omega
    have ec : (nI A.length).toNatClampNeg = A.length := nI_clamp (by omega)
    have hv : vp_in (nI A.length) 24 := vp_in_nI (by omega) (by omega)
    have next : ∀ (y : cd_W) (b' : Bool) (g1 g2 g3 g4 : Nat → Int32), cd_sf top b (e :: R) = y :: cd_sf top b' R → cd_R g1 g2 g3 g4 (A ++ y :: R.map cd_w0) →
        wY_shift_4 post n (cd_bI b') (nI (A.length + 1)) f_longer f_backwards f_shifted f_top f_many a_sizes a_letters a_words a_counts a_ones a_twos g1 g2 g3 g4 a_keySizes a_keys := by
      intro y b' g1 g2 g3 g4 hy hw'
      have z := ih (A ++ [y]) b' g1 g2 g3 g4 n (by rw [List.append_assoc, List.singleton_append, ← hy]; exact hA) (by rw [List.length_append, List.length_singleton]; omega) hR' (by omega)
        (by rw [List.append_assoc, List.singleton_append]; exact hw')
      rw [List.length_append, List.length_singleton] at z
      exact z
    -- the end of a turn that clears
    have dead : ∀ (p : Nat) (x3 x4 : Int32), (¬ x3 = 0 ∨ ¬ x4 = 0) → cd_sf top b (e :: R) = (0, 0, 0, p) :: cd_sf top true R →
        wY_shift_133 post (wY_shift_4 post n) (nI A.length) x3 x4 (nI p) (nI A.length) f_longer f_backwards f_shifted f_top f_many a_sizes a_letters a_words a_counts a_ones a_twos f1 f2 f3 f4 a_keySizes a_keys := by
      intro p x3 x4 hx hy
      unfold wY_shift_133
      refine And.intro hv (nm_r (e' := upd f4 A.length (nI p)) (by rw [ec]) ?_)
      have fin : wY_shift_143 post (wY_shift_4 post n) (nI A.length) x3 x4 f_longer f_backwards f_shifted f_top f_many a_sizes a_letters a_words a_counts a_ones a_twos f1 f2 f3 (upd f4 A.length (nI p)) a_keySizes a_keys := by
        unfold wY_shift_143
        refine cd_yClear (by omega) ?_
        have z := next (0, 0, 0, p) true (upd f1 A.length (nI 0)) (upd f2 A.length (nI 0)) (upd f3 A.length (nI 0)) (upd f4 A.length (nI p)) hy
          (cd_R_set hw (fun k _ hk => ⟨pk_un hk, pk_un hk, pk_un hk, pk_un hk⟩) ⟨pk_us, pk_us, pk_us, pk_us⟩)
        unfold wY_shift_148
        by_cases c3 : x3 = 0
        · refine br_t c3 ?_
          rcases hx with hx | hx
          · exact absurd c3 hx
          · exact br_f hx (nm_r (nI_1 _) z)
        · exact br_f c3 (nm_r (nI_1 _) z)
      by_cases c3 : x3 = 0
      · refine br_t c3 ?_
        rcases hx with hx | hx
        · exact absurd c3 hx
        · exact br_f hx fin
      · exact br_f c3 fin
    have live : cd_sf top b (e :: R) = (e % 32, e / 32 % 8, e / 256, if e = 0 then 0 else 31) :: cd_sf top false R →
        wY_shift_67 post (wY_shift_4 post n) (nI A.length) 0 0 f_longer f_backwards f_shifted f_top f_many a_sizes a_letters a_words a_counts a_ones a_twos f1 f2 f3 f4 a_keySizes a_keys := by
      intro hy
      have fin : ∀ t' : Nat, (if e = 0 then 0 else 31) = t' → wY_shift_133 post (wY_shift_4 post n) (nI A.length) 0 0 (nI t') (nI A.length) f_longer f_backwards f_shifted f_top f_many a_sizes a_letters a_words a_counts a_ones a_twos f1 f2 f3 f4 a_keySizes a_keys := by
        intro t' et
        rw [et] at hy
        unfold wY_shift_133
        refine And.intro hv (nm_r (e' := upd f4 A.length (nI t')) (by rw [ec]) (br_t rfl (br_t rfl ?_)))
        unfold wY_shift_148
        refine br_t rfl (br_t rfl (nm_r (nI_1 _) ?_))
        exact next _ false f1 f2 f3 _ hy (cd_R_set hw (fun k _ hk => ⟨rfl, rfl, rfl, pk_un hk⟩) ⟨q1', q2', q3', pk_us⟩)
      unfold wY_shift_67
      refine And.intro hv (And.intro hv (And.intro hv ?_))
      rw [ec, q1', q2', q3', nI_add, nI_add]
      by_cases c : e = 0
      · refine br_t (by rw [c]; decide) ?_
        unfold wY_shift_97 wY_shift_127
        exact br_t rfl (br_t rfl (br_f (by decide) (fin 0 (if_pos c))))
      · refine br_f (nI_ne0 (by omega) (by omega)) ?_
        unfold wY_shift_97
        exact br_t rfl (br_t rfl (br_t rfl (fin 31 (if_neg c))))
    refine br_f (by rw [hc]; exact nI_ge (by omega) (by omega)) (br_t hsh (And.intro hv ?_))
    rw [ec, q1']
    by_cases cz : e % 32 = 0
    · refine br_t (by rw [cz]; decide) ?_
      unfold wY_shift_47 wY_shift_48
      refine And.intro hv ?_
      rw [ec, q1']
      refine br_t (by rw [cz]; exact nI_0) ?_
      cases b with
      | true =>
        refine br_f (by decide) ?_
        have hy : cd_sf top true (e :: R) = (0, 0, 0, 0) :: cd_sf top true R := by
          rw [cd_sf_s, if_neg (by omega), if_pos ⟨cz, rfl⟩]
        have fin := dead 0 0 1 (Or.inr (by decide)) hy
        unfold wY_shift_67
        refine And.intro hv (And.intro hv (And.intro hv ?_))
        refine br_c (fun _ => ?_) (fun _ => ?_)
        · unfold wY_shift_97 wY_shift_127
          exact br_t rfl (br_f (by decide) fin)
        · unfold wY_shift_97 wY_shift_127
          exact br_t rfl (br_f (by decide) fin)
      | false =>
        refine br_t rfl ?_
        unfold wY_shift_66
        apply live
        rw [cd_sf_s, if_neg (by omega), if_neg (fun q => by cases q.2)]
    · refine br_f (fun q => cz (by have := (nI_ltI (b := 1) (by omega) (by omega)).mp q; omega)) (And.intro hv ?_)
      have hne : ¬ nI (e % 32) = 0 := nI_ne0 (by omega) (by omega)
      by_cases ct : e % 32 ≤ top
      · refine br_f (by rw [ht]; exact nI_nlt ct (by omega)) ?_
        unfold wY_shift_48
        refine And.intro hv ?_
        rw [ec, q1']
        refine br_f hne ?_
        have fin := dead (e % 32) 1 0 (Or.inl (by decide)) (by rw [cd_sf_s, if_pos ⟨by omega, ct⟩])
        unfold wY_shift_66 wY_shift_67
        refine And.intro hv (And.intro hv (And.intro hv ?_))
        refine br_c (fun _ => ?_) (fun _ => ?_)
        · unfold wY_shift_97
          refine br_f (by decide) (And.intro hv ?_)
          rw [ec, q1']
          exact fin
        · unfold wY_shift_97
          refine br_f (by decide) (And.intro hv ?_)
          rw [ec, q1']
          exact fin
      · refine br_t (by rw [ht]; exact nI_lt (by omega) (by omega)) ?_
        unfold wY_shift_47 wY_shift_48
        refine And.intro hv ?_
        rw [ec, q1']
        refine br_f hne ?_
        unfold wY_shift_66
        apply live
        rw [cd_sf_s, if_neg (fun q => ct q.2), if_neg (fun q => cz q.1)]
theorem cd_yShift {post : SY → Prop} {sh top : Nat} {T : List Nat} (hsh : f_shifted = nI sh) (hsh1 : sh ≤ 1) (ht : f_top = nI top) (htop : top ≤ 30) (hc : f_many = nI T.length) (hT : T.length ≤ 24) (hok : ∀ e, e ∈ T → cd_ok e) (hw : cd_R a_first a_second a_third a_fourth (T.map cd_w0))
    (h : ∀ f1 f2 f3 f4, cd_R f1 f2 f3 f4 (cd_ws sh top T) → post (f_longer, f_backwards, f_shifted, f_top, f_many, a_sizes, a_letters, a_words, a_counts, a_ones, a_twos, f1, f2, f3, f4, a_keySizes, a_keys)) : wpY_shift post (f_longer, f_backwards, f_shifted, f_top, f_many, a_sizes, a_letters, a_words, a_counts, a_ones, a_twos, a_first, a_second, a_third, a_fourth, a_keySizes, a_keys) := by
  unfold cd_ws at h
  by_cases c : sh = 1
  · simp only [if_pos c] at h
    refine Exists.intro (T.length + 1) ?_
    exact cd_yShift_4 (by rw [hsh, c]; rfl) ht htop hc hT h T [] false a_first a_second a_third a_fourth _ rfl (by rw [List.length_nil]; omega) hok (by omega) hw
  · simp only [if_neg c] at h
    have z := h _ _ _ _ hw
    exact Exists.intro 1 (br_c (fun _ => z) (fun _ => br_f (by rw [hsh, show sh = 0 by omega]; decide) z))
theorem cd_yFe_8 {post : SY → Prop} {ln lt : Nat → Nat} {E : cd_E} {g bk sh top : Nat} {wd : Nat → Nat} {s to : Nat} {T : List Nat} (D : cd_D ln lt E g bk sh top) (S : cd_YS ln lt E g bk sh top wd f_longer f_backwards f_shifted f_top a_sizes a_letters a_words a_counts a_ones a_twos) (hs : s < 10) (hto : to ≤ 12) (hT24 : T.length ≤ 24) (hok : ∀ e, e ∈ T → cd_ok e)
    (h : ∀ m f1 f2 f3 f4, m = nI T.length → cd_R f1 f2 f3 f4 (cd_ws sh top T) → post (f_longer, f_backwards, f_shifted, f_top, m, a_sizes, a_letters, a_words, a_counts, a_ones, a_twos, f1, f2, f3, f4, a_keySizes, a_keys)) :
    ∀ n p A f1 f2 f3 f4, to < p + n → p ≤ to → A.length + 2 * (to - p) ≤ 24 → A ++ cd_el E lt (12 * s + p) (12 * s + to) = T → cd_R f1 f2 f3 f4 (A.map cd_w0) →
      wY_findElements_8 post (nI s) (nI to) n (nI p) f_longer f_backwards f_shifted f_top (nI A.length) a_sizes a_letters a_words a_counts a_ones a_twos f1 f2 f3 f4 a_keySizes a_keys := by
  obtain ⟨d1, d2, d3, d4, d5, d6, d7⟩ := D
  obtain ⟨s1, s2, s3, s4, s5, s6, s7⟩ := S
  intro n
  induction n with
  | zero => intro p A f1 f2 f3 f4 h0 h1; omega
  | succ n ih =>
    intro p A f1 f2 f3 f4 h0 h1 hA hT hX
    by_cases ce : to ≤ p
    · have hT' : A = T := by rw [← hT, cd_el_0 E lt (by omega), List.append_nil]
      subst hT'
      exact br_t (nI_le ce (by omega)) (cd_yShift s3 d6 s4 d7 rfl hT24 hok hX (fun g1 g2 g3 g4 q => h _ g1 g2 g3 g4 rfl q))
    · refine br_f (nI_ge (by omega) (by omega)) (Exists.intro 4 ?_)
      have b := cd_ln_b E lt (12 * s + p) (12 * s + to)
      have b2 := cd_ln_e E lt (a := 12 * s + p) (en := 12 * s + to) (by omega)
      rw [cd_el_s E lt (by omega), ← List.append_assoc] at hT
      refine cd_yIn d4 s1 d3 s7 s6 d2 hs (by omega) hto (fun e he hwd => ?_)
      obtain ⟨x, y, hE, c1, c2, c3⟩ := s7.2.2.1 e he
      have ho2 := d3.1 _ x y hE
      rw [hwd] at hE
      have hlA : (A.map cd_w0).length = A.length := List.length_map ..
      have step : ∀ g1 g2 g3 g4, cd_R g1 g2 g3 g4 ((A ++ cd_ee (some (x, y))).map cd_w0) →
          wY_findElements_153 post (wY_findElements_8 post (nI s) (nI to) n) (nI s) (nI to) (nI p) (nI (cd_ln E lt (12 * s + p) (12 * s + to))) f_longer f_backwards f_shifted f_top (nI (A ++ cd_ee (some (x, y))).length) a_sizes a_letters a_words a_counts a_ones a_twos g1 g2 g3 g4 a_keySizes a_keys := by
        intro g1 g2 g3 g4 hX'
        have hl := cd_ee_len (some (x, y))
        unfold wY_findElements_153
        rw [hE] at hT
        refine br_f (nI_nle (by omega) (by omega)) (nm_r (nI_add p _) ?_)
        exact ih _ _ g1 g2 g3 g4 (by omega) (by omega) (by rw [List.length_append]; omega) (by rw [← Nat.add_assoc]; exact hT) hX'
      have ee : (nI e).toNatClampNeg = e := nI_clamp (by omega)
      have hv : vp_in (nI e) 16 := vp_in_nI (by omega) (by omega)
      refine And.intro hv ?_
      rw [ee, c1]
      refine cd_yAdd (W := A.map cd_w0) ho2.1.1 (by omega) (by rw [hlA]) hX (fun g1 g2 g3 g4 x1 => ?_)
      have mA : A.map cd_w0 ++ [cd_w0 x] = (A ++ [x]).map cd_w0 := by rw [List.map_append]; rfl
      rw [mA] at x1
      refine And.intro hv ?_
      rw [c2]
      match y, ho2, c3, step with
      | none, ho2, c3, step =>
        refine br_f (by decide) ?_
        have q := step g1 g2 g3 g4 x1
        rw [cd_ee_1, List.length_append, List.length_singleton] at q
        rw [hlA]
        exact q
      | some c, ho2, c3, step =>
        have hc := (ho2.2 c rfl).1
        refine br_t rfl (And.intro hv ?_)
        rw [c3 c rfl]
        have hl2 : ((A ++ [x]).map cd_w0).length = A.length + 1 := by rw [List.length_map, List.length_append, List.length_singleton]
        refine cd_yAdd (W := (A ++ [x]).map cd_w0) hc (by omega) (by rw [hl2, hlA]) x1 (fun k1 k2 k3 k4 x2 => ?_)
        have q := step k1 k2 k3 k4 (by
          rw [cd_ee_2, show A ++ [x, c] = (A ++ [x]) ++ [c] by rw [List.append_assoc]; rfl, List.map_append]
          exact x2)
        rw [cd_ee_2, List.length_append] at q
        rw [hl2]
        exact q
theorem cd_yFind {post : SY → Prop} {ln lt : Nat → Nat} {E : cd_E} {g bk sh top : Nat} {wd : Nat → Nat} {s p to : Nat} (D : cd_D ln lt E g bk sh top) (S : cd_YS ln lt E g bk sh top wd f_longer f_backwards f_shifted f_top a_sizes a_letters a_words a_counts a_ones a_twos) (hs : s < 10) (hp : p ≤ to) (hto : to ≤ 12)
    (h : ∀ m f1 f2 f3 f4, m = nI (cd_ws sh top (cd_el E lt (12 * s + p) (12 * s + to))).length → cd_R f1 f2 f3 f4 (cd_ws sh top (cd_el E lt (12 * s + p) (12 * s + to))) → post (f_longer, f_backwards, f_shifted, f_top, m, a_sizes, a_letters, a_words, a_counts, a_ones, a_twos, f1, f2, f3, f4, a_keySizes, a_keys)) :
    wpY_findElements post (f_longer, f_backwards, f_shifted, f_top, f_many, a_sizes, a_letters, a_words, a_counts, a_ones, a_twos, a_first, a_second, a_third, a_fourth, a_keySizes, a_keys) (nI s) (nI p) (nI to) := by
  have hl := cd_el_len E lt (12 * s + p) (12 * s + to)
  refine Exists.intro (to - p + 1) ?_
  exact cd_yFe_8 (T := cd_el E lt (12 * s + p) (12 * s + to)) D S hs hto (by omega) (fun e q => cd_el_ok D.2.2.1 lt _ _ e q) (fun m f1 f2 f3 f4 q1 q2 => h m f1 f2 f3 f4 (by rw [cd_ws_len]; exact q1) q2) _ p [] a_first a_second a_third a_fourth (by omega) hp (by rw [List.length_nil]; omega) (List.nil_append _) cd_R_0
end YWORK
end
section
/-! the reference: keys -/
def cd_KY (ks keys : Nat → Int32) (side : Nat) (A : List Nat) : Prop := ks side = nI A.length ∧ ∀ k, k < A.length → keys (110 * side + k) = nI (cd_at A k)
def cd_ko (side : Nat) (ks keys ks' keys' : Nat → Int32) : Prop := (∀ j, ¬ j = side → ks' j = ks j) ∧ ∀ j, (j < 110 * side ∨ 110 * side + 110 ≤ j) → keys' j = keys j
theorem cd_ko_r (side : Nat) (ks keys : Nat → Int32) : cd_ko side ks keys ks keys := ⟨fun _ _ => rfl, fun _ _ => rfl⟩
theorem cd_ko_t {side : Nat} {ks keys ks' keys' ks2 keys2 : Nat → Int32} (h : cd_ko side ks keys ks' keys') (h' : cd_ko side ks' keys' ks2 keys2) : cd_ko side ks keys ks2 keys2 :=
  ⟨fun j hj => (h'.1 j hj).trans (h.1 j hj), fun j hj => (h'.2 j hj).trans (h.2 j hj)⟩
theorem cd_KY_o {side side' : Nat} {ks keys ks' keys' : Nat → Int32} {A : List Nat} (h : cd_KY ks keys side' A) (hn : ¬ side' = side) (hA : A.length ≤ 110) (o : cd_ko side ks keys ks' keys') : cd_KY ks' keys' side' A :=
  ⟨(o.1 side' hn).trans h.1, fun k hk => (o.2 _ (by omega)).trans (h.2 k hk)⟩
section YKEY
variable {f_longer f_backwards f_shifted f_top f_many : Int32} {a_sizes a_letters a_words a_counts a_ones a_twos a_first a_second a_third a_fourth a_keySizes a_keys : Nat → Int32}
theorem cd_yAddN {post : SY → Prop} {side x : Nat} {A : List Nat} (hs : side < 2) (hA : A.length < 110) (hK : cd_KY a_keySizes a_keys side A)
    (h : ∀ ks keys, cd_KY ks keys side (A ++ [x]) → cd_ko side a_keySizes a_keys ks keys → post (f_longer, f_backwards, f_shifted, f_top, f_many, a_sizes, a_letters, a_words, a_counts, a_ones, a_twos, a_first, a_second, a_third, a_fourth, ks, keys)) : wpY_addNumber post (f_longer, f_backwards, f_shifted, f_top, f_many, a_sizes, a_letters, a_words, a_counts, a_ones, a_twos, a_first, a_second, a_third, a_fourth, a_keySizes, a_keys) (nI side) (nI x) := by
  have ec : (nI side).toNatClampNeg = side := nI_clamp (by omega)
  have hv : vp_in (nI side) 2 := vp_in_nI hs (by omega)
  have ei : (110 * nI side) + a_keySizes (nI side).toNatClampNeg = nI (110 * side + A.length) := by rw [ec, hK.1, cd_m110, nI_add]
  have h' := h (upd a_keySizes side (nI (A.length + 1))) (upd a_keys (110 * side + A.length) (nI x)) ⟨by rw [pk_us, List.length_append, List.length_singleton], fun k hk => by
      rw [List.length_append, List.length_singleton] at hk
      by_cases c : k = A.length
      · have q := cd_at_r A [x] 0
        rw [Nat.add_zero, cd_at_0] at q
        rw [c, pk_us, q]
      · rw [pk_un (by omega), cd_at_l _ _ _ (by omega)]
        exact hK.2 k (by omega)⟩ ⟨fun j hj => pk_un hj, fun j hj => pk_un (by omega)⟩
  refine And.intro hv ?_
  rw [ei]
  refine And.intro (vp_in_nI (by omega) (by omega)) (nm_r (e' := upd a_keys (110 * side + A.length) (nI x)) (by rw [nI_clamp (by omega)]) (And.intro hv (And.intro hv (nm_r (e' := upd a_keySizes side (nI (A.length + 1))) (by rw [ec, hK.1, nI_1]) h'))))
theorem cd_yLevelOf {post : Int32 → Prop} {W : List cd_W} {k l : Nat} (hl1 : 1 ≤ l) (hl4 : l ≤ 4) (hW : W.length ≤ 24) (hk : k < W.length) (hX : cd_R a_first a_second a_third a_fourth W) (h : post (nI (cd_at (W.map (cd_cp l)) k))) : wpY_levelOf post (f_longer, f_backwards, f_shifted, f_top, f_many, a_sizes, a_letters, a_words, a_counts, a_ones, a_twos, a_first, a_second, a_third, a_fourth, a_keySizes, a_keys) (nI k) (nI l) := by
  have ec : (nI k).toNatClampNeg = k := nI_clamp (by omega)
  have hv : vp_in (nI k) 24 := vp_in_nI (by omega) (by omega)
  obtain ⟨q1, q2, q3, q4⟩ := hX k hk
  rw [cd_wa_map l W k hk] at h
  have c : l = 1 ∨ l = 2 ∨ l = 3 ∨ l = 4 := by omega
  rcases c with c | c | c | c
  · subst c
    exact br_t rfl (And.intro hv (by rw [ec, q1]; exact h))
  · subst c
    exact br_f (by decide) (br_t rfl (And.intro hv (by rw [ec, q2]; exact h)))
  · subst c
    exact br_f (by decide) (br_f (by decide) (br_t rfl (And.intro hv (by rw [ec, q3]; exact h))))
  · subst c
    exact br_f (by decide) (br_f (by decide) (br_f (by decide) (And.intro hv (by rw [ec, q4]; exact h))))
theorem cd_yMk_40 {post : SY → Prop} {J : Int32 → Int32 → Int32 → Int32 → Int32 → Int32 → (Nat → Int32) → (Nat → Int32) → (Nat → Int32) → (Nat → Int32) → (Nat → Int32) → (Nat → Int32) → (Nat → Int32) → (Nat → Int32) → (Nat → Int32) → (Nat → Int32) → (Nat → Int32) → (Nat → Int32) → Prop}
    {W : List cd_W} {bk side l : Nat} {x5 : Int32} (hb : f_backwards = nI bk ∧ bk ≤ 1) (hm : f_many = nI W.length) (hW : W.length ≤ 24) (hsw : ∀ x, x ∈ W → cd_sw x) (hX : cd_R a_first a_second a_third a_fourth W) (hs : side < 2) (hl1 : 1 ≤ l) (hl4 : l ≤ 4) :
    ∀ d k A ks keys n, k + d = W.length → d < n → A.length + d < 110 → cd_KY ks keys side A → (∀ ks' keys', cd_KY ks' keys' side (A ++ cd_fl ((cd_rd bk l W).drop k)) → cd_ko side ks keys ks' keys' → J (nI (l + 1)) f_longer f_backwards f_shifted f_top f_many a_sizes a_letters a_words a_counts a_ones a_twos a_first a_second a_third a_fourth ks' keys') →
      wY_makeKey_40 post J (nI side) x5 (nI l) n (nI k) f_longer f_backwards f_shifted f_top f_many a_sizes a_letters a_words a_counts a_ones a_twos a_first a_second a_third a_fourth ks keys := by
  intro d
  induction d with
  | zero =>
    intro k A ks keys n hk hn hA hK h
    obtain ⟨n, rfl⟩ : ∃ m, n = m + 1 := ⟨n - 1, by omega⟩
    rw [cd_drop_end (cd_rd bk l W) (k := k) (by rw [cd_rd_len]; omega)] at h
    exact br_t (by rw [hm]; exact nI_le (by omega) (by omega)) (nm_r (nI_1 l) (h ks keys (by rw [show cd_fl [] = [] from rfl, List.append_nil]; exact hK) (cd_ko_r side ks keys)))
  | succ d ih =>
    intro k A ks keys n hk hn hA hK h
    obtain ⟨n, rfl⟩ : ∃ m, n = m + 1 := ⟨n - 1, by omega⟩
    have hsm := cd_rd_sm hsw bk l (k := k) (by omega)
    have body : ∀ q, q < W.length → cd_at (cd_rd bk l W) k = cd_at (W.map (cd_cp l)) q →
        wY_makeKey_78 post J (wY_makeKey_40 post J (nI side) x5 (nI l) n) (nI side) x5 (nI l) (nI k) (nI q) f_longer f_backwards f_shifted f_top f_many a_sizes a_letters a_words a_counts a_ones a_twos a_first a_second a_third a_fourth ks keys := by
      intro q hq e
      unfold wY_makeKey_78
      refine cd_yLevelOf hl1 hl4 hW hq hX ?_
      rw [← e]
      by_cases z : cd_at (cd_rd bk l W) k = 0
      · rw [cd_fd_0 (by rw [cd_rd_len]; omega) z] at h
        exact br_t (by rw [z]; decide) (nm_r (nI_1 k) (ih (k + 1) A ks keys n (by omega) (by omega) (by omega) hK h))
      · rw [cd_fd_c (by rw [cd_rd_len]; omega) z] at h
        refine br_f (nI_nle (by omega) (by omega)) (cd_yAddN hs (by omega) hK (fun ks' keys' K' o' => nm_r (nI_1 k) ?_))
        refine ih (k + 1) (A ++ [cd_at (cd_rd bk l W) k]) ks' keys' n (by omega) (by omega) (by rw [List.length_append, List.length_singleton]; omega) K' (fun ks2 keys2 K2 o2 => h ks2 keys2 ?_ (cd_ko_t o' o2))
        rw [List.append_assoc, List.singleton_append] at K2
        exact K2
    refine br_f (by rw [hm]; exact nI_ge (by omega) (by omega)) ?_
    by_cases c2 : l = 2
    · refine br_t (by rw [c2]; rfl) ?_
      by_cases cb : bk = 1
      · refine br_t (by rw [hb.1, cb]; rfl) ?_
        have e : (f_many - 1) - nI k = nI (W.length - 1 - k) := by rw [hm, cd_s1 (by omega), pk_sub (by omega)]
        rw [e]
        exact body _ (by omega) (by rw [cd_rd_at bk l W (by omega), if_pos ⟨c2, cb⟩])
      · refine br_f (by rw [hb.1, show bk = 0 by have := hb.2; omega]; decide) ?_
        exact body k (by omega) (by rw [cd_rd_at bk l W (by omega), if_neg (fun q => cb q.2)])
    · refine br_f (fun q => c2 ((nI_eq (b := 2) (by omega) (by omega)).mp q)) ?_
      exact body k (by omega) (by rw [cd_rd_at bk l W (by omega), if_neg (fun q => c2 q.1)])
theorem cd_yMk_18 {post : SY → Prop} {W : List cd_W} {bk side st : Nat} (hb : f_backwards = nI bk ∧ bk ≤ 1) (hm : f_many = nI W.length) (hW : W.length ≤ 24) (hsw : ∀ x, x ∈ W → cd_sw x) (hX : cd_R a_first a_second a_third a_fourth W) (hs : side < 2) (hst : st ≤ 4) :
    ∀ d l A ks keys n, 1 ≤ l → l + d = st → d + 1 < n → A.length + (d + 1) * 25 < 110 → cd_KY ks keys side A →
      (∀ ks' keys', cd_KY ks' keys' side ((if l = 1 then A else A ++ [0]) ++ cd_kt bk W d l) → cd_ko side ks keys ks' keys' → post (f_longer, f_backwards, f_shifted, f_top, f_many, a_sizes, a_letters, a_words, a_counts, a_ones, a_twos, a_first, a_second, a_third, a_fourth, ks', keys')) →
      wY_makeKey_18 post (nI side) (nI st) n (nI l) f_longer f_backwards f_shifted f_top f_many a_sizes a_letters a_words a_counts a_ones a_twos a_first a_second a_third a_fourth ks keys := by
  intro d
  induction d with
  | zero =>
    intro l A ks keys n h1 hl hn hA hK h
    obtain ⟨n, rfl⟩ : ∃ m, n = m + 2 := ⟨n - 2, by omega⟩
    refine br_f (nI_nlt (by omega) (by omega)) ?_
    by_cases c : l = 1
    · rw [if_pos c] at h
      refine br_t (nI_le (b := 1) (by omega) (by omega)) (Exists.intro (W.length + 1) ?_)
      refine cd_yMk_40 hb hm hW hsw hX hs h1 (by omega) W.length 0 A ks keys _ (by omega) (by omega) (by omega) hK (fun ks' keys' K' o' => ?_)
      exact br_t (nI_lt (by omega) (by omega)) (h ks' keys' K' o')
    · rw [if_neg c] at h
      refine br_f (nI_ge (a := 1) (by omega) (by omega)) (cd_yAddN (x := 0) hs (by omega) hK (fun k1 k2 K1 o1 => Exists.intro (W.length + 1) ?_))
      refine cd_yMk_40 hb hm hW hsw hX hs h1 (by omega) W.length 0 (A ++ [0]) k1 k2 _ (by omega) (by omega) (by rw [List.length_append, List.length_singleton]; omega) K1 (fun ks' keys' K' o' => ?_)
      exact br_t (nI_lt (by omega) (by omega)) (h ks' keys' K' (cd_ko_t o1 o'))
  | succ d ih =>
    intro l A ks keys n h1 hl hn hA hK h
    obtain ⟨n, rfl⟩ : ∃ m, n = m + 1 := ⟨n - 1, by omega⟩
    have hlv := cd_lv_len bk W l
    refine br_f (nI_nlt (by omega) (by omega)) ?_
    by_cases c : l = 1
    · rw [if_pos c] at h
      refine br_t (nI_le (b := 1) (by omega) (by omega)) (Exists.intro (W.length + 1) ?_)
      refine cd_yMk_40 hb hm hW hsw hX hs h1 (by omega) W.length 0 A ks keys _ (by omega) (by omega) (by omega) hK (fun k1 k2 K1 o1 => ?_)
      have K1' : cd_KY k1 k2 side (A ++ cd_lv bk W l) := K1
      refine ih (l + 1) _ k1 k2 n (by omega) (by omega) (by omega) (by rw [List.length_append]; omega) K1' (fun ks' keys' K' o' => h ks' keys' ?_ (cd_ko_t o1 o'))
      rw [if_neg (by omega), List.append_assoc, List.append_assoc, List.singleton_append] at K'
      exact K'
    · rw [if_neg c] at h
      refine br_f (nI_ge (a := 1) (by omega) (by omega)) (cd_yAddN (x := 0) hs (by omega) hK (fun j1 j2 L1 p1 => Exists.intro (W.length + 1) ?_))
      refine cd_yMk_40 hb hm hW hsw hX hs h1 (by omega) W.length 0 (A ++ [0]) j1 j2 _ (by omega) (by omega) (by rw [List.length_append, List.length_singleton]; omega) L1 (fun k1 k2 K1 o1 => ?_)
      have K1' : cd_KY k1 k2 side (A ++ [0] ++ cd_lv bk W l) := K1
      refine ih (l + 1) _ k1 k2 n (by omega) (by omega) (by omega) (by rw [List.length_append, List.length_append, List.length_singleton]; omega) K1' (fun ks' keys' K' o' => h ks' keys' ?_ (cd_ko_t (cd_ko_t p1 o1) o'))
      rw [if_neg (by omega), List.append_assoc (A ++ [0] ++ cd_lv bk W l), List.append_assoc (A ++ [0]), List.singleton_append] at K'
      exact K'
/-- makeKey -/
theorem cd_yMakeKey {post : SY → Prop} {ln lt : Nat → Nat} {E : cd_E} {g bk sh top : Nat} {wd : Nat → Nat} {side s p to st : Nat} (D : cd_D ln lt E g bk sh top) (S : cd_YS ln lt E g bk sh top wd f_longer f_backwards f_shifted f_top a_sizes a_letters a_words a_counts a_ones a_twos) (hside : side < 2) (hs : s < 10) (hp : p ≤ to) (hto : to ≤ 12) (h1 : 1 ≤ st) (h4 : st ≤ 4)
    (h : ∀ m f1 f2 f3 f4 ks keys, cd_KY ks keys side (cd_key bk (cd_ws sh top (cd_el E lt (12 * s + p) (12 * s + to))) st) → cd_ko side a_keySizes a_keys ks keys → post (f_longer, f_backwards, f_shifted, f_top, m, a_sizes, a_letters, a_words, a_counts, a_ones, a_twos, f1, f2, f3, f4, ks, keys)) :
    wpY_makeKey post (f_longer, f_backwards, f_shifted, f_top, f_many, a_sizes, a_letters, a_words, a_counts, a_ones, a_twos, a_first, a_second, a_third, a_fourth, a_keySizes, a_keys) (nI side) (nI s) (nI p) (nI to) (nI st) := by
  have hl := cd_el_len E lt (12 * s + p) (12 * s + to)
  unfold wpY_makeKey
  refine cd_yFind D S hs hp hto (fun m f1 f2 f3 f4 hm hR => ?_)
  refine And.intro (vp_in_nI hside (by omega)) (nm_r (e' := upd a_keySizes side (nI 0)) (by rw [nI_clamp (by omega)]; rfl) (Exists.intro (st + 1) ?_))
  have K0 : cd_KY (upd a_keySizes side (nI 0)) a_keys side [] := ⟨pk_us, fun k hk => absurd hk (Nat.not_lt_zero k)⟩
  have o0 : cd_ko side a_keySizes a_keys (upd a_keySizes side (nI 0)) a_keys := ⟨fun j hj => pk_un hj, fun _ _ => rfl⟩
  refine cd_yMk_18 (W := cd_ws sh top (cd_el E lt (12 * s + p) (12 * s + to))) ⟨S.2.1, D.2.2.2.2.1⟩ hm (by rw [cd_ws_len]; omega) (cd_ws_sw sh top _ (fun e q => cd_el_ok D.2.2.1 lt _ _ e q)) hR hside h4 (st - 1) 1 [] _ _ _ (by omega) (by omega) (by omega) (by rw [List.length_nil]; omega) K0 (fun ks' keys' K' o' => h m f1 f2 f3 f4 ks' keys' ?_ (cd_ko_t o0 o'))
  exact K'
theorem cd_yOrder_2 {post : Int32 → Prop} {A B : List Nat} (hA : cd_KY a_keySizes a_keys 0 A) (hB : cd_KY a_keySizes a_keys 1 B) (lA : A.length < 110) (lB : B.length < 110) (sA : ∀ x, x ∈ A → x < 32) (sB : ∀ x, x ∈ B → x < 32) :
    ∀ n k, k ≤ A.length → k ≤ B.length → A.length < n + k → post (cd_cm (A.drop k) (B.drop k)) → wY_order_2 post f_longer f_backwards f_shifted f_top f_many a_sizes a_letters a_words a_counts a_ones a_twos a_first a_second a_third a_fourth a_keySizes a_keys n (nI k) := by
  have eA := hA.1
  have eB := hB.1
  have fin : ∀ k, k ≤ A.length → k ≤ B.length → (A.length ≤ k ∨ B.length ≤ k) → post (cd_cm (A.drop k) (B.drop k)) → wY_order_70 post f_longer f_backwards f_shifted f_top f_many a_sizes a_letters a_words a_counts a_ones a_twos a_first a_second a_third a_fourth a_keySizes a_keys := by
    intro k k1 k2 hk h
    unfold wY_order_70
    rw [eA, eB]
    by_cases c : B.length ≤ A.length
    · refine br_t (nI_le c (by omega)) ?_
      rw [cd_drop_end B (k := k) (by omega)] at h
      by_cases c2 : A.length ≤ B.length
      · rw [cd_drop_end A (k := k) (by omega)] at h
        exact br_t (nI_le c2 (by omega)) h
      · rw [cd_drop_at A k (by omega)] at h
        exact br_f (nI_ge (by omega) (by omega)) h
    · rw [cd_drop_end A (k := k) (by omega), cd_drop_at B k (by omega)] at h
      exact br_f (nI_ge (by omega) (by omega)) h
  intro n
  induction n with
  | zero => intro k k1 k2 h0; omega
  | succ n ih =>
    intro k k1 k2 h0 h
    by_cases cA : A.length ≤ k
    · exact br_t (by rw [eA]; exact nI_le cA (by omega)) (fin k k1 k2 (Or.inl cA) h)
    · refine br_f (by rw [eA]; exact nI_ge (by omega) (by omega)) ?_
      by_cases cB : B.length ≤ k
      · exact br_t (by rw [eB]; exact nI_le cB (by omega)) (fin k k1 k2 (Or.inr cB) h)
      · have qA := hA.2 k (by omega)
        have qB := hB.2 k (by omega)
        rw [show 110 * 0 + k = k by omega] at qA
        rw [show 110 * 1 + k = 110 + k by omega] at qB
        have zA := sA _ (cd_at_mem A k (by omega))
        have zB := sB _ (cd_at_mem B k (by omega))
        have v1 : vp_in (nI k) 220 := vp_in_nI (by omega) (by omega)
        have v2 : vp_in (nI (110 + k)) 220 := vp_in_nI (by omega) (by omega)
        refine br_f (by rw [eB]; exact nI_ge (by omega) (by omega)) ?_
        rw [cd_p110, nI_clamp (by omega), nI_clamp (by omega), qA, qB]
        refine And.intro v1 (And.intro v2 ?_)
        rw [cd_drop_at A k (by omega), cd_drop_at B k (by omega)] at h
        by_cases c : cd_at A k = cd_at B k
        · rw [c, cd_cm_e] at h
          exact br_t (congrArg nI c) (nm_r (nI_1 k) (ih (k + 1) (by omega) (by omega) (by omega) h))
        · refine br_f (fun z => c ((nI_eq (by omega) (by omega)).mp z)) (And.intro v1 (And.intro v2 ?_))
          by_cases d : cd_at B k ≤ cd_at A k
          · rw [cd_cm_g _ _ (by omega)] at h
            exact br_t (nI_le d (by omega)) h
          · rw [cd_cm_l _ _ (by omega)] at h
            exact br_f (nI_ge (by omega) (by omega)) h
theorem cd_yOrder {post : Int32 → Prop} {A B : List Nat} (hA : cd_KY a_keySizes a_keys 0 A) (hB : cd_KY a_keySizes a_keys 1 B) (lA : A.length < 110) (lB : B.length < 110) (sA : ∀ x, x ∈ A → x < 32) (sB : ∀ x, x ∈ B → x < 32)
    (h : post (cd_cm A B)) : wpY_order post (f_longer, f_backwards, f_shifted, f_top, f_many, a_sizes, a_letters, a_words, a_counts, a_ones, a_twos, a_first, a_second, a_third, a_fourth, a_keySizes, a_keys) :=
  Exists.intro (A.length + 1) (cd_yOrder_2 hA hB lA lB sA sB _ 0 (by omega) (by omega) (by omega) h)
/-- a key's length and numbers -/
theorem cd_key_len {bk st : Nat} {W : List cd_W} (hW : W.length ≤ 24) (h4 : st ≤ 4) : (cd_key bk W st).length ≤ 99 := by
  have h2 := cd_sm_le bk W (st - 1) 1
  have h3 : (st - 1 + 1) * W.length ≤ 4 * 24 := Nat.mul_le_mul (by omega) hW
  unfold cd_key
  rw [cd_kt_len]
  omega
theorem cd_yCompared {post : Int32 → SY → Prop} {ln lt : Nat → Nat} {E : cd_E} {g bk sh top : Nat} {wd : Nat → Nat} {i j st : Nat} (D : cd_D ln lt E g bk sh top) (S : cd_YS ln lt E g bk sh top wd f_longer f_backwards f_shifted f_top a_sizes a_letters a_words a_counts a_ones a_twos) (hi : i < 10) (hj : j < 10) (h1 : 1 ≤ st) (h4 : st ≤ 4)
    (h : ∀ m f1 f2 f3 f4 ks keys, post (cd_cm (cd_kf ln lt E bk sh top st i) (cd_kf ln lt E bk sh top st j)) (f_longer, f_backwards, f_shifted, f_top, m, a_sizes, a_letters, a_words, a_counts, a_ones, a_twos, f1, f2, f3, f4, ks, keys)) :
    wpY_compared post (f_longer, f_backwards, f_shifted, f_top, f_many, a_sizes, a_letters, a_words, a_counts, a_ones, a_twos, a_first, a_second, a_third, a_fourth, a_keySizes, a_keys) (nI i) (nI j) (nI st) := by
  have di := D.1 i hi
  have dj := D.1 j hj
  have li := cd_Wf_len D hi
  have lj := cd_Wf_len D hj
  refine And.intro (vp_in_nI hi (by omega)) ?_
  rw [nI_clamp (n := i) (by omega), S.2.2.2.2.1 i hi]
  refine cd_yMakeKey (side := 0) (p := 0) D S (by omega) hi (by omega) di h1 h4 (fun m f1 f2 f3 f4 ks keys K o => ?_)
  refine And.intro (vp_in_nI hj (by omega)) ?_
  rw [nI_clamp (n := j) (by omega), S.2.2.2.2.1 j hj]
  refine cd_yMakeKey (side := 1) (p := 0) D S (by omega) hj (by omega) dj h1 h4 (fun m' f1' f2' f3' f4' ks' keys' K' o' => ?_)
  have Ki : cd_KY ks keys 0 (cd_kf ln lt E bk sh top st i) := K
  have Kj : cd_KY ks' keys' 1 (cd_kf ln lt E bk sh top st j) := K'
  have mi : (cd_kf ln lt E bk sh top st i).length ≤ 99 := cd_key_len li h4
  have mj : (cd_kf ln lt E bk sh top st j).length ≤ 99 := cd_key_len lj h4
  exact cd_yOrder (cd_KY_o Ki (by omega) (by omega) o') Kj (by omega) (by omega) (cd_kt_lt (cd_ws_sw sh top _ (fun e q => cd_el_ok D.2.2.1 lt _ _ e q)) bk _ 1) (cd_kt_lt (cd_ws_sw sh top _ (fun e q => cd_el_ok D.2.2.1 lt _ _ e q)) bk _ 1) (h m' f1' f2' f3' f4' ks' keys')
end YKEY
end
section
/-! the reference's questions -/
theorem cd_9 {x : Int32} : 9 < x ↔ 10 ≤ x := by
  rw [Int32.lt_iff_toInt_lt, Int32.le_iff_toInt_le, show (9 : Int32).toInt = 9 by decide, show (10 : Int32).toInt = 10 by decide]
  omega
theorem cd_le9 {x : Int32} : x ≤ 9 ↔ x < 10 := by
  rw [Int32.lt_iff_toInt_lt, Int32.le_iff_toInt_le, show (9 : Int32).toInt = 9 by decide, show (10 : Int32).toInt = 10 by decide]
  omega
section YASK
variable {f_longer f_backwards f_shifted f_top f_many : Int32} {a_sizes a_letters a_words a_counts a_ones a_twos a_first a_second a_third a_fourth a_keySizes a_keys : Nat → Int32}
theorem cd_ySlot1 {post : Int32 → Prop} {j : Nat} (hj : j < 10) (h : post 1) : wpY_isSlot post (f_longer, f_backwards, f_shifted, f_top, f_many, a_sizes, a_letters, a_words, a_counts, a_ones, a_twos, a_first, a_second, a_third, a_fourth, a_keySizes, a_keys) (nI j) := br_f (nI_pos (by omega)) (br_f (fun z => nI_ge (b := 10) hj (by omega) (cd_9.mp z)) h)
theorem cd_ySlot0 {post : Int32 → Prop} {x : Int32} (hx : cd_bad 10 x) (h : post 0) : wpY_isSlot post (f_longer, f_backwards, f_shifted, f_top, f_many, a_sizes, a_letters, a_words, a_counts, a_ones, a_twos, a_first, a_second, a_third, a_fourth, a_keySizes, a_keys) x := br_c (fun _ => h) (fun n => br_t (cd_9.mpr (cd_bad_ge (n := 10) hx (by omega) n)) h)
theorem cd_yStr1 {post : Int32 → Prop} {t : Nat} (h1 : 1 ≤ t) (h4 : t ≤ 4) (h : post 1) : wpY_isStrength post (f_longer, f_backwards, f_shifted, f_top, f_many, a_sizes, a_letters, a_words, a_counts, a_ones, a_twos, a_first, a_second, a_third, a_fourth, a_keySizes, a_keys) (nI t) := br_f (nI_nlt (b := 1) h1 (by omega)) (br_f (nI_nlt (a := 4) h4 (by omega)) h)
theorem cd_yStr0 {post : Int32 → Prop} {x : Int32} (hx : cd_badS x) (h : post 0) : wpY_isStrength post (f_longer, f_backwards, f_shifted, f_top, f_many, a_sizes, a_letters, a_words, a_counts, a_ones, a_twos, a_first, a_second, a_third, a_fourth, a_keySizes, a_keys) x := br_c (fun _ => h) (fun n => br_t (cd_badS_gt hx n) h)
theorem cd_yRank_27 {post : Int32 → SY → Prop} {ln lt : Nat → Nat} {E : cd_E} {g bk sh top : Nat} {wd : Nat → Nat} {s t : Nat} (D : cd_D ln lt E g bk sh top) (S : cd_YS ln lt E g bk sh top wd f_longer f_backwards f_shifted f_top a_sizes a_letters a_words a_counts a_ones a_twos) (hs : s < 10) (h1 : 1 ≤ t) (h4 : t ≤ 4)
    (h : ∀ m f1 f2 f3 f4 ks keys, post (nI (cd_rk (cd_kf ln lt E bk sh top t) s)) (f_longer, f_backwards, f_shifted, f_top, m, a_sizes, a_letters, a_words, a_counts, a_ones, a_twos, f1, f2, f3, f4, ks, keys)) :
    ∀ d k n m f1 f2 f3 f4 ks keys, k + d = 10 → d < n → wY_rank_27 post (nI s) (nI t) n (nI (cd_ct (fun i => decide (cd_cm (cd_kf ln lt E bk sh top t i) (cd_kf ln lt E bk sh top t s) = -1)) k)) (nI k) f_longer f_backwards f_shifted f_top m a_sizes a_letters a_words a_counts a_ones a_twos f1 f2 f3 f4 ks keys := by
  intro d
  induction d with
  | zero =>
    intro k n m f1 f2 f3 f4 ks keys hk hn
    obtain ⟨n, rfl⟩ : ∃ m, n = m + 1 := ⟨n - 1, by omega⟩
    rw [show k = 10 by omega]
    exact br_t (nI_le (a := 10) (by omega) (by omega)) (h m f1 f2 f3 f4 ks keys)
  | succ d ih =>
    intro k n m f1 f2 f3 f4 ks keys hk hn
    obtain ⟨n, rfl⟩ : ∃ m, n = m + 1 := ⟨n - 1, by omega⟩
    refine br_f (nI_ge (b := 10) (by omega) (by omega)) (cd_yCompared D S (by omega) hs h1 h4 (fun m f1 f2 f3 f4 ks keys => ?_))
    have z := ih (k + 1) n m f1 f2 f3 f4 ks keys (by omega) (by omega)
    by_cases c : cd_cm (cd_kf ln lt E bk sh top t k) (cd_kf ln lt E bk sh top t s) = -1
    · rw [cd_ct_t (P := fun i => decide (cd_cm (cd_kf ln lt E bk sh top t i) (cd_kf ln lt E bk sh top t s) = -1)) (decide_eq_true c)] at z
      exact br_f (fun q => (cd_cm_ge _ _).mp q c) (nm_r (nI_1 _) (nm_r (nI_1 k) z))
    · rw [cd_ct_f (P := fun i => decide (cd_cm (cd_kf ln lt E bk sh top t i) (cd_kf ln lt E bk sh top t s) = -1)) (by rw [decide_eq_true_iff]; exact c)] at z
      exact br_t ((cd_cm_ge _ _).mpr c) (nm_r (nI_1 k) z)
theorem cd_yPlace_5 {post : Int32 → SY → Prop} {ln lt : Nat → Nat} {E : cd_E} {g bk sh top : Nat} {wd : Nat → Nat} {s t : Nat} (D : cd_D ln lt E g bk sh top) (S : cd_YS ln lt E g bk sh top wd f_longer f_backwards f_shifted f_top a_sizes a_letters a_words a_counts a_ones a_twos) (hs : s < 10) (h1 : 1 ≤ t) (h4 : t ≤ 4)
    (h : ∀ m f1 f2 f3 f4 ks keys, post (nI (cd_pl (cd_kf ln lt E bk sh top t) s)) (f_longer, f_backwards, f_shifted, f_top, m, a_sizes, a_letters, a_words, a_counts, a_ones, a_twos, f1, f2, f3, f4, ks, keys)) :
    ∀ d k n m f1 f2 f3 f4 ks keys, k + d = 10 → d < n → wY_placeOf_5 post (nI s) (nI t) n (nI (cd_ct (fun j => cd_lb (cd_kf ln lt E bk sh top t) j s) k)) (nI k) f_longer f_backwards f_shifted f_top m a_sizes a_letters a_words a_counts a_ones a_twos f1 f2 f3 f4 ks keys := by
  intro d
  induction d with
  | zero =>
    intro k n m f1 f2 f3 f4 ks keys hk hn
    obtain ⟨n, rfl⟩ : ∃ m, n = m + 1 := ⟨n - 1, by omega⟩
    rw [show k = 10 by omega]
    exact br_t (nI_le (a := 10) (by omega) (by omega)) (h m f1 f2 f3 f4 ks keys)
  | succ d ih =>
    intro k n m f1 f2 f3 f4 ks keys hk hn
    obtain ⟨n, rfl⟩ : ∃ m, n = m + 1 := ⟨n - 1, by omega⟩
    refine br_f (nI_ge (b := 10) (by omega) (by omega)) (cd_yCompared D S (by omega) hs h1 h4 (fun m f1 f2 f3 f4 ks keys => ?_))
    have z := ih (k + 1) n m f1 f2 f3 f4 ks keys (by omega) (by omega)
    by_cases c : cd_cm (cd_kf ln lt E bk sh top t k) (cd_kf ln lt E bk sh top t s) = -1
    · rw [cd_ct_t (P := fun j => cd_lb (cd_kf ln lt E bk sh top t) j s) ((cd_lb_iff _ _ _).mpr (Or.inl c))] at z
      exact br_t ((cd_cm_lt _ _).mpr c) (nm_r (nI_1 _) (nm_r (nI_1 k) z))
    · refine br_f (fun q => c ((cd_cm_lt _ _).mp q)) ?_
      by_cases c0 : cd_cm (cd_kf ln lt E bk sh top t k) (cd_kf ln lt E bk sh top t s) = 0
      · refine br_t c0 ?_
        by_cases cs : s ≤ k
        · rw [cd_ct_f (P := fun j => cd_lb (cd_kf ln lt E bk sh top t) j s) (fun q => by
            rcases (cd_lb_iff _ _ _).mp q with q | q
            · exact c q
            · omega)] at z
          exact br_t (nI_le cs (by omega)) (nm_r (nI_1 k) z)
        · rw [cd_ct_t (P := fun j => cd_lb (cd_kf ln lt E bk sh top t) j s) ((cd_lb_iff _ _ _).mpr (Or.inr ⟨c0, by omega⟩))] at z
          exact br_f (nI_ge (by omega) (by omega)) (nm_r (nI_1 _) (nm_r (nI_1 k) z))
      · rw [cd_ct_f (P := fun j => cd_lb (cd_kf ln lt E bk sh top t) j s) (fun q => by
          rcases (cd_lb_iff _ _ _).mp q with q | q
          · exact c q
          · exact c0 q.1)] at z
        exact br_f c0 (nm_r (nI_1 k) z)
theorem cd_yPlace {post : Int32 → SY → Prop} {ln lt : Nat → Nat} {E : cd_E} {g bk sh top : Nat} {wd : Nat → Nat} {s t : Nat} (D : cd_D ln lt E g bk sh top) (S : cd_YS ln lt E g bk sh top wd f_longer f_backwards f_shifted f_top a_sizes a_letters a_words a_counts a_ones a_twos) (hs : s < 10) (h1 : 1 ≤ t) (h4 : t ≤ 4)
    (h : ∀ m f1 f2 f3 f4 ks keys, post (nI (cd_pl (cd_kf ln lt E bk sh top t) s)) (f_longer, f_backwards, f_shifted, f_top, m, a_sizes, a_letters, a_words, a_counts, a_ones, a_twos, f1, f2, f3, f4, ks, keys)) : wpY_placeOf post (f_longer, f_backwards, f_shifted, f_top, f_many, a_sizes, a_letters, a_words, a_counts, a_ones, a_twos, a_first, a_second, a_third, a_fourth, a_keySizes, a_keys) (nI s) (nI t) :=
  Exists.intro 11 (cd_yPlace_5 D S hs h1 h4 h 10 0 11 f_many a_first a_second a_third a_fourth a_keySizes a_keys (by omega) (by omega))
theorem cd_yNth_29 {post : Int32 → SY → Prop} {ln lt : Nat → Nat} {E : cd_E} {g bk sh top : Nat} {wd : Nat → Nat} {k t r : Nat} (D : cd_D ln lt E g bk sh top) (S : cd_YS ln lt E g bk sh top wd f_longer f_backwards f_shifted f_top a_sizes a_letters a_words a_counts a_ones a_twos) (hk : k < 10) (h1 : 1 ≤ t) (h4 : t ≤ 4)
    (hr : r < 10) (hu : ∀ i, i < 10 → (cd_pl (cd_kf ln lt E bk sh top t) i = k ↔ i = r))
    (h : ∀ m f1 f2 f3 f4 ks keys, post (nI r) (f_longer, f_backwards, f_shifted, f_top, m, a_sizes, a_letters, a_words, a_counts, a_ones, a_twos, f1, f2, f3, f4, ks, keys)) :
    ∀ d i n m f1 f2 f3 f4 ks keys, i + d = 10 → d < n → wY_nth_29 post (nI k) (nI t) n (nI (if r < i then r else 0)) (nI i) f_longer f_backwards f_shifted f_top m a_sizes a_letters a_words a_counts a_ones a_twos f1 f2 f3 f4 ks keys := by
  intro d
  induction d with
  | zero =>
    intro i n m f1 f2 f3 f4 ks keys hi hn
    obtain ⟨n, rfl⟩ : ∃ m, n = m + 1 := ⟨n - 1, by omega⟩
    rw [if_pos (by omega)]
    exact br_t (nI_le (a := 10) (by omega) (by omega)) (h m f1 f2 f3 f4 ks keys)
  | succ d ih =>
    intro i n m f1 f2 f3 f4 ks keys hi hn
    obtain ⟨n, rfl⟩ : ∃ m, n = m + 1 := ⟨n - 1, by omega⟩
    refine br_f (nI_ge (b := 10) (by omega) (by omega)) (cd_yPlace D S (by omega) h1 h4 (fun m f1 f2 f3 f4 ks keys => ?_))
    have z := ih (i + 1) n m f1 f2 f3 f4 ks keys (by omega) (by omega)
    have b : cd_pl (cd_kf ln lt E bk sh top t) i ≤ 10 := cd_ct_le _ 10
    by_cases c : cd_pl (cd_kf ln lt E bk sh top t) i = k
    · have e := (hu i (by omega)).mp c
      rw [if_pos (by omega), ← e] at z
      exact br_t (congrArg nI c) (nm_r (nI_1 i) z)
    · have e : ¬ i = r := fun q => c ((hu i (by omega)).mpr q)
      have e2 : (if r < i + 1 then r else 0) = (if r < i then r else 0) := by
        by_cases q : r < i
        · rw [if_pos q, if_pos (by omega)]
        · rw [if_neg q, if_neg (by omega)]
      rw [e2] at z
      exact br_f (fun q => c ((nI_eq (by omega) (by omega)).mp q)) (nm_r (nI_1 i) z)
theorem cd_yKinds_27 {post : Int32 → SY → Prop} {J : Int32 → Int32 → Int32 → Int32 → Int32 → Int32 → Int32 → (Nat → Int32) → (Nat → Int32) → (Nat → Int32) → (Nat → Int32) → (Nat → Int32) → (Nat → Int32) → (Nat → Int32) → (Nat → Int32) → (Nat → Int32) → (Nat → Int32) → (Nat → Int32) → (Nat → Int32) → Prop}
    {ln lt : Nat → Nat} {E : cd_E} {g bk sh top : Nat} {wd : Nat → Nat} {i t c0 : Nat} (D : cd_D ln lt E g bk sh top) (S : cd_YS ln lt E g bk sh top wd f_longer f_backwards f_shifted f_top a_sizes a_letters a_words a_counts a_ones a_twos) (hi : i < 10) (h1 : 1 ≤ t) (h4 : t ≤ 4)
    (h : ∀ m f1 f2 f3 f4 ks keys, J (nI (c0 + if cd_fr (cd_kf ln lt E bk sh top t) i i = true then 1 else 0)) (nI (i + 1)) f_longer f_backwards f_shifted f_top m a_sizes a_letters a_words a_counts a_ones a_twos f1 f2 f3 f4 ks keys) :
    ∀ d j n m f1 f2 f3 f4 ks keys, j + d = i → d < n → wY_kinds_27 post J (nI t) (nI c0) (nI i) n (cd_bI (cd_fr (cd_kf ln lt E bk sh top t) i j)) (nI j) f_longer f_backwards f_shifted f_top m a_sizes a_letters a_words a_counts a_ones a_twos f1 f2 f3 f4 ks keys := by
  intro d
  induction d with
  | zero =>
    intro j n m f1 f2 f3 f4 ks keys hj hn
    obtain ⟨n, rfl⟩ : ∃ m, n = m + 1 := ⟨n - 1, by omega⟩
    have e : j = i := by omega
    subst e
    have z := h m f1 f2 f3 f4 ks keys
    refine br_t (nI_le (by omega) (by omega)) ?_
    by_cases c : cd_fr (cd_kf ln lt E bk sh top t) j j = true
    · rw [if_pos c] at z
      exact br_f (by rw [c]; decide) (nm_r (nI_1 c0) (nm_r (nI_1 j) z))
    · rw [if_neg c] at z
      exact br_t (by rw [Bool.not_eq_true] at c; rw [c]; decide) (nm_r (nI_1 j) z)
  | succ d ih =>
    intro j n m f1 f2 f3 f4 ks keys hj hn
    obtain ⟨n, rfl⟩ : ∃ m, n = m + 1 := ⟨n - 1, by omega⟩
    have es : cd_fr (cd_kf ln lt E bk sh top t) i (j + 1) = (cd_fr (cd_kf ln lt E bk sh top t) i j && !decide (cd_cm (cd_kf ln lt E bk sh top t i) (cd_kf ln lt E bk sh top t j) = 0)) := rfl
    refine br_f (nI_ge (by omega) (by omega)) ?_
    by_cases c : cd_fr (cd_kf ln lt E bk sh top t) i j = true
    · rw [c, Bool.true_and] at es
      refine br_f (by rw [c]; decide) (cd_yCompared D S hi (by omega) h1 h4 (fun m f1 f2 f3 f4 ks keys => ?_))
      have z := ih (j + 1) n m f1 f2 f3 f4 ks keys (by omega) (by omega)
      rw [es] at z
      by_cases q : cd_cm (cd_kf ln lt E bk sh top t i) (cd_kf ln lt E bk sh top t j) = 0
      · rw [decide_eq_true q] at z
        exact br_t q (nm_r (nI_1 j) z)
      · rw [decide_eq_false q] at z
        exact br_f q (nm_r (nI_1 j) z)
    · rw [Bool.not_eq_true] at c
      rw [c, Bool.false_and] at es
      have z := ih (j + 1) n m f1 f2 f3 f4 ks keys (by omega) (by omega)
      rw [es] at z
      exact br_t (by rw [c]; decide) (nm_r (nI_1 j) z)
theorem cd_yKinds_15 {post : Int32 → SY → Prop} {ln lt : Nat → Nat} {E : cd_E} {g bk sh top : Nat} {wd : Nat → Nat} {t : Nat} (D : cd_D ln lt E g bk sh top) (S : cd_YS ln lt E g bk sh top wd f_longer f_backwards f_shifted f_top a_sizes a_letters a_words a_counts a_ones a_twos) (h1 : 1 ≤ t) (h4 : t ≤ 4)
    (h : ∀ m f1 f2 f3 f4 ks keys, post (nI (cd_kn (cd_kf ln lt E bk sh top t))) (f_longer, f_backwards, f_shifted, f_top, m, a_sizes, a_letters, a_words, a_counts, a_ones, a_twos, f1, f2, f3, f4, ks, keys)) :
    ∀ d i n m f1 f2 f3 f4 ks keys, i + d = 10 → d < n → wY_kinds_15 post (nI t) n (nI (cd_ct (fun i => cd_fr (cd_kf ln lt E bk sh top t) i i) i)) (nI i) f_longer f_backwards f_shifted f_top m a_sizes a_letters a_words a_counts a_ones a_twos f1 f2 f3 f4 ks keys := by
  intro d
  induction d with
  | zero =>
    intro i n m f1 f2 f3 f4 ks keys hi hn
    obtain ⟨n, rfl⟩ : ∃ m, n = m + 1 := ⟨n - 1, by omega⟩
    rw [show i = 10 by omega]
    exact br_t (nI_le (a := 10) (by omega) (by omega)) (h m f1 f2 f3 f4 ks keys)
  | succ d ih =>
    intro i n m f1 f2 f3 f4 ks keys hi hn
    obtain ⟨n, rfl⟩ : ∃ m, n = m + 1 := ⟨n - 1, by omega⟩
    refine br_f (nI_ge (b := 10) (by omega) (by omega)) (Exists.intro (i + 1) ?_)
    exact cd_yKinds_27 D S (by omega) h1 h4 (fun m f1 f2 f3 f4 ks keys => ih (i + 1) n m f1 f2 f3 f4 ks keys (by omega) (by omega)) i 0 (i + 1) m f1 f2 f3 f4 ks keys (by omega) (by omega)
/-- find: at a hit, and where there is none -/
theorem cd_yFind_62 {post : Int32 → SY → Prop} {J : Int32 → Int32 → Int32 → Int32 → Int32 → Int32 → (Nat → Int32) → (Nat → Int32) → (Nat → Int32) → (Nat → Int32) → (Nat → Int32) → (Nat → Int32) → (Nat → Int32) → (Nat → Int32) → (Nat → Int32) → (Nat → Int32) → (Nat → Int32) → (Nat → Int32) → Prop}
    {ln lt : Nat → Nat} {E : cd_E} {g bk sh top : Nat} {wd : Nat → Nat} {i j t p : Nat} {x : Int32} (D : cd_D ln lt E g bk sh top) (S : cd_YS ln lt E g bk sh top wd f_longer f_backwards f_shifted f_top a_sizes a_letters a_words a_counts a_ones a_twos) (hi : i < 10) (hj : j < 10) (h1 : 1 ≤ t) (h4 : t ≤ 4) (hp : p ≤ ln i) (hx : ¬ nI p < x)
    (hy : ∀ m f1 f2 f3 f4 ks keys, cd_KY ks keys 1 (cd_kf ln lt E bk sh top t j) → cd_hit ln lt E bk sh top t i j p → post (nI p) (f_longer, f_backwards, f_shifted, f_top, m, a_sizes, a_letters, a_words, a_counts, a_ones, a_twos, f1, f2, f3, f4, ks, keys))
    (hn : ∀ m f1 f2 f3 f4 ks keys, cd_KY ks keys 1 (cd_kf ln lt E bk sh top t j) → ¬ cd_hit ln lt E bk sh top t i j p → J (nI (p + 1)) f_longer f_backwards f_shifted f_top m a_sizes a_letters a_words a_counts a_ones a_twos f1 f2 f3 f4 ks keys) :
    ∀ n q m f1 f2 f3 f4 ks keys, ln i + 1 < q + n → p ≤ q → q ≤ ln i + 1 → cd_KY ks keys 1 (cd_kf ln lt E bk sh top t j) → (∀ r, p ≤ r → r < q → ¬ cd_F ln lt E bk sh top t i j p r) →
      wY_find_62 post J (nI i) (nI t) x (nI p) n (nI q) f_longer f_backwards f_shifted f_top m a_sizes a_letters a_words a_counts a_ones a_twos f1 f2 f3 f4 ks keys := by
  have d1 := D.1 i hi
  have ec : a_sizes (nI i).toNatClampNeg = nI (ln i) := by rw [nI_clamp (by omega), S.2.2.2.2.1 i hi]
  have mj : (cd_kf ln lt E bk sh top t j).length ≤ 99 := cd_key_len (cd_Wf_len D hj) h4
  intro n
  induction n with
  | zero => intro q m f1 f2 f3 f4 ks keys h0 h2 h3; omega
  | succ n ih =>
    intro q m f1 f2 f3 f4 ks keys h0 h2 h3 K hq
    refine And.intro (vp_in_nI hi (by omega)) ?_
    by_cases ce : ln i < q
    · refine br_t (by rw [ec]; exact nI_lt ce (by omega)) (nm_r (nI_1 p) (hn m f1 f2 f3 f4 ks keys K ?_))
      rintro ⟨r, r1, r2, r3⟩
      exact hq r r1 (by omega) r3
    · refine br_f (by rw [ec]; exact nI_nlt (by omega) (by omega)) (br_f hx ?_)
      refine cd_yMakeKey (side := 0) D S (by omega) hi h2 (by omega) h1 h4 (fun m f1 f2 f3 f4 ks' keys' K' o' => ?_)
      have K1 := cd_KY_o K (side := 0) (by omega) (by omega) o'
      have hl := cd_el_len E lt (12 * i + p) (12 * i + q)
      have mi : (cd_key bk (cd_ws sh top (cd_el E lt (12 * i + p) (12 * i + q))) t).length ≤ 99 := cd_key_len (by rw [cd_ws_len]; omega) h4
      refine cd_yOrder K' K1 (by omega) (by omega) (cd_kt_lt (cd_ws_sw sh top _ (fun e q => cd_el_ok D.2.2.1 lt _ _ e q)) bk _ 1) (cd_kt_lt (cd_ws_sw sh top _ (fun e q => cd_el_ok D.2.2.1 lt _ _ e q)) bk _ 1) ?_
      by_cases cf : cd_F ln lt E bk sh top t i j p q
      · exact br_t cf (hy m f1 f2 f3 f4 ks' keys' K1 ⟨q, h2, by omega, cf⟩)
      · refine br_f cf (nm_r (nI_1 q) (ih (q + 1) m f1 f2 f3 f4 ks' keys' (by omega) (by omega) (by omega) K1 (fun r r1 r2 => ?_)))
        by_cases z : r = q
        · rw [z]
          exact cf
        · exact hq r r1 (by omega)
theorem cd_yFind_47 {post : Int32 → SY → Prop} {ln lt : Nat → Nat} {E : cd_E} {g bk sh top : Nat} {wd : Nat → Nat} {i j t b : Nat} {x : Int32} (D : cd_D ln lt E g bk sh top) (S : cd_YS ln lt E g bk sh top wd f_longer f_backwards f_shifted f_top a_sizes a_letters a_words a_counts a_ones a_twos) (hi : i < 10) (hj : j < 10) (h1 : 1 ≤ t) (h4 : t ≤ 4)
    (hx : ∀ p, p ≤ 12 → (nI p < x ↔ p < b))
    (hy : ∀ p m f1 f2 f3 f4 ks keys, b ≤ p → p ≤ ln i → cd_hit ln lt E bk sh top t i j p → (∀ q, b ≤ q → q < p → ¬ cd_hit ln lt E bk sh top t i j q) → post (nI p) (f_longer, f_backwards, f_shifted, f_top, m, a_sizes, a_letters, a_words, a_counts, a_ones, a_twos, f1, f2, f3, f4, ks, keys))
    (hn : ∀ m f1 f2 f3 f4 ks keys, (∀ q, b ≤ q → q ≤ ln i → ¬ cd_hit ln lt E bk sh top t i j q) → post (-4) (f_longer, f_backwards, f_shifted, f_top, m, a_sizes, a_letters, a_words, a_counts, a_ones, a_twos, f1, f2, f3, f4, ks, keys)) :
    ∀ n p m f1 f2 f3 f4 ks keys, ln i + 1 < p + n → p ≤ ln i + 1 → cd_KY ks keys 1 (cd_kf ln lt E bk sh top t j) → (∀ q, b ≤ q → q < p → ¬ cd_hit ln lt E bk sh top t i j q) →
      wY_find_47 post (nI i) (nI t) x n (nI p) f_longer f_backwards f_shifted f_top m a_sizes a_letters a_words a_counts a_ones a_twos f1 f2 f3 f4 ks keys := by
  have d1 := D.1 i hi
  have ec : a_sizes (nI i).toNatClampNeg = nI (ln i) := by rw [nI_clamp (by omega), S.2.2.2.2.1 i hi]
  intro n
  induction n with
  | zero => intro p m f1 f2 f3 f4 ks keys h0 h2; omega
  | succ n ih =>
    intro p m f1 f2 f3 f4 ks keys h0 h2 K hq
    refine And.intro (vp_in_nI hi (by omega)) ?_
    by_cases ce : ln i < p
    · exact br_t (by rw [ec]; exact nI_lt ce (by omega)) (hn m f1 f2 f3 f4 ks keys (fun q q1 q2 => hq q q1 (by omega)))
    · refine br_f (by rw [ec]; exact nI_nlt (by omega) (by omega)) (Exists.intro (ln i + 2) ?_)
      by_cases cb : p < b
      · have z := ih (p + 1) m f1 f2 f3 f4 ks keys (by omega) (by omega) K (fun q q1 q2 => hq q q1 (by omega))
        refine And.intro (vp_in_nI hi (by omega)) (br_f (by rw [ec]; exact nI_nlt (by omega) (by omega)) (br_t ((hx p (by omega)).mpr cb) (nm_r (nI_1 p) z)))
      · refine cd_yFind_62 D S hi hj h1 h4 (by omega) (fun z => cb ((hx p (by omega)).mp z)) (fun m f1 f2 f3 f4 ks keys K' ht => ?_) (fun m f1 f2 f3 f4 ks keys K' ht => ?_) _ p m f1 f2 f3 f4 ks keys (by omega) (Nat.le_refl p) (by omega) K (fun r r1 r2 => by omega)
        · exact hy p m f1 f2 f3 f4 ks keys (by omega) (by omega) ht hq
        · refine ih (p + 1) m f1 f2 f3 f4 ks keys (by omega) (by omega) K' (fun q q1 q2 => ?_)
          by_cases e : q = p
          · rw [e]
            exact ht
          · exact hq q q1 (by omega)
end YASK
end
section
/-! the reference's questions, by its state -/
def cd_RY (ln lt : Nat → Nat) (E : cd_E) (g bk sh top : Nat) (v : SY) : Prop := match v with
  | (f_longer, f_backwards, f_shifted, f_top, f_many, a_sizes, a_letters, a_words, a_counts, a_ones, a_twos, a_first, a_second, a_third, a_fourth, a_keySizes, a_keys) => ∃ wd, cd_YS ln lt E g bk sh top wd f_longer f_backwards f_shifted f_top a_sizes a_letters a_words a_counts a_ones a_twos
section YASK2
variable {ln lt : Nat → Nat} {E : cd_E} {g bk sh top : Nat} {v : SY} {post : Int32 → SY → Prop}
theorem cd_yElements (D : cd_D ln lt E g bk sh top) (R : cd_RY ln lt E g bk sh top v) {s : Nat} (hs : s < 10) (h : ∀ v', cd_RY ln lt E g bk sh top v' → post (nI (cd_Wf ln lt E sh top s).length) v') : wpY_elements post v (nI s) := by
  obtain ⟨f_longer, f_backwards, f_shifted, f_top, f_many, a_sizes, a_letters, a_words, a_counts, a_ones, a_twos, a_first, a_second, a_third, a_fourth, a_keySizes, a_keys⟩ := v
  obtain ⟨wd, S⟩ := R
  unfold wpY_elements
  refine cd_ySlot1 hs (br_f cd_10 (And.intro (vp_in_nI hs (by omega)) ?_))
  have d1 := D.1 s hs
  rw [nI_clamp (n := s) (by omega), S.2.2.2.2.1 s hs]
  refine cd_yFind (p := 0) D S hs (by omega) d1 (fun m f1 f2 f3 f4 hm hR => ?_)
  rw [hm]
  exact h _ ⟨wd, S⟩
theorem cd_yElements_b {x : Int32} (hx : cd_bad 10 x) (h : post (-2) v) : wpY_elements post v x := by
  obtain ⟨f_longer, f_backwards, f_shifted, f_top, f_many, a_sizes, a_letters, a_words, a_counts, a_ones, a_twos, a_first, a_second, a_third, a_fourth, a_keySizes, a_keys⟩ := v
  unfold wpY_elements
  exact cd_ySlot0 hx (br_t rfl h)
theorem cd_yCompare (D : cd_D ln lt E g bk sh top) (R : cd_RY ln lt E g bk sh top v) {i j t : Nat} (hi : i < 10) (hj : j < 10) (h1 : 1 ≤ t) (h4 : t ≤ 4)
    (h : ∀ v', cd_RY ln lt E g bk sh top v' → post (cd_cm (cd_kf ln lt E bk sh top t i) (cd_kf ln lt E bk sh top t j)) v') : wpY_compare post v (nI i) (nI j) (nI t) := by
  obtain ⟨f_longer, f_backwards, f_shifted, f_top, f_many, a_sizes, a_letters, a_words, a_counts, a_ones, a_twos, a_first, a_second, a_third, a_fourth, a_keySizes, a_keys⟩ := v
  obtain ⟨wd, S⟩ := R
  unfold wpY_compare
  exact cd_ySlot1 hi (br_f cd_10 (cd_ySlot1 hj (br_f cd_10 (cd_yStr1 h1 h4 (br_f cd_10 (cd_yCompared D S hi hj h1 h4 (fun m f1 f2 f3 f4 ks keys => h _ ⟨wd, S⟩)))))))
theorem cd_yCompare_b {x y z : Int32} (hx : cd_bad 10 x ∨ cd_bad 10 y) (h : post (-2) v) : wpY_compare post v x y z := by
  obtain ⟨f_longer, f_backwards, f_shifted, f_top, f_many, a_sizes, a_letters, a_words, a_counts, a_ones, a_twos, a_first, a_second, a_third, a_fourth, a_keySizes, a_keys⟩ := v
  unfold wpY_compare
  rcases cd_slot 10 x with ⟨i, hi, rfl⟩ | c
  · rcases hx with hx | hx
    · exact absurd ⟨i, hi, rfl⟩ hx
    · exact cd_ySlot1 hi (br_f cd_10 (cd_ySlot0 hx (br_t rfl h)))
  · exact cd_ySlot0 c (br_t rfl h)
theorem cd_yCompare_s {i j : Nat} (hi : i < 10) (hj : j < 10) {z : Int32} (hz : cd_badS z) (h : post (-3) v) : wpY_compare post v (nI i) (nI j) z := by
  obtain ⟨f_longer, f_backwards, f_shifted, f_top, f_many, a_sizes, a_letters, a_words, a_counts, a_ones, a_twos, a_first, a_second, a_third, a_fourth, a_keySizes, a_keys⟩ := v
  unfold wpY_compare
  exact cd_ySlot1 hi (br_f cd_10 (cd_ySlot1 hj (br_f cd_10 (cd_yStr0 hz (br_t rfl h)))))
theorem cd_yKeySize (D : cd_D ln lt E g bk sh top) (R : cd_RY ln lt E g bk sh top v) {s t : Nat} (hs : s < 10) (h1 : 1 ≤ t) (h4 : t ≤ 4)
    (h : ∀ v', cd_RY ln lt E g bk sh top v' → post (nI (cd_kf ln lt E bk sh top t s).length) v') : wpY_keySize post v (nI s) (nI t) := by
  obtain ⟨f_longer, f_backwards, f_shifted, f_top, f_many, a_sizes, a_letters, a_words, a_counts, a_ones, a_twos, a_first, a_second, a_third, a_fourth, a_keySizes, a_keys⟩ := v
  obtain ⟨wd, S⟩ := R
  unfold wpY_keySize
  refine cd_ySlot1 hs (br_f cd_10 (cd_yStr1 h1 h4 (br_f cd_10 (And.intro (vp_in_nI hs (by omega)) ?_))))
  have d1 := D.1 s hs
  rw [nI_clamp (n := s) (by omega), S.2.2.2.2.1 s hs]
  refine cd_yMakeKey (side := 0) (p := 0) D S (by omega) hs (by omega) d1 h1 h4 (fun m f1 f2 f3 f4 ks keys K o => ?_)
  have e : ks 0 = nI (cd_kf ln lt E bk sh top t s).length := K.1
  dsimp only
  rw [e]
  exact h _ ⟨wd, S⟩
theorem cd_yKeySize_b {x y : Int32} (hx : cd_bad 10 x) (h : post (-2) v) : wpY_keySize post v x y := by
  obtain ⟨f_longer, f_backwards, f_shifted, f_top, f_many, a_sizes, a_letters, a_words, a_counts, a_ones, a_twos, a_first, a_second, a_third, a_fourth, a_keySizes, a_keys⟩ := v
  unfold wpY_keySize
  exact cd_ySlot0 hx (br_t rfl h)
theorem cd_yKeySize_s {i : Nat} (hi : i < 10) {z : Int32} (hz : cd_badS z) (h : post (-3) v) : wpY_keySize post v (nI i) z := by
  obtain ⟨f_longer, f_backwards, f_shifted, f_top, f_many, a_sizes, a_letters, a_words, a_counts, a_ones, a_twos, a_first, a_second, a_third, a_fourth, a_keySizes, a_keys⟩ := v
  unfold wpY_keySize
  exact cd_ySlot1 hi (br_f cd_10 (cd_yStr0 hz (br_t rfl h)))
theorem cd_yKeyAt (D : cd_D ln lt E g bk sh top) (R : cd_RY ln lt E g bk sh top v) {s t k : Nat} (hs : s < 10) (h1 : 1 ≤ t) (h4 : t ≤ 4) (hk : k < (cd_kf ln lt E bk sh top t s).length)
    (h : ∀ v', cd_RY ln lt E g bk sh top v' → post (nI (cd_at (cd_kf ln lt E bk sh top t s) k)) v') : wpY_keyAt post v (nI s) (nI t) (nI k) := by
  have hlen := cd_kf_len D hs h1 h4
  obtain ⟨f_longer, f_backwards, f_shifted, f_top, f_many, a_sizes, a_letters, a_words, a_counts, a_ones, a_twos, a_first, a_second, a_third, a_fourth, a_keySizes, a_keys⟩ := v
  obtain ⟨wd, S⟩ := R
  unfold wpY_keyAt
  refine cd_ySlot1 hs (br_f cd_10 (cd_yStr1 h1 h4 (br_f cd_10 (And.intro (vp_in_nI hs (by omega)) ?_))))
  have d1 := D.1 s hs
  rw [nI_clamp (n := s) (by omega), S.2.2.2.2.1 s hs]
  refine cd_yMakeKey (side := 0) (p := 0) D S (by omega) hs (by omega) d1 h1 h4 (fun m f1 f2 f3 f4 ks keys K o => ?_)
  have e : ks 0 = nI (cd_kf ln lt E bk sh top t s).length := K.1
  have e2 : keys (110 * 0 + k) = nI (cd_at (cd_kf ln lt E bk sh top t s) k) := K.2 k hk
  rw [show 110 * 0 + k = k by omega] at e2
  refine br_f (nI_pos (by omega)) ?_
  rw [e, nI_clamp (n := k) (by omega), e2]
  exact br_f (nI_ge hk (by omega)) (And.intro (vp_in_nI (by omega) (by omega)) (h _ ⟨wd, S⟩))
theorem cd_yKeyAt_p (D : cd_D ln lt E g bk sh top) (R : cd_RY ln lt E g bk sh top v) {s t : Nat} (hs : s < 10) (h1 : 1 ≤ t) (h4 : t ≤ 4) {x : Int32} (hx : cd_bad (cd_kf ln lt E bk sh top t s).length x)
    (h : ∀ v', cd_RY ln lt E g bk sh top v' → post (-4) v') : wpY_keyAt post v (nI s) (nI t) x := by
  have hlen := cd_kf_len D hs h1 h4
  obtain ⟨f_longer, f_backwards, f_shifted, f_top, f_many, a_sizes, a_letters, a_words, a_counts, a_ones, a_twos, a_first, a_second, a_third, a_fourth, a_keySizes, a_keys⟩ := v
  obtain ⟨wd, S⟩ := R
  unfold wpY_keyAt
  refine cd_ySlot1 hs (br_f cd_10 (cd_yStr1 h1 h4 (br_f cd_10 (And.intro (vp_in_nI hs (by omega)) ?_))))
  have d1 := D.1 s hs
  rw [nI_clamp (n := s) (by omega), S.2.2.2.2.1 s hs]
  refine cd_yMakeKey (side := 0) (p := 0) D S (by omega) hs (by omega) d1 h1 h4 (fun m f1 f2 f3 f4 ks keys K o => ?_)
  have e : ks 0 = nI (cd_kf ln lt E bk sh top t s).length := K.1
  refine br_c (fun _ => h _ ⟨wd, S⟩) (fun n => br_t ?_ (h _ ⟨wd, S⟩))
  rw [e]
  exact cd_bad_ge hx (by omega) n
theorem cd_yKeyAt_b {x y z : Int32} (hx : cd_bad 10 x) (h : post (-2) v) : wpY_keyAt post v x y z := by
  obtain ⟨f_longer, f_backwards, f_shifted, f_top, f_many, a_sizes, a_letters, a_words, a_counts, a_ones, a_twos, a_first, a_second, a_third, a_fourth, a_keySizes, a_keys⟩ := v
  unfold wpY_keyAt
  exact cd_ySlot0 hx (br_t rfl h)
theorem cd_yKeyAt_s {i : Nat} (hi : i < 10) {z y : Int32} (hz : cd_badS z) (h : post (-3) v) : wpY_keyAt post v (nI i) z y := by
  obtain ⟨f_longer, f_backwards, f_shifted, f_top, f_many, a_sizes, a_letters, a_words, a_counts, a_ones, a_twos, a_first, a_second, a_third, a_fourth, a_keySizes, a_keys⟩ := v
  unfold wpY_keyAt
  exact cd_ySlot1 hi (br_f cd_10 (cd_yStr0 hz (br_t rfl h)))
theorem cd_yRank (D : cd_D ln lt E g bk sh top) (R : cd_RY ln lt E g bk sh top v) {s t : Nat} (hs : s < 10) (h1 : 1 ≤ t) (h4 : t ≤ 4)
    (h : ∀ v', cd_RY ln lt E g bk sh top v' → post (nI (cd_rk (cd_kf ln lt E bk sh top t) s)) v') : wpY_rank post v (nI s) (nI t) := by
  obtain ⟨f_longer, f_backwards, f_shifted, f_top, f_many, a_sizes, a_letters, a_words, a_counts, a_ones, a_twos, a_first, a_second, a_third, a_fourth, a_keySizes, a_keys⟩ := v
  obtain ⟨wd, S⟩ := R
  unfold wpY_rank
  refine cd_ySlot1 hs (br_f cd_10 (cd_yStr1 h1 h4 (br_f cd_10 (Exists.intro 11 ?_))))
  exact cd_yRank_27 D S hs h1 h4 (fun m f1 f2 f3 f4 ks keys => h _ ⟨wd, S⟩) 10 0 11 f_many a_first a_second a_third a_fourth a_keySizes a_keys (by omega) (by omega)
theorem cd_yRank_b {x y : Int32} (hx : cd_bad 10 x) (h : post (-2) v) : wpY_rank post v x y := by
  obtain ⟨f_longer, f_backwards, f_shifted, f_top, f_many, a_sizes, a_letters, a_words, a_counts, a_ones, a_twos, a_first, a_second, a_third, a_fourth, a_keySizes, a_keys⟩ := v
  unfold wpY_rank
  exact cd_ySlot0 hx (br_t rfl h)
theorem cd_yRank_s {i : Nat} (hi : i < 10) {z : Int32} (hz : cd_badS z) (h : post (-3) v) : wpY_rank post v (nI i) z := by
  obtain ⟨f_longer, f_backwards, f_shifted, f_top, f_many, a_sizes, a_letters, a_words, a_counts, a_ones, a_twos, a_first, a_second, a_third, a_fourth, a_keySizes, a_keys⟩ := v
  unfold wpY_rank
  exact cd_ySlot1 hi (br_f cd_10 (cd_yStr0 hz (br_t rfl h)))
theorem cd_yNth (D : cd_D ln lt E g bk sh top) (R : cd_RY ln lt E g bk sh top v) {k t r : Nat} (hk : k < 10) (h1 : 1 ≤ t) (h4 : t ≤ 4) (hr : r < 10) (hu : ∀ i, i < 10 → (cd_pl (cd_kf ln lt E bk sh top t) i = k ↔ i = r))
    (h : ∀ v', cd_RY ln lt E g bk sh top v' → post (nI r) v') : wpY_nth post v (nI k) (nI t) := by
  obtain ⟨f_longer, f_backwards, f_shifted, f_top, f_many, a_sizes, a_letters, a_words, a_counts, a_ones, a_twos, a_first, a_second, a_third, a_fourth, a_keySizes, a_keys⟩ := v
  obtain ⟨wd, S⟩ := R
  unfold wpY_nth
  refine cd_yStr1 h1 h4 (br_f cd_10 (br_f (nI_pos (by omega)) (br_t (cd_le9.mpr (nI_lt (b := 10) hk (by omega))) (Exists.intro 11 ?_))))
  exact cd_yNth_29 D S hk h1 h4 hr hu (fun m f1 f2 f3 f4 ks keys => h _ ⟨wd, S⟩) 10 0 11 f_many a_first a_second a_third a_fourth a_keySizes a_keys (by omega) (by omega)
theorem cd_yNth_s {x z : Int32} (hz : cd_badS z) (h : post (-3) v) : wpY_nth post v x z := by
  obtain ⟨f_longer, f_backwards, f_shifted, f_top, f_many, a_sizes, a_letters, a_words, a_counts, a_ones, a_twos, a_first, a_second, a_third, a_fourth, a_keySizes, a_keys⟩ := v
  unfold wpY_nth
  exact cd_yStr0 hz (br_t rfl h)
theorem cd_yNth_b {t : Nat} (h1 : 1 ≤ t) (h4 : t ≤ 4) {x : Int32} (hx : cd_bad 10 x) (h : post (-4) v) : wpY_nth post v x (nI t) := by
  obtain ⟨f_longer, f_backwards, f_shifted, f_top, f_many, a_sizes, a_letters, a_words, a_counts, a_ones, a_twos, a_first, a_second, a_third, a_fourth, a_keySizes, a_keys⟩ := v
  unfold wpY_nth
  exact cd_yStr1 h1 h4 (br_f cd_10 (br_c (fun _ => h) (fun n => br_f (fun z => Int32.not_lt.mpr (cd_bad_ge (n := 10) hx (by omega) n) (cd_le9.mp z)) h)))
theorem cd_yKinds (D : cd_D ln lt E g bk sh top) (R : cd_RY ln lt E g bk sh top v) {t : Nat} (h1 : 1 ≤ t) (h4 : t ≤ 4)
    (h : ∀ v', cd_RY ln lt E g bk sh top v' → post (nI (cd_kn (cd_kf ln lt E bk sh top t))) v') : wpY_kinds post v (nI t) := by
  obtain ⟨f_longer, f_backwards, f_shifted, f_top, f_many, a_sizes, a_letters, a_words, a_counts, a_ones, a_twos, a_first, a_second, a_third, a_fourth, a_keySizes, a_keys⟩ := v
  obtain ⟨wd, S⟩ := R
  unfold wpY_kinds
  refine cd_yStr1 h1 h4 (br_f cd_10 (Exists.intro 11 ?_))
  exact cd_yKinds_15 D S h1 h4 (fun m f1 f2 f3 f4 ks keys => h _ ⟨wd, S⟩) 10 0 11 f_many a_first a_second a_third a_fourth a_keySizes a_keys (by omega) (by omega)
theorem cd_yKinds_s {z : Int32} (hz : cd_badS z) (h : post (-3) v) : wpY_kinds post v z := by
  obtain ⟨f_longer, f_backwards, f_shifted, f_top, f_many, a_sizes, a_letters, a_words, a_counts, a_ones, a_twos, a_first, a_second, a_third, a_fourth, a_keySizes, a_keys⟩ := v
  unfold wpY_kinds
  exact cd_yStr0 hz (br_t rfl h)
theorem cd_yFindR (D : cd_D ln lt E g bk sh top) (R : cd_RY ln lt E g bk sh top v) {i j t b : Nat} (hi : i < 10) (hj : j < 10) (h1 : 1 ≤ t) (h4 : t ≤ 4) {x : Int32} (hx : (x < 0 ∧ b = 0) ∨ (x = nI b ∧ b < 2 ^ 31))
    (hy : ∀ p v', cd_RY ln lt E g bk sh top v' → b ≤ p → p ≤ ln i → cd_hit ln lt E bk sh top t i j p → (∀ q, b ≤ q → q < p → ¬ cd_hit ln lt E bk sh top t i j q) → post (nI p) v')
    (hn : ∀ v', cd_RY ln lt E g bk sh top v' → (∀ q, b ≤ q → q ≤ ln i → ¬ cd_hit ln lt E bk sh top t i j q) → post (-4) v') : wpY_find post v (nI i) (nI j) (nI t) x := by
  have hx' : ∀ p, p ≤ 12 → (nI p < x ↔ p < b) := by
    intro p hp
    rcases hx with ⟨q, e⟩ | ⟨q, e⟩
    · constructor
      · intro z
        exact absurd (Int32.lt_trans z q) (nI_pos (by omega))
      · intro z
        omega
    · rw [q]
      exact nI_ltI (by omega) e
  obtain ⟨f_longer, f_backwards, f_shifted, f_top, f_many, a_sizes, a_letters, a_words, a_counts, a_ones, a_twos, a_first, a_second, a_third, a_fourth, a_keySizes, a_keys⟩ := v
  obtain ⟨wd, S⟩ := R
  unfold wpY_find
  refine cd_ySlot1 hi (br_f cd_10 (cd_ySlot1 hj (br_f cd_10 (cd_yStr1 h1 h4 (br_f cd_10 (And.intro (vp_in_nI hj (by omega)) ?_))))))
  have d1 := D.1 j hj
  rw [nI_clamp (n := j) (by omega), S.2.2.2.2.1 j hj]
  refine cd_yMakeKey (side := 1) (p := 0) D S (by omega) hj (by omega) d1 h1 h4 (fun m f1 f2 f3 f4 ks keys K o => Exists.intro (ln i + 2) ?_)
  exact cd_yFind_47 (b := b) D S hi hj h1 h4 hx' (fun p m f1 f2 f3 f4 ks keys q1 q2 q3 q4 => hy p _ ⟨wd, S⟩ q1 q2 q3 q4) (fun m f1 f2 f3 f4 ks keys q => hn _ ⟨wd, S⟩ q) _ 0 m f1 f2 f3 f4 ks keys (by omega) (by omega) K (fun q q1 q2 => by omega)
theorem cd_yFind_b {x y z f : Int32} (hx : cd_bad 10 x ∨ cd_bad 10 y) (h : post (-2) v) : wpY_find post v x y z f := by
  obtain ⟨f_longer, f_backwards, f_shifted, f_top, f_many, a_sizes, a_letters, a_words, a_counts, a_ones, a_twos, a_first, a_second, a_third, a_fourth, a_keySizes, a_keys⟩ := v
  unfold wpY_find
  rcases cd_slot 10 x with ⟨i, hi, rfl⟩ | c
  · rcases hx with hx | hx
    · exact absurd ⟨i, hi, rfl⟩ hx
    · exact cd_ySlot1 hi (br_f cd_10 (cd_ySlot0 hx (br_t rfl h)))
  · exact cd_ySlot0 c (br_t rfl h)
theorem cd_yFind_s {i j : Nat} (hi : i < 10) (hj : j < 10) {z f : Int32} (hz : cd_badS z) (h : post (-3) v) : wpY_find post v (nI i) (nI j) z f := by
  obtain ⟨f_longer, f_backwards, f_shifted, f_top, f_many, a_sizes, a_letters, a_words, a_counts, a_ones, a_twos, a_first, a_second, a_third, a_fourth, a_keySizes, a_keys⟩ := v
  unfold wpY_find
  exact cd_ySlot1 hi (br_f cd_10 (cd_ySlot1 hj (br_f cd_10 (cd_yStr0 hz (br_t rfl h)))))
end YASK2
end
section
/-! strings and settings on both sides -/
def cd_un (f : Nat → Nat) (k x : Nat) : Nat → Nat := fun j => if j = k then x else f j
theorem cd_un_s {f : Nat → Nat} {k x : Nat} : cd_un f k x k = x := if_pos rfl
theorem cd_un_n {f : Nat → Nat} {k x j : Nat} (h : ¬ j = k) : cd_un f k x j = f j := if_neg h
/-- elements depend on the letters in between alone -/
theorem cd_ln_congr (E : cd_E) {lt lt' : Nat → Nat} {a en : Nat} (h : ∀ j, a ≤ j → j < en → lt j = lt' j) : cd_ln E lt a en = cd_ln E lt' a en := by
  unfold cd_ln
  by_cases c3 : a + 3 ≤ en
  · rw [cd_wn_ext lt lt' 3 a a (fun k hk => h _ (by omega) (by omega)), cd_wn_ext lt lt' 2 a a (fun k hk => h _ (by omega) (by omega))]
  · rw [if_neg (fun q => c3 q.1), if_neg (c := a + 3 ≤ en ∧ (E (cd_wn lt' 3 a)).isSome = true) (fun q => c3 q.1)]
    by_cases c2 : a + 2 ≤ en
    · rw [cd_wn_ext lt lt' 2 a a (fun k hk => h _ (by omega) (by omega))]
    · rw [if_neg (fun q => c2 q.1), if_neg (c := a + 2 ≤ en ∧ (E (cd_wn lt' 2 a)).isSome = true) (fun q => c2 q.1)]
theorem cd_ps_congr (E : cd_E) {lt lt' : Nat → Nat} {en : Nat} : ∀ n a, (∀ j, a ≤ j → j < en → lt j = lt' j) → cd_ps E lt en n a = cd_ps E lt' en n a
  | 0, _, _ => rfl
  | n + 1, a, h => by
    rw [cd_ps_s, cd_ps_s]
    by_cases c : en ≤ a
    · rw [if_pos c, if_pos c]
    · have b := cd_ln_b E lt' a en
      have b2 := cd_ln_e E lt' (a := a) (en := en) (by omega)
      rw [if_neg c, if_neg c, cd_ln_congr E h, cd_wn_ext lt lt' (cd_ln E lt' a en) a a (fun k hk => h _ (by omega) (by omega)), cd_ps_congr E n _ (fun j hj => h j (by omega))]
theorem cd_Wf_congr {ln ln' lt lt' : Nat → Nat} (E : cd_E) (sh top s : Nat) (hl : ln s = ln' s) (h : ∀ j, 12 * s ≤ j → j < 12 * s + ln s → lt j = lt' j) : cd_Wf ln lt E sh top s = cd_Wf ln' lt' E sh top s := by
  unfold cd_Wf cd_el
  rw [← hl, cd_ps_congr E _ _ h]
theorem cd_CA_chg {Wf Wf' : Nat → List cd_W} {bk s : Nat} {r o : Int32} {c w od : Nat → Int32} (hs : s < 10) (C : cd_CA Wf bk r o c w od) (h : ∀ i, i < 10 → ¬ i = s → Wf i = Wf' i) : cd_CA Wf' bk (r &&& (((1 : Int32) <<< (nI s &&& 31)) ^^^ (-1))) 0 c w od := by
  refine ⟨fun i hi hb => ?_, fun t h1 h4 hb => ?_⟩
  · rw [cd_bclr r (by omega) (by omega)] at hb
    rw [Bool.and_eq_true, Bool.not_eq_true', decide_eq_false_iff_not] at hb
    rw [← h i hi (fun q => hb.2 q.symm)]
    exact C.1 i hi hb.1
  · rw [b_0] at hb
    cases hb
theorem cd_CA_all {Wf : Nat → List cd_W} {bk : Nat} {c w od : Nat → Int32} : cd_CA Wf bk 0 0 c w od := by
  refine ⟨fun i hi hb => ?_, fun t h1 h4 hb => ?_⟩
  · rw [b_0] at hb
    cases hb
  · rw [b_0] at hb
    cases hb
section PUT
variable {ln lt : Nat → Nat} {E : cd_E} {g bk sh top : Nat} {u : SX} {v : SY} {post : Int32 → SX → Prop} {pos2 : Int32 → SY → Prop}
theorem cd_D_put (D : cd_D ln lt E g bk sh top) {s c : Nat} (hs : s < 10) (hc : c < 10) (h12 : ln s < 12) : cd_D (cd_un ln s (ln s + 1)) (cd_un lt (12 * s + ln s) c) E g bk sh top := by
  refine ⟨fun i hi => ?_, fun j hj => ?_, D.2.2⟩
  · by_cases e : i = s
    · rw [e, cd_un_s]
      omega
    · rw [cd_un_n e]
      exact D.1 i hi
  · by_cases e : j = 12 * s + ln s
    · rw [e, cd_un_s]
      exact hc
    · rw [cd_un_n e]
      exact D.2.1 j hj
theorem cd_xPut (D : cd_D ln lt E g bk sh top) (R : cd_RX ln lt E g bk sh top u) {s c : Nat} (hs : s < 10) (hc : c < 10) (h12 : ln s < 12)
    (h : ∀ u', cd_RX (cd_un ln s (ln s + 1)) (cd_un lt (12 * s + ln s) c) E g bk sh top u' → post (nI (ln s + 1)) u') : wpX_put post u (nI s) (nI c) := by
  obtain ⟨f_groups, f_backwards, f_shifted, f_top, f_ready, f_ordered, f_wordLength, a_length, a_letters, a_cells, a_groupLength, a_groupLetters, a_groupsFrom, a_count, a_weights, a_order, a_word⟩ := u
  obtain ⟨⟨gL, gT, S⟩, C⟩ := R
  obtain ⟨s1, s2, s3, s4, s5, s6, s7, s8⟩ := S
  have ec : (nI s).toNatClampNeg = s := nI_clamp (by omega)
  have hv : vp_in (nI s) 10 := vp_in_nI hs (by omega)
  unfold wpX_put
  refine cd_xSlot1 hs (br_f cd_10 (cd_xLet1 hc (br_f cd_10 (And.intro hv ?_))))
  rw [ec, s5 s hs, cd_m12, nI_add]
  refine br_t (nI_lt (b := 12) h12 (by omega)) (And.intro hv (And.intro (vp_in_nI (by omega) (by omega)) (nm_r (e' := upd a_letters (12 * s + ln s) (nI c)) (by rw [nI_clamp (by omega)]) (And.intro hv (And.intro hv (nm_r (e' := upd a_length s (nI (ln s + 1))) (by rw [nI_1]) (nm_e (And.intro hv ?_))))))))
  rw [pk_us]
  refine h _ ⟨⟨gL, gT, s1, s2, s3, s4, fun i hi => ?_, fun j hj => ?_, s7, s8⟩, cd_CA_chg hs C (fun i hi hn => cd_Wf_congr E sh top i (cd_un_n hn).symm (fun j h1 h2 => (cd_un_n ?_).symm))⟩
  · by_cases e : i = s
    · rw [e, pk_us, cd_un_s]
    · rw [pk_un e, cd_un_n e]
      exact s5 i hi
  · by_cases e : j = 12 * s + ln s
    · rw [e, pk_us, cd_un_s]
    · rw [pk_un e, cd_un_n e]
      exact s6 j hj
  · have := D.1 i hi
    omega
theorem cd_xPut_f (D : cd_D ln lt E g bk sh top) (R : cd_RX ln lt E g bk sh top u) {s c : Nat} (hs : s < 10) (hc : c < 10) (h12 : ¬ ln s < 12) (h : post (-5) u) : wpX_put post u (nI s) (nI c) := by
  obtain ⟨f_groups, f_backwards, f_shifted, f_top, f_ready, f_ordered, f_wordLength, a_length, a_letters, a_cells, a_groupLength, a_groupLetters, a_groupsFrom, a_count, a_weights, a_order, a_word⟩ := u
  obtain ⟨⟨gL, gT, S⟩, C⟩ := R
  have d1 := D.1 s hs
  unfold wpX_put
  refine cd_xSlot1 hs (br_f cd_10 (cd_xLet1 hc (br_f cd_10 (And.intro (vp_in_nI hs (by omega)) (br_f ?_ h)))))
  rw [nI_clamp (by omega), S.2.2.2.2.1 s hs]
  exact nI_nlt (b := 12) (by omega) (by omega)
theorem cd_xPut_b {x y : Int32} (hx : cd_bad 10 x) (h : post (-2) u) : wpX_put post u x y := by
  obtain ⟨f_groups, f_backwards, f_shifted, f_top, f_ready, f_ordered, f_wordLength, a_length, a_letters, a_cells, a_groupLength, a_groupLetters, a_groupsFrom, a_count, a_weights, a_order, a_word⟩ := u
  unfold wpX_put
  exact cd_xSlot0 hx (br_t rfl h)
theorem cd_xPut_l {s : Nat} (hs : s < 10) {y : Int32} (hy : cd_bad 10 y) (h : post (-4) u) : wpX_put post u (nI s) y := by
  obtain ⟨f_groups, f_backwards, f_shifted, f_top, f_ready, f_ordered, f_wordLength, a_length, a_letters, a_cells, a_groupLength, a_groupLetters, a_groupsFrom, a_count, a_weights, a_order, a_word⟩ := u
  unfold wpX_put
  exact cd_xSlot1 hs (br_f cd_10 (cd_xLet0 hy (br_t rfl h)))
theorem cd_yPut (R : cd_RY ln lt E g bk sh top v) {s c : Nat} (hs : s < 10) (hc : c < 10) (h12 : ln s < 12)
    (h : ∀ v', cd_RY (cd_un ln s (ln s + 1)) (cd_un lt (12 * s + ln s) c) E g bk sh top v' → pos2 (nI (ln s + 1)) v') : wpY_put pos2 v (nI s) (nI c) := by
  obtain ⟨f_longer, f_backwards, f_shifted, f_top, f_many, a_sizes, a_letters, a_words, a_counts, a_ones, a_twos, a_first, a_second, a_third, a_fourth, a_keySizes, a_keys⟩ := v
  obtain ⟨wd, S⟩ := R
  obtain ⟨s1, s2, s3, s4, s5, s6, s7⟩ := S
  have ec : (nI s).toNatClampNeg = s := nI_clamp (by omega)
  have hv : vp_in (nI s) 10 := vp_in_nI hs (by omega)
  unfold wpY_put
  refine cd_ySlot1 hs (br_f cd_10 (br_f (nI_pos (by omega)) (br_t (cd_le9.mpr (nI_lt (b := 10) hc (by omega))) (And.intro hv ?_))))
  rw [ec, s5 s hs, cd_m12, nI_add]
  refine br_f (fun z => by have := (nI_eq (b := 12) (by omega) (by omega)).mp z; omega) (And.intro hv (And.intro (vp_in_nI (by omega) (by omega)) (nm_r (e' := upd a_letters (12 * s + ln s) (nI c)) (by rw [nI_clamp (by omega)]) (And.intro hv (And.intro hv (nm_r (e' := upd a_sizes s (nI (ln s + 1))) (by rw [nI_1]) (And.intro hv ?_)))))))
  rw [pk_us]
  refine h _ ⟨wd, s1, s2, s3, s4, fun i hi => ?_, fun j hj => ?_, s7⟩
  · by_cases e : i = s
    · rw [e, pk_us, cd_un_s]
    · rw [pk_un e, cd_un_n e]
      exact s5 i hi
  · by_cases e : j = 12 * s + ln s
    · rw [e, pk_us, cd_un_s]
    · rw [pk_un e, cd_un_n e]
      exact s6 j hj
theorem cd_yPut_f (D : cd_D ln lt E g bk sh top) (R : cd_RY ln lt E g bk sh top v) {s c : Nat} (hs : s < 10) (hc : c < 10) (h12 : ¬ ln s < 12) (h : pos2 (-5) v) : wpY_put pos2 v (nI s) (nI c) := by
  obtain ⟨f_longer, f_backwards, f_shifted, f_top, f_many, a_sizes, a_letters, a_words, a_counts, a_ones, a_twos, a_first, a_second, a_third, a_fourth, a_keySizes, a_keys⟩ := v
  obtain ⟨wd, S⟩ := R
  have d1 := D.1 s hs
  unfold wpY_put
  refine cd_ySlot1 hs (br_f cd_10 (br_f (nI_pos (by omega)) (br_t (cd_le9.mpr (nI_lt (b := 10) hc (by omega))) (And.intro (vp_in_nI hs (by omega)) (br_t ?_ h)))))
  rw [nI_clamp (by omega), S.2.2.2.2.1 s hs, show ln s = 12 by omega]
  rfl
theorem cd_yPut_b {x y : Int32} (hx : cd_bad 10 x) (h : pos2 (-2) v) : wpY_put pos2 v x y := by
  obtain ⟨f_longer, f_backwards, f_shifted, f_top, f_many, a_sizes, a_letters, a_words, a_counts, a_ones, a_twos, a_first, a_second, a_third, a_fourth, a_keySizes, a_keys⟩ := v
  unfold wpY_put
  exact cd_ySlot0 hx (br_t rfl h)
theorem cd_yPut_l {s : Nat} (hs : s < 10) {y : Int32} (hy : cd_bad 10 y) (h : pos2 (-4) v) : wpY_put pos2 v (nI s) y := by
  obtain ⟨f_longer, f_backwards, f_shifted, f_top, f_many, a_sizes, a_letters, a_words, a_counts, a_ones, a_twos, a_first, a_second, a_third, a_fourth, a_keySizes, a_keys⟩ := v
  unfold wpY_put
  exact cd_ySlot1 hs (br_f cd_10 (br_c (fun _ => h) (fun n => br_f (fun z => Int32.not_lt.mpr (cd_bad_ge (n := 10) hy (by omega) n) (cd_le9.mp z)) h)))
/-! take -/
theorem cd_D_take (D : cd_D ln lt E g bk sh top) {s : Nat} (hs : s < 10) : cd_D (cd_un ln s (ln s - 1)) lt E g bk sh top := by
  refine ⟨fun i hi => ?_, D.2⟩
  have d1 := D.1 i hi
  by_cases e : i = s
  · rw [e, cd_un_s, ← e]
    omega
  · rw [cd_un_n e]
    exact d1
theorem cd_xTake (D : cd_D ln lt E g bk sh top) (R : cd_RX ln lt E g bk sh top u) {s : Nat} (hs : s < 10) (h0 : ¬ ln s = 0)
    (h : ∀ u', cd_RX (cd_un ln s (ln s - 1)) lt E g bk sh top u' → post (nI (lt (12 * s + (ln s - 1)))) u') : wpX_take post u (nI s) := by
  obtain ⟨f_groups, f_backwards, f_shifted, f_top, f_ready, f_ordered, f_wordLength, a_length, a_letters, a_cells, a_groupLength, a_groupLetters, a_groupsFrom, a_count, a_weights, a_order, a_word⟩ := u
  obtain ⟨⟨gL, gT, S⟩, C⟩ := R
  obtain ⟨s1, s2, s3, s4, s5, s6, s7, s8⟩ := S
  have d1 := D.1 s hs
  have ec : (nI s).toNatClampNeg = s := nI_clamp (by omega)
  have hv : vp_in (nI s) 10 := vp_in_nI hs (by omega)
  unfold wpX_take
  refine cd_xSlot1 hs (br_f cd_10 (And.intro hv ?_))
  rw [ec, s5 s hs]
  refine br_f (nI_ne0 (by omega) (by omega)) (And.intro hv (And.intro hv (nm_r (e' := upd a_length s (nI (ln s - 1))) (by rw [cd_s1 (by omega)]) (nm_e (And.intro hv ?_)))))
  rw [pk_us, cd_m12, nI_add]
  refine And.intro (vp_in_nI (by omega) (by omega)) ?_
  rw [nI_clamp (by omega), s6 _ (by omega)]
  refine h _ ⟨⟨gL, gT, s1, s2, s3, s4, fun i hi => ?_, s6, s7, s8⟩, cd_CA_chg hs C (fun i hi hn => cd_Wf_congr E sh top i (cd_un_n hn).symm (fun j h1 h2 => rfl))⟩
  by_cases e : i = s
  · rw [e, pk_us, cd_un_s]
  · rw [pk_un e, cd_un_n e]
    exact s5 i hi
theorem cd_xTake_e (R : cd_RX ln lt E g bk sh top u) {s : Nat} (hs : s < 10) (h0 : ln s = 0) (h : post (-4) u) : wpX_take post u (nI s) := by
  obtain ⟨f_groups, f_backwards, f_shifted, f_top, f_ready, f_ordered, f_wordLength, a_length, a_letters, a_cells, a_groupLength, a_groupLetters, a_groupsFrom, a_count, a_weights, a_order, a_word⟩ := u
  obtain ⟨⟨gL, gT, S⟩, C⟩ := R
  unfold wpX_take
  refine cd_xSlot1 hs (br_f cd_10 (And.intro (vp_in_nI hs (by omega)) (br_t ?_ h)))
  rw [nI_clamp (by omega), S.2.2.2.2.1 s hs, h0]
  rfl
theorem cd_xTake_b {x : Int32} (hx : cd_bad 10 x) (h : post (-2) u) : wpX_take post u x := by
  obtain ⟨f_groups, f_backwards, f_shifted, f_top, f_ready, f_ordered, f_wordLength, a_length, a_letters, a_cells, a_groupLength, a_groupLetters, a_groupsFrom, a_count, a_weights, a_order, a_word⟩ := u
  unfold wpX_take
  exact cd_xSlot0 hx (br_t rfl h)
theorem cd_yTake (D : cd_D ln lt E g bk sh top) (R : cd_RY ln lt E g bk sh top v) {s : Nat} (hs : s < 10) (h0 : ¬ ln s = 0)
    (h : ∀ v', cd_RY (cd_un ln s (ln s - 1)) lt E g bk sh top v' → pos2 (nI (lt (12 * s + (ln s - 1)))) v') : wpY_take pos2 v (nI s) := by
  obtain ⟨f_longer, f_backwards, f_shifted, f_top, f_many, a_sizes, a_letters, a_words, a_counts, a_ones, a_twos, a_first, a_second, a_third, a_fourth, a_keySizes, a_keys⟩ := v
  obtain ⟨wd, S⟩ := R
  obtain ⟨s1, s2, s3, s4, s5, s6, s7⟩ := S
  have d1 := D.1 s hs
  have ec : (nI s).toNatClampNeg = s := nI_clamp (by omega)
  have hv : vp_in (nI s) 10 := vp_in_nI hs (by omega)
  unfold wpY_take
  refine cd_ySlot1 hs (br_f cd_10 (And.intro hv ?_))
  rw [ec, s5 s hs]
  refine br_f (nI_ne0 (by omega) (by omega)) (And.intro hv (And.intro hv (nm_r (e' := upd a_sizes s (nI (ln s - 1))) (by rw [cd_s1 (by omega)]) (And.intro hv ?_))))
  rw [pk_us, cd_m12, nI_add]
  refine And.intro (vp_in_nI (by omega) (by omega)) ?_
  rw [nI_clamp (by omega), s6 _ (by omega)]
  refine h _ ⟨wd, s1, s2, s3, s4, fun i hi => ?_, s6, s7⟩
  by_cases e : i = s
  · rw [e, pk_us, cd_un_s]
  · rw [pk_un e, cd_un_n e]
    exact s5 i hi
theorem cd_yTake_e (R : cd_RY ln lt E g bk sh top v) {s : Nat} (hs : s < 10) (h0 : ln s = 0) (h : pos2 (-4) v) : wpY_take pos2 v (nI s) := by
  obtain ⟨f_longer, f_backwards, f_shifted, f_top, f_many, a_sizes, a_letters, a_words, a_counts, a_ones, a_twos, a_first, a_second, a_third, a_fourth, a_keySizes, a_keys⟩ := v
  obtain ⟨wd, S⟩ := R
  unfold wpY_take
  refine cd_ySlot1 hs (br_f cd_10 (And.intro (vp_in_nI hs (by omega)) (br_t ?_ h)))
  rw [nI_clamp (by omega), S.2.2.2.2.1 s hs, h0]
  rfl
theorem cd_yTake_b {x : Int32} (hx : cd_bad 10 x) (h : pos2 (-2) v) : wpY_take pos2 v x := by
  obtain ⟨f_longer, f_backwards, f_shifted, f_top, f_many, a_sizes, a_letters, a_words, a_counts, a_ones, a_twos, a_first, a_second, a_third, a_fourth, a_keySizes, a_keys⟩ := v
  unfold wpY_take
  exact cd_ySlot0 hx (br_t rfl h)
end PUT
end
section
/-! copy and settings on both sides -/
/-- the letters when k of them are copied -/
def cd_cy (lt : Nat → Nat) (s o k : Nat) : Nat → Nat := fun j => if 12 * s ≤ j ∧ j < 12 * s + k then lt (12 * o + (j - 12 * s)) else lt j
theorem cd_cy_0 (lt : Nat → Nat) (s o : Nat) (j : Nat) : cd_cy lt s o 0 j = lt j := by
  unfold cd_cy
  rw [if_neg (by omega)]
theorem cd_cy_src (lt : Nat → Nat) {s o k : Nat} (hk : k < 12) : cd_cy lt s o k (12 * o + k) = lt (12 * o + k) := by
  unfold cd_cy
  rw [if_neg (by omega)]
theorem cd_cy_s (lt : Nat → Nat) {s o k : Nat} (hk : k < 12) (j : Nat) : cd_cy lt s o (k + 1) j = if j = 12 * s + k then lt (12 * o + k) else cd_cy lt s o k j := by
  unfold cd_cy
  by_cases c : j = 12 * s + k
  · rw [if_pos (by omega), if_pos c, c, show 12 * s + k - 12 * s = k by omega]
  · rw [if_neg c]
    by_cases d : 12 * s ≤ j ∧ j < 12 * s + k
    · rw [if_pos d, if_pos (by omega)]
    · rw [if_neg d, if_neg (by omega)]
section COPYW
variable {f_groups f_backwards f_shifted f_top f_ready f_ordered f_wordLength : Int32} {a_length a_letters a_cells a_groupLength a_groupLetters a_groupsFrom a_count a_weights a_order a_word : Nat → Int32}
theorem cd_xCopy_31 {post : Int32 → SX → Prop} {lt ln' : Nat → Nat} {s o : Nat} (hs : s < 10) (ho : o < 10) (h12 : ln' o ≤ 12) (hln : a_length o = nI (ln' o))
    (h : ∀ l', (∀ j, j < 120 → l' j = nI (cd_cy lt s o (ln' o) j)) → post (a_length s) (f_groups, f_backwards, f_shifted, f_top, f_ready &&& (((1 : Int32) <<< (nI s &&& 31)) ^^^ (-1)), 0, f_wordLength, a_length, l', a_cells, a_groupLength, a_groupLetters, a_groupsFrom, a_count, a_weights, a_order, a_word)) :
    ∀ d k n l, k + d = ln' o → d < n → (∀ j, j < 120 → l j = nI (cd_cy lt s o k j)) → wX_copy_31 post (nI s) (nI o) f_groups f_backwards f_shifted f_top f_ready f_ordered f_wordLength n (nI k) a_length l a_cells a_groupLength a_groupLetters a_groupsFrom a_count a_weights a_order a_word := by
  have eo : a_length (nI o).toNatClampNeg = nI (ln' o) := by rw [nI_clamp (by omega), hln]
  intro d
  induction d with
  | zero =>
    intro k n l hk hn hl
    obtain ⟨n, rfl⟩ : ∃ m, n = m + 1 := ⟨n - 1, by omega⟩
    refine And.intro (vp_in_nI ho (by omega)) (br_t (by rw [eo]; exact nI_le (by omega) (by omega)) (nm_e (And.intro (vp_in_nI hs (by omega)) ?_)))
    rw [nI_clamp (by omega)]
    rw [show k = ln' o by omega] at hl
    exact h l hl
  | succ d ih =>
    intro k n l hk hn hl
    obtain ⟨n, rfl⟩ : ∃ m, n = m + 1 := ⟨n - 1, by omega⟩
    refine And.intro (vp_in_nI ho (by omega)) (br_f (by rw [eo]; exact nI_ge (by omega) (by omega)) ?_)
    rw [cd_m12, cd_m12, nI_add, nI_add, nI_clamp (by omega), nI_clamp (by omega)]
    refine And.intro (vp_in_nI (by omega) (by omega)) (And.intro (vp_in_nI (by omega) (by omega)) (nm_e (nm_r (nI_1 k) (ih (k + 1) n _ (by omega) (by omega) (fun j hj => ?_)))))
    rw [cd_cy_s lt (by omega)]
    by_cases c : j = 12 * s + k
    · rw [if_pos c, c, pk_us, hl _ (by omega), cd_cy_src lt (by omega)]
    · rw [if_neg c, pk_un c]
      exact hl j hj
end COPYW
section COPYY
variable {f_longer f_backwards f_shifted f_top f_many : Int32} {a_sizes a_letters a_words a_counts a_ones a_twos a_first a_second a_third a_fourth a_keySizes a_keys : Nat → Int32}
theorem cd_yCopy_33 {post : Int32 → SY → Prop} {lt ln' : Nat → Nat} {s o : Nat} (hs : s < 10) (ho : o < 10) (h12 : ln' o ≤ 12) (hln : a_sizes o = nI (ln' o))
    (h : ∀ l', (∀ j, j < 120 → l' j = nI (cd_cy lt s o (ln' o) j)) → post (a_sizes s) (f_longer, f_backwards, f_shifted, f_top, f_many, a_sizes, l', a_words, a_counts, a_ones, a_twos, a_first, a_second, a_third, a_fourth, a_keySizes, a_keys)) :
    ∀ d k n l, k + d = ln' o → d < n → (∀ j, j < 120 → l j = nI (cd_cy lt s o k j)) → wY_copy_33 post (nI s) (nI o) f_longer f_backwards f_shifted f_top f_many n (nI k) a_sizes l a_words a_counts a_ones a_twos a_first a_second a_third a_fourth a_keySizes a_keys := by
  have eo : a_sizes (nI o).toNatClampNeg = nI (ln' o) := by rw [nI_clamp (by omega), hln]
  intro d
  induction d with
  | zero =>
    intro k n l hk hn hl
    obtain ⟨n, rfl⟩ : ∃ m, n = m + 1 := ⟨n - 1, by omega⟩
    refine And.intro (vp_in_nI ho (by omega)) (br_t (by rw [eo]; exact nI_le (by omega) (by omega)) (And.intro (vp_in_nI hs (by omega)) ?_))
    rw [nI_clamp (by omega)]
    rw [show k = ln' o by omega] at hl
    exact h l hl
  | succ d ih =>
    intro k n l hk hn hl
    obtain ⟨n, rfl⟩ : ∃ m, n = m + 1 := ⟨n - 1, by omega⟩
    refine And.intro (vp_in_nI ho (by omega)) (br_f (by rw [eo]; exact nI_ge (by omega) (by omega)) ?_)
    rw [cd_m12, cd_m12, nI_add, nI_add, nI_clamp (by omega), nI_clamp (by omega)]
    refine And.intro (vp_in_nI (by omega) (by omega)) (And.intro (vp_in_nI (by omega) (by omega)) (nm_e (nm_r (nI_1 k) (ih (k + 1) n _ (by omega) (by omega) (fun j hj => ?_)))))
    rw [cd_cy_s lt (by omega)]
    by_cases c : j = 12 * s + k
    · rw [if_pos c, c, pk_us, hl _ (by omega), cd_cy_src lt (by omega)]
    · rw [if_neg c, pk_un c]
      exact hl j hj
end COPYY
section COPY
variable {ln lt : Nat → Nat} {E : cd_E} {g bk sh top : Nat} {u : SX} {v : SY} {post : Int32 → SX → Prop} {pos2 : Int32 → SY → Prop}
theorem cd_un_o {f : Nat → Nat} {s o : Nat} : cd_un f s (f o) o = f o := by
  by_cases c : o = s
  · rw [← c, cd_un_s]
  · exact cd_un_n c
theorem cd_D_copy (D : cd_D ln lt E g bk sh top) {s o : Nat} (hs : s < 10) (ho : o < 10) : cd_D (cd_un ln s (ln o)) (cd_cy lt s o (ln o)) E g bk sh top := by
  have d1 := D.1 o ho
  refine ⟨fun i hi => ?_, fun j hj => ?_, D.2.2⟩
  · by_cases e : i = s
    · rw [e, cd_un_s]
      exact d1
    · rw [cd_un_n e]
      exact D.1 i hi
  · unfold cd_cy
    split
    · exact D.2.1 _ (by omega)
    · exact D.2.1 j hj
theorem cd_xCopy (D : cd_D ln lt E g bk sh top) (R : cd_RX ln lt E g bk sh top u) {s o : Nat} (hs : s < 10) (ho : o < 10)
    (h : ∀ u', cd_RX (cd_un ln s (ln o)) (cd_cy lt s o (ln o)) E g bk sh top u' → post (nI (ln o)) u') : wpX_copy post u (nI s) (nI o) := by
  obtain ⟨f_groups, f_backwards, f_shifted, f_top, f_ready, f_ordered, f_wordLength, a_length, a_letters, a_cells, a_groupLength, a_groupLetters, a_groupsFrom, a_count, a_weights, a_order, a_word⟩ := u
  obtain ⟨⟨gL, gT, S⟩, C⟩ := R
  obtain ⟨s1, s2, s3, s4, s5, s6, s7, s8⟩ := S
  have d1 := D.1 o ho
  have hL : ∀ i, i < 10 → upd a_length s (nI (ln o)) i = nI (cd_un ln s (ln o) i) := by
    intro i hi
    by_cases e : i = s
    · rw [e, pk_us, cd_un_s]
    · rw [pk_un e, cd_un_n e]
      exact s5 i hi
  unfold wpX_copy
  refine cd_xSlot1 hs (br_f cd_10 (cd_xSlot1 ho (br_f cd_10 (And.intro (vp_in_nI ho (by omega)) (And.intro (vp_in_nI hs (by omega)) (nm_r (e' := upd a_length s (nI (ln o))) (by rw [nI_clamp (by omega), nI_clamp (by omega), s5 o ho]) (Exists.intro (ln o + 1) ?_)))))))
  have eo : cd_un ln s (ln o) o = ln o := cd_un_o
  refine cd_xCopy_31 (lt := lt) (ln' := cd_un ln s (ln o)) hs ho (by omega) (hL o ho) (fun l' hl' => ?_) (ln o) 0 _ a_letters (by omega) (by omega) (fun j hj => by rw [cd_cy_0]; exact s6 j hj)
  rw [pk_us]
  rw [eo] at hl'
  refine h _ ⟨⟨gL, gT, s1, s2, s3, s4, hL, hl', s7, s8⟩, cd_CA_chg hs C (fun i hi hn => cd_Wf_congr E sh top i (cd_un_n hn).symm (fun j h1 h2 => ?_))⟩
  have d2 := D.1 i hi
  unfold cd_cy
  rw [if_neg (by omega)]
theorem cd_xCopy_b {x y : Int32} (hx : cd_bad 10 x ∨ cd_bad 10 y) (h : post (-2) u) : wpX_copy post u x y := by
  obtain ⟨f_groups, f_backwards, f_shifted, f_top, f_ready, f_ordered, f_wordLength, a_length, a_letters, a_cells, a_groupLength, a_groupLetters, a_groupsFrom, a_count, a_weights, a_order, a_word⟩ := u
  unfold wpX_copy
  rcases cd_slot 10 x with ⟨i, hi, rfl⟩ | c
  · rcases hx with hx | hx
    · exact absurd ⟨i, hi, rfl⟩ hx
    · exact cd_xSlot1 hi (br_f cd_10 (cd_xSlot0 hx (br_t rfl h)))
  · exact cd_xSlot0 c (br_t rfl h)
theorem cd_yCopy (D : cd_D ln lt E g bk sh top) (R : cd_RY ln lt E g bk sh top v) {s o : Nat} (hs : s < 10) (ho : o < 10)
    (h : ∀ v', cd_RY (cd_un ln s (ln o)) (cd_cy lt s o (ln o)) E g bk sh top v' → pos2 (nI (ln o)) v') : wpY_copy pos2 v (nI s) (nI o) := by
  obtain ⟨f_longer, f_backwards, f_shifted, f_top, f_many, a_sizes, a_letters, a_words, a_counts, a_ones, a_twos, a_first, a_second, a_third, a_fourth, a_keySizes, a_keys⟩ := v
  obtain ⟨wd, S⟩ := R
  obtain ⟨s1, s2, s3, s4, s5, s6, s7⟩ := S
  have d1 := D.1 o ho
  have hL : ∀ i, i < 10 → upd a_sizes s (nI (ln o)) i = nI (cd_un ln s (ln o) i) := by
    intro i hi
    by_cases e : i = s
    · rw [e, pk_us, cd_un_s]
    · rw [pk_un e, cd_un_n e]
      exact s5 i hi
  unfold wpY_copy
  refine cd_ySlot1 hs (br_f cd_10 (cd_ySlot1 ho (br_f cd_10 (And.intro (vp_in_nI ho (by omega)) (And.intro (vp_in_nI hs (by omega)) (nm_r (e' := upd a_sizes s (nI (ln o))) (by rw [nI_clamp (by omega), nI_clamp (by omega), s5 o ho]) (Exists.intro (ln o + 1) ?_)))))))
  have eo : cd_un ln s (ln o) o = ln o := cd_un_o
  refine cd_yCopy_33 (lt := lt) (ln' := cd_un ln s (ln o)) hs ho (by omega) (hL o ho) (fun l' hl' => ?_) (ln o) 0 _ a_letters (by omega) (by omega) (fun j hj => by rw [cd_cy_0]; exact s6 j hj)
  rw [pk_us]
  rw [eo] at hl'
  exact h _ ⟨wd, s1, s2, s3, s4, hL, hl', s7⟩
theorem cd_yCopy_b {x y : Int32} (hx : cd_bad 10 x ∨ cd_bad 10 y) (h : pos2 (-2) v) : wpY_copy pos2 v x y := by
  obtain ⟨f_longer, f_backwards, f_shifted, f_top, f_many, a_sizes, a_letters, a_words, a_counts, a_ones, a_twos, a_first, a_second, a_third, a_fourth, a_keySizes, a_keys⟩ := v
  unfold wpY_copy
  rcases cd_slot 10 x with ⟨i, hi, rfl⟩ | c
  · rcases hx with hx | hx
    · exact absurd ⟨i, hi, rfl⟩ hx
    · exact cd_ySlot1 hi (br_f cd_10 (cd_ySlot0 hx (br_t rfl h)))
  · exact cd_ySlot0 c (br_t rfl h)
/-! settings -/
theorem cd_gt1 {x : Int32} (hx : cd_bad 2 x) (h0 : ¬ x < 0) : 1 < x := by
  have h := cd_bad_ge hx (by omega) h0
  have h' : (2 : Int32) ≤ x := h
  rw [Int32.le_iff_toInt_le, show (2 : Int32).toInt = 2 by decide] at h'
  rw [Int32.lt_iff_toInt_lt, show (1 : Int32).toInt = 1 by decide]
  omega
theorem cd_gt30 {x : Int32} (hx : cd_bad 31 x) (h0 : ¬ x < 0) : ¬ x ≤ 30 := by
  have h := cd_bad_ge hx (by omega) h0
  have h' : (31 : Int32) ≤ x := h
  rw [Int32.le_iff_toInt_le, show (31 : Int32).toInt = 31 by decide] at h'
  rw [Int32.le_iff_toInt_le, show (30 : Int32).toInt = 30 by decide]
  omega
theorem cd_bb0 : fits .boolean (.int 0) = true := by decide
theorem cd_bb1 : fits .boolean (.int 1) = true := by decide
theorem cd_xSet (D : cd_D ln lt E g bk sh top) (R : cd_RX ln lt E g bk sh top u) {b c t : Nat} (hb : b < 2) (hc : c < 2) (ht : t < 31)
    (h : ∀ u', cd_RX ln lt E g b c t u' → post 1 u') : wpX_settings post u (nI b) (nI c) (nI t) := by
  obtain ⟨f_groups, f_backwards, f_shifted, f_top, f_ready, f_ordered, f_wordLength, a_length, a_letters, a_cells, a_groupLength, a_groupLetters, a_groupsFrom, a_count, a_weights, a_order, a_word⟩ := u
  obtain ⟨⟨gL, gT, S⟩, C⟩ := R
  obtain ⟨s1, s2, s3, s4, s5, s6, s7, s8⟩ := S
  have fin := h (f_groups, nI b, nI c, nI t, 0, 0, f_wordLength, a_length, a_letters, a_cells, a_groupLength, a_groupLetters, a_groupsFrom, a_count, a_weights, a_order, a_word) ⟨⟨gL, gT, s1, rfl, rfl, rfl, s5, s6, s7, s8⟩, cd_CA_all⟩
  refine br_f (nI_pos (by omega)) (br_f (nI_nlt (a := 1) (by omega) (by omega)) (br_f (nI_pos (by omega)) (br_t (nI_le (b := 1) (by omega) (by omega)) (br_f (nI_pos (by omega)) (br_t (nI_le (b := 30) (by omega) (by omega)) ?_)))))
  have cb : b = 0 ∨ b = 1 := by omega
  have cc : c = 0 ∨ c = 1 := by omega
  rcases cb with cb | cb
  · subst cb
    refine br_f (by decide) (And.intro narrow_b0 (And.intro cd_bb0 ?_))
    rcases cc with cc | cc
    · subst cc
      exact br_f (by decide) (And.intro narrow_b0 (And.intro cd_bb0 fin))
    · subst cc
      exact br_t rfl (And.intro narrow_b1 (And.intro cd_bb1 fin))
  · subst cb
    refine br_t rfl (And.intro narrow_b1 (And.intro cd_bb1 ?_))
    rcases cc with cc | cc
    · subst cc
      exact br_f (by decide) (And.intro narrow_b0 (And.intro cd_bb0 fin))
    · subst cc
      exact br_t rfl (And.intro narrow_b1 (And.intro cd_bb1 fin))
theorem cd_xSet_b {x y z : Int32} (hx : cd_bad 2 x ∨ cd_bad 2 y) (h : post (-1) u) : wpX_settings post u x y z := by
  obtain ⟨f_groups, f_backwards, f_shifted, f_top, f_ready, f_ordered, f_wordLength, a_length, a_letters, a_cells, a_groupLength, a_groupLetters, a_groupsFrom, a_count, a_weights, a_order, a_word⟩ := u
  refine br_c (fun _ => h) (fun n => br_c (fun _ => h) (fun m => br_c (fun _ => h) (fun n2 => br_f ?_ h)))
  rcases hx with hx | hx
  · exact absurd (cd_gt1 hx n) m
  · exact Int32.not_le.mpr (cd_gt1 hx n2)
theorem cd_xSet_t {b c : Nat} (hb : b < 2) (hc : c < 2) {z : Int32} (hz : cd_bad 31 z) (h : post (-2) u) : wpX_settings post u (nI b) (nI c) z := by
  obtain ⟨f_groups, f_backwards, f_shifted, f_top, f_ready, f_ordered, f_wordLength, a_length, a_letters, a_cells, a_groupLength, a_groupLetters, a_groupsFrom, a_count, a_weights, a_order, a_word⟩ := u
  exact br_f (nI_pos (by omega)) (br_f (nI_nlt (a := 1) (by omega) (by omega)) (br_f (nI_pos (by omega)) (br_t (nI_le (b := 1) (by omega) (by omega)) (br_c (fun _ => h) (fun n => br_f (cd_gt30 hz n) h)))))
theorem cd_ySet (R : cd_RY ln lt E g bk sh top v) {b c t : Nat} (hb : b < 2) (hc : c < 2) (ht : t < 31)
    (h : ∀ v', cd_RY ln lt E g b c t v' → pos2 1 v') : wpY_settings pos2 v (nI b) (nI c) (nI t) := by
  obtain ⟨f_longer, f_backwards, f_shifted, f_top, f_many, a_sizes, a_letters, a_words, a_counts, a_ones, a_twos, a_first, a_second, a_third, a_fourth, a_keySizes, a_keys⟩ := v
  obtain ⟨wd, S⟩ := R
  obtain ⟨s1, s2, s3, s4, s5, s6, s7⟩ := S
  exact br_f (nI_pos (by omega)) (br_f (nI_nlt (a := 1) (by omega) (by omega)) (br_f (nI_pos (by omega)) (br_t (nI_le (b := 1) (by omega) (by omega)) (br_f (nI_pos (by omega)) (br_t (nI_le (b := 30) (by omega) (by omega)) (h _ ⟨wd, s1, rfl, rfl, rfl, s5, s6, s7⟩))))))
theorem cd_ySet_b {x y z : Int32} (hx : cd_bad 2 x ∨ cd_bad 2 y) (h : pos2 (-1) v) : wpY_settings pos2 v x y z := by
  obtain ⟨f_longer, f_backwards, f_shifted, f_top, f_many, a_sizes, a_letters, a_words, a_counts, a_ones, a_twos, a_first, a_second, a_third, a_fourth, a_keySizes, a_keys⟩ := v
  refine br_c (fun _ => h) (fun n => br_c (fun _ => h) (fun m => br_c (fun _ => h) (fun n2 => br_f ?_ h)))
  rcases hx with hx | hx
  · exact absurd (cd_gt1 hx n) m
  · exact Int32.not_le.mpr (cd_gt1 hx n2)
theorem cd_ySet_t {b c : Nat} (hb : b < 2) (hc : c < 2) {z : Int32} (hz : cd_bad 31 z) (h : pos2 (-2) v) : wpY_settings pos2 v (nI b) (nI c) z := by
  obtain ⟨f_longer, f_backwards, f_shifted, f_top, f_many, a_sizes, a_letters, a_words, a_counts, a_ones, a_twos, a_first, a_second, a_third, a_fourth, a_keySizes, a_keys⟩ := v
  exact br_f (nI_pos (by omega)) (br_f (nI_nlt (a := 1) (by omega) (by omega)) (br_f (nI_pos (by omega)) (br_t (nI_le (b := 1) (by omega) (by omega)) (br_c (fun _ => h) (fun n => br_f (cd_gt30 hz n) h)))))
end COPY
end
section
/-! words and their numbers -/
def cd_sp : Nat → Nat → Option (List Nat)
  | 0, r => if r = 0 then some [] else none
  | f + 1, r => if r = 0 then some [] else if r % 11 = 0 then none else (cd_sp f (r / 11)).map (fun l => (r % 11 - 1) :: l)
def cd_vl : List Nat → Nat
  | [] => 0
  | c :: l => (c + 1) + 11 * cd_vl l
theorem cd_sp_0 (f : Nat) : cd_sp f 0 = some [] := by cases f <;> rfl
theorem cd_sp_z {r : Nat} (h : ¬ r = 0) : cd_sp 0 r = none := if_neg h
theorem cd_sp_n {f r : Nat} (h : ¬ r = 0) (h0 : r % 11 = 0) : cd_sp (f + 1) r = none := by
  show (if r = 0 then some [] else if r % 11 = 0 then none else _) = _
  rw [if_neg h, if_pos h0]
theorem cd_sp_s {f r : Nat} (h : ¬ r = 0) (h0 : ¬ r % 11 = 0) : cd_sp (f + 1) r = (cd_sp f (r / 11)).map (fun l => (r % 11 - 1) :: l) := by
  show (if r = 0 then some [] else if r % 11 = 0 then none else _) = _
  rw [if_neg h, if_neg h0]
theorem cd_sp_ok : ∀ (f r : Nat) (l : List Nat), cd_sp f r = some l → cd_vl l = r ∧ l.length ≤ f ∧ ∀ x, x ∈ l → x < 10
  | 0, r, l, h => by
    by_cases c : r = 0
    · rw [c, cd_sp_0] at h
      cases h
      exact ⟨c.symm, Nat.le_refl 0, fun x hx => absurd hx List.not_mem_nil⟩
    · rw [cd_sp_z c] at h
      cases h
  | f + 1, r, l, h => by
    by_cases c : r = 0
    · rw [c, cd_sp_0] at h
      cases h
      exact ⟨c.symm, Nat.zero_le _, fun x hx => absurd hx List.not_mem_nil⟩
    · by_cases d : r % 11 = 0
      · rw [cd_sp_n c d] at h
        cases h
      · rw [cd_sp_s c d] at h
        cases q : cd_sp f (r / 11) with
        | none =>
          rw [q] at h
          cases h
        | some m =>
          rw [q] at h
          have e : (r % 11 - 1) :: m = l := Option.some.inj h
          obtain ⟨a1, a2, a3⟩ := cd_sp_ok f (r / 11) m q
          rw [← e]
          refine ⟨?_, Nat.succ_le_succ a2, fun x hx => ?_⟩
          · show (r % 11 - 1 + 1) + 11 * cd_vl m = r
            rw [a1]
            omega
          · rcases List.mem_cons.mp hx with z | z
            · omega
            · exact a3 x z
theorem cd_vl_wn (f : Nat → Nat) : ∀ (l : List Nat) (a : Nat), (∀ k, k < l.length → f (a + k) = cd_at l k) → cd_wn f l.length a = cd_vl l
  | [], a, _ => rfl
  | c :: l, a, h => by
    rw [List.length_cons, cd_wn_s, cd_vl_wn f l (a + 1) (fun k hk => by
      have := h (k + 1) (by rw [List.length_cons]; omega)
      rw [show a + (k + 1) = a + 1 + k by omega, cd_at_s] at this
      exact this)]
    have := h 0 (by rw [List.length_cons]; omega)
    rw [Nat.add_zero, cd_at_0] at this
    rw [this]
    rfl
theorem cd_vl_at (l : List Nat) : cd_wn (cd_at l) l.length 0 = cd_vl l := cd_vl_wn _ l 0 (fun k _ => by rw [Nat.zero_add])
def cd_word (x : Int32) (w : Nat) (l : List Nat) : Prop := x = nI w ∧ 0 < w ∧ w < 2 ^ 31 ∧ cd_sp 3 w = some l
def cd_nowd (x : Int32) : Prop := x ≤ 0 ∨ ∃ w, x = nI w ∧ w < 2 ^ 31 ∧ 0 < w ∧ cd_sp 3 w = none
theorem cd_word_em (x : Int32) : cd_nowd x ∨ ∃ w l, cd_word x w l := by
  by_cases c : x ≤ 0
  · exact Or.inl (Or.inl c)
  · have c' : ¬ x < 0 := fun z => c (Int32.le_of_lt z)
    obtain ⟨w, hw, rfl⟩ := nI_of c'
    have h0 : 0 < w := by
      rcases Nat.eq_zero_or_pos w with z | z
      · rw [z] at c
        exact absurd (by decide) c
      · exact z
    cases q : cd_sp 3 w with
    | none => exact Or.inl (Or.inr ⟨w, rfl, hw, h0, q⟩)
    | some l => exact Or.inr ⟨w, l, rfl, h0, hw, q⟩
theorem cd_word_f {x : Int32} {w : Nat} {l : List Nat} (h : cd_word x w l) : cd_vl l = w ∧ 1 ≤ l.length ∧ l.length ≤ 3 ∧ (∀ k, k < l.length → cd_at l k < 10) ∧ w < 1331 := by
  obtain ⟨h1, h2, h3, h4⟩ := h
  obtain ⟨a1, a2, a3⟩ := cd_sp_ok 3 w l h4
  have hd : ∀ k, k < l.length → cd_at l k < 10 := fun k hk => a3 _ (cd_at_mem l k hk)
  refine ⟨a1, ?_, a2, hd, ?_⟩
  · cases l with
    | nil =>
      have : (0 : Nat) = w := a1
      omega
    | cons c l => exact Nat.succ_le_succ (Nat.zero_le _)
  · rw [← a1, ← cd_vl_at]
    exact cd_wn_lt _ _ 0 (fun k hk => by rw [Nat.zero_add]; exact hd k hk) a2
section SPELLX
variable {f_groups f_backwards f_shifted f_top f_ready f_ordered f_wordLength : Int32} {a_length a_letters a_cells a_groupLength a_groupLetters a_groupsFrom a_count a_weights a_order a_word : Nat → Int32}
theorem cd_r11 {r : Nat} (h : r < 2 ^ 31) : nI r - nI r / 11 * 11 = nI (r % 11) := pk_rem (d := 11) h (by omega) (by omega)
theorem cd_d11 {r : Nat} (h : r < 2 ^ 31) : nI r / 11 = nI (r / 11) := pk_div (d := 11) h (by omega) (by omega)
theorem cd_xSp_7 {post : Int32 → SX → Prop} {x1 : Int32} :
    ∀ f k r n wd, k + f = 3 → f < n → r < 2 ^ 31 → (∀ l wd', cd_sp f r = some l → (∀ i, i < k → wd' i = wd i) → (∀ i, i < l.length → wd' (k + i) = nI (cd_at l i)) → wX_spell_60 post x1 0 f_groups f_backwards f_shifted f_top f_ready f_ordered (nI (k + l.length)) a_length a_letters a_cells a_groupLength a_groupLetters a_groupsFrom a_count a_weights a_order wd') →
      (cd_sp f r = none → ∀ wl wd', post 0 (f_groups, f_backwards, f_shifted, f_top, f_ready, f_ordered, wl, a_length, a_letters, a_cells, a_groupLength, a_groupLetters, a_groupsFrom, a_count, a_weights, a_order, wd')) → wX_spell_7 post x1 f_groups f_backwards f_shifted f_top f_ready f_ordered n (nI r) (nI k) a_length a_letters a_cells a_groupLength a_groupLetters a_groupsFrom a_count a_weights a_order wd := by
  intro f
  induction f with
  | zero =>
    intro k r n wd hk hn hr h1 h0
    obtain ⟨n, rfl⟩ : ∃ m, n = m + 1 := ⟨n - 1, by omega⟩
    by_cases c : r = 0
    · subst c
      exact br_t (by decide) (h1 [] wd (cd_sp_0 0) (fun i _ => rfl) (fun i hi => absurd hi (Nat.not_lt_zero i)))
    · refine br_f (nI_nle (by omega) hr) (br_t (nI_le (a := 3) (by omega) (by omega)) ?_)
      have z := h0 (cd_sp_z c) (nI k) wd
      exact br_c (fun _ => z) (fun _ => br_f (nI_ne0 (by omega) hr) z)
  | succ f ih =>
    intro k r n wd hk hn hr h1 h0
    obtain ⟨n, rfl⟩ : ∃ m, n = m + 1 := ⟨n - 1, by omega⟩
    by_cases c : r = 0
    · subst c
      exact br_t (by decide) (h1 [] wd (cd_sp_0 _) (fun i _ => rfl) (fun i hi => absurd hi (Nat.not_lt_zero i)))
    · refine br_f (nI_nle (by omega) hr) (br_f (nI_ge (b := 3) (by omega) (by omega)) (And.intro cd_11 (nm_r (cd_r11 hr) ?_)))
      by_cases d : r % 11 = 0
      · exact br_t (by rw [d]; rfl) (h0 (cd_sp_n c d) (nI k) wd)
      · refine br_f (nI_ne0 (by omega) (by omega)) (And.intro (vp_in_nI (by omega) (by omega)) (nm_r (e' := upd wd k (nI (r % 11 - 1))) (by rw [nI_clamp (by omega), cd_s1 (by omega)]) (nm_r (nI_1 k) (And.intro cd_11 (nm_r (cd_d11 hr) ?_)))))
        refine ih (k + 1) (r / 11) n _ (by omega) (by omega) (by omega) (fun l wd' hl hlo hhi => ?_) (fun hl => h0 (by rw [cd_sp_s c d, hl]; rfl))
        have z := h1 ((r % 11 - 1) :: l) wd' (by rw [cd_sp_s c d, hl]; rfl) (fun i hi => by rw [hlo i (by omega), pk_un (by omega)]) (fun i hi => by
          cases i with
          | zero => rw [Nat.add_zero, hlo k (by omega), pk_us, cd_at_0]
          | succ i =>
            have := hhi i (by rw [List.length_cons] at hi; omega)
            rw [show k + 1 + i = k + (i + 1) by omega] at this
            exact this)
        rw [List.length_cons, show k + (l.length + 1) = k + 1 + l.length by omega] at z
        exact z
theorem cd_xSpell1 {post : Int32 → SX → Prop} {x : Int32} {w : Nat} {l : List Nat} (hx : cd_word x w l)
    (h : ∀ wd, (∀ k, k < l.length → wd k = nI (cd_at l k)) → post 1 (f_groups, f_backwards, f_shifted, f_top, f_ready, f_ordered, nI l.length, a_length, a_letters, a_cells, a_groupLength, a_groupLetters, a_groupsFrom, a_count, a_weights, a_order, wd)) : wpX_spell post (f_groups, f_backwards, f_shifted, f_top, f_ready, f_ordered, f_wordLength, a_length, a_letters, a_cells, a_groupLength, a_groupLetters, a_groupsFrom, a_count, a_weights, a_order, a_word) x := by
  obtain ⟨rfl, h2, h3, h4⟩ := hx
  refine Exists.intro 4 (cd_xSp_7 3 0 w 4 a_word (by omega) (by omega) h3 (fun l' wd' hl hlo hhi => ?_) (fun q => by rw [h4] at q; cases q))
  have e : l = l' := Option.some.inj (h4.symm.trans hl)
  subst e
  have z := h wd' (fun k hk => by have := hhi k hk; rw [Nat.zero_add] at this; exact this)
  rw [Nat.zero_add]
  exact br_f (nI_nle h2 h3) (br_t rfl z)
theorem cd_xSpell0 {post : Int32 → SX → Prop} {x : Int32} (hx : cd_nowd x) (h : ∀ wl wd, post 0 (f_groups, f_backwards, f_shifted, f_top, f_ready, f_ordered, wl, a_length, a_letters, a_cells, a_groupLength, a_groupLetters, a_groupsFrom, a_count, a_weights, a_order, wd)) : wpX_spell post (f_groups, f_backwards, f_shifted, f_top, f_ready, f_ordered, f_wordLength, a_length, a_letters, a_cells, a_groupLength, a_groupLetters, a_groupsFrom, a_count, a_weights, a_order, a_word) x := by
  rcases hx with hx | ⟨w, rfl, h1, h2, h3⟩
  · exact Exists.intro 1 (br_t hx (br_t hx (h 0 a_word)))
  · exact Exists.intro 4 (cd_xSp_7 3 0 w 4 a_word (by omega) (by omega) h1 (fun l' wd' hl hlo hhi => by rw [h3] at hl; cases hl) (fun _ wl wd' => h wl wd'))
/-- groupSpelled: one group -/
theorem cd_xGs_31 {post : Int32 → Prop} {J : Int32 → Prop} {gT : Nat → Nat} {l : List Nat} {j : Nat} (hj : j < 6) (hT : ∀ j, j < 18 → a_groupLetters j = nI (gT j) ∧ gT j < 10) (hl3 : l.length ≤ 3) (hwl : f_wordLength = nI l.length) (hd : ∀ k, k < l.length → cd_at l k < 10) (hw : ∀ k, k < l.length → a_word k = nI (cd_at l k)) :
    ∀ d k sm n, k + d = l.length → d < n → (sm = true → (∀ k', k ≤ k' → k' < l.length → gT (3 * j + k') = cd_at l k') → post (nI j)) → (¬ (sm = true ∧ ∀ k', k ≤ k' → k' < l.length → gT (3 * j + k') = cd_at l k') → J (nI (j + 1))) →
      wX_groupSpelled_31 post J (nI j) f_groups f_backwards f_shifted f_top f_ready f_ordered f_wordLength a_length a_letters a_cells a_groupLength a_groupLetters a_groupsFrom a_count a_weights a_order a_word n (cd_bI sm) (nI k) := by
  intro d
  induction d with
  | zero =>
    intro k sm n hk hn hy hno
    obtain ⟨n, rfl⟩ : ∃ m, n = m + 1 := ⟨n - 1, by omega⟩
    refine br_t (by rw [hwl]; exact nI_le (by omega) (by omega)) ?_
    cases sm with
    | true => exact br_f (by decide) (hy rfl (fun k' a b => by omega))
    | false => exact br_t rfl (nm_r (nI_1 j) (hno (fun z => by cases z.1)))
  | succ d ih =>
    intro k sm n hk hn hy hno
    obtain ⟨n, rfl⟩ : ∃ m, n = m + 1 := ⟨n - 1, by omega⟩
    refine br_f (by rw [hwl]; exact nI_ge (by omega) (by omega)) ?_
    cases sm with
    | false => exact br_t rfl (nm_r (nI_1 k) (ih (k + 1) false n (by omega) (by omega) (fun z => by cases z) (fun _ => hno (fun z => by cases z.1))))
    | true =>
      obtain ⟨t1, t2⟩ := hT (3 * j + k) (by omega)
      have hdk := hd k (by omega)
      refine br_f (by decide) ?_
      rw [cd_m3, nI_add, nI_clamp (by omega), nI_clamp (by omega), t1, hw k (by omega)]
      refine And.intro (vp_in_nI (by omega) (by omega)) (And.intro (vp_in_nI (by omega) (by omega)) ?_)
      by_cases c : gT (3 * j + k) = cd_at l k
      · refine br_t (congrArg nI c) (nm_r (nI_1 k) (ih (k + 1) true n (by omega) (by omega) (fun _ q => hy rfl (fun k' a b => ?_)) (fun q => hno (fun z => q ⟨rfl, fun k' a b => z.2 k' (by omega) b⟩))))
        by_cases e : k' = k
        · rw [e]
          exact c
        · exact q k' (by omega) b
      · exact br_f (fun z => c ((nI_eq (by omega) (by omega)).mp z)) (nm_r (nI_1 k) (ih (k + 1) false n (by omega) (by omega) (fun z => by cases z) (fun _ => hno (fun z => c (z.2 k (by omega) (by omega))))))
theorem cd_nm_iff {gL gT : Nat → Nat} {l : List Nat} {j : Nat} (hj : j < 6) (hL3 : gL j ≤ 3) (hT : ∀ j, j < 18 → gT j < 10) (hd : ∀ k, k < l.length → cd_at l k < 10) :
    cd_nm gL gT j = cd_vl l ↔ gL j = l.length ∧ ∀ k, k < l.length → gT (3 * j + k) = cd_at l k := by
  constructor
  · intro h
    rw [← cd_vl_at] at h
    obtain ⟨q1, q2⟩ := cd_wn_inj gT (cd_at l) (gL j) l.length (3 * j) 0 (fun k hk => hT _ (by omega)) (fun k hk => by rw [Nat.zero_add]; exact hd k hk) h
    refine ⟨q1, fun k hk => ?_⟩
    have := q2 k (by omega)
    rw [Nat.zero_add] at this
    exact this
  · rintro ⟨h1, h2⟩
    unfold cd_nm
    rw [h1]
    exact cd_vl_wn gT l (3 * j) h2
theorem cd_xGs_2 {post : Int32 → Prop} {g : Nat} {gL gT : Nat → Nat} {l : List Nat} (hg : g ≤ 6) (hfg : f_groups = nI g) (hG : cd_XG g gL gT a_groupLength a_groupLetters a_groupsFrom) (hl3 : l.length ≤ 3) (hwl : f_wordLength = nI l.length) (hd : ∀ k, k < l.length → cd_at l k < 10) (hw : ∀ k, k < l.length → a_word k = nI (cd_at l k))
    (hy : ∀ j, j < g → cd_nm gL gT j = cd_vl l → post (nI j)) (hno : (∀ j, j < g → ¬ cd_nm gL gT j = cd_vl l) → post (-1)) :
    ∀ d j n, j + d = g → d < n → (∀ i, i < j → ¬ cd_nm gL gT i = cd_vl l) → wX_groupSpelled_2 post f_groups f_backwards f_shifted f_top f_ready f_ordered f_wordLength a_length a_letters a_cells a_groupLength a_groupLetters a_groupsFrom a_count a_weights a_order a_word n (nI j) := by
  intro d
  induction d with
  | zero =>
    intro j n hj hn hi
    obtain ⟨n, rfl⟩ : ∃ m, n = m + 1 := ⟨n - 1, by omega⟩
    exact br_t (by rw [hfg]; exact nI_le (by omega) (by omega)) (hno (fun i q => hi i (by omega)))
  | succ d ih =>
    intro j n hj hn hi
    obtain ⟨n, rfl⟩ : ∃ m, n = m + 1 := ⟨n - 1, by omega⟩
    obtain ⟨e1, l2, l3⟩ := hG.1 j (by omega)
    have iff := cd_nm_iff (l := l) (j := j) (by omega) l3 (fun i q => (hG.2.1 i q).2) hd
    refine br_f (by rw [hfg]; exact nI_ge (by omega) (by omega)) (And.intro (vp_in_nI (by omega) (by omega)) ?_)
    rw [nI_clamp (by omega), e1, hwl]
    have nxt : ¬ cd_nm gL gT j = cd_vl l → wX_groupSpelled_2 post f_groups f_backwards f_shifted f_top f_ready f_ordered (nI l.length) a_length a_letters a_cells a_groupLength a_groupLetters a_groupsFrom a_count a_weights a_order a_word n (nI (j + 1)) := by
      intro z
      subst hwl
      refine ih (j + 1) n (by omega) (by omega) (fun i q => ?_)
      by_cases e : i = j
      · rw [e]
        exact z
      · exact hi i (by omega)
    by_cases c : gL j = l.length
    · refine br_t (congrArg nI c) (Exists.intro (l.length + 1) ?_)
      refine cd_xGs_31 (f_wordLength := nI l.length) (by omega) hG.2.1 hl3 rfl hd hw l.length 0 true _ (by omega) (by omega) (fun _ q => hy j (by omega) (iff.mpr ⟨c, fun k hk => q k (by omega) hk⟩)) (fun q => nxt (fun z => q ⟨rfl, fun k' _ b => (iff.mp z).2 k' b⟩))
    · refine br_f (fun z => c ((nI_eq (by omega) (by omega)).mp z)) (Exists.intro (l.length + 1) ?_)
      exact cd_xGs_31 (f_wordLength := nI l.length) (by omega) hG.2.1 hl3 rfl hd hw l.length 0 false _ (by omega) (by omega) (fun z => by cases z) (fun _ => nxt (fun z => c (iff.mp z).1))
theorem cd_xGs {post : Int32 → Prop} {g : Nat} {gL gT : Nat → Nat} {l : List Nat} (hg : g ≤ 6) (hfg : f_groups = nI g) (hG : cd_XG g gL gT a_groupLength a_groupLetters a_groupsFrom) (hl3 : l.length ≤ 3) (hwl : f_wordLength = nI l.length) (hd : ∀ k, k < l.length → cd_at l k < 10) (hw : ∀ k, k < l.length → a_word k = nI (cd_at l k))
    (hy : ∀ j, j < g → cd_nm gL gT j = cd_vl l → post (nI j)) (hno : (∀ j, j < g → ¬ cd_nm gL gT j = cd_vl l) → post (-1)) : wpX_groupSpelled post (f_groups, f_backwards, f_shifted, f_top, f_ready, f_ordered, f_wordLength, a_length, a_letters, a_cells, a_groupLength, a_groupLetters, a_groupsFrom, a_count, a_weights, a_order, a_word) :=
  Exists.intro (g + 1) (cd_xGs_2 hg hfg hG hl3 hwl hd hw hy hno g 0 _ (by omega) (by omega) (fun i hi => by omega))
/-- indexGroups -/
theorem cd_xIg_23 {post : SX → Prop} {g : Nat} {gT : Nat → Nat} (hg : g ≤ 6) (hfg : f_groups = nI g) (hT : ∀ j, j < 18 → a_groupLetters j = nI (gT j) ∧ gT j < 10)
    (h : ∀ gf, (∀ c i, c < 10 → i < g → (bt (gf c) i = true ↔ gT (3 * i) = c)) → post (f_groups, f_backwards, f_shifted, f_top, f_ready, f_ordered, f_wordLength, a_length, a_letters, a_cells, a_groupLength, a_groupLetters, gf, a_count, a_weights, a_order, a_word)) :
    ∀ d i n gf, i + d = g → d < n → (∀ c k, c < 10 → k < 32 → (bt (gf c) k = true ↔ (k < i ∧ gT (3 * k) = c))) → wX_indexGroups_23 post f_groups f_backwards f_shifted f_top f_ready f_ordered f_wordLength n (nI i) a_length a_letters a_cells a_groupLength a_groupLetters gf a_count a_weights a_order a_word := by
  intro d
  induction d with
  | zero =>
    intro i n gf hi hn hgf
    obtain ⟨n, rfl⟩ : ∃ m, n = m + 1 := ⟨n - 1, by omega⟩
    refine br_t (by rw [hfg]; exact nI_le (by omega) (by omega)) (h gf (fun c k hc hk => ?_))
    rw [hgf c k hc (by omega)]
    exact ⟨fun z => z.2, fun z => ⟨by omega, z⟩⟩
  | succ d ih =>
    intro i n gf hi hn hgf
    obtain ⟨n, rfl⟩ : ∃ m, n = m + 1 := ⟨n - 1, by omega⟩
    obtain ⟨t1, t2⟩ := hT (3 * i) (by omega)
    refine br_f (by rw [hfg]; exact nI_ge (by omega) (by omega)) ?_
    rw [cd_m3, nI_clamp (n := 3 * i) (by omega), t1, nI_clamp (by omega)]
    refine And.intro (vp_in_nI (by omega) (by omega)) (And.intro (vp_in_nI t2 (by omega)) (And.intro (vp_in_nI t2 (by omega)) (nm_e (nm_r (nI_1 i) (ih (i + 1) n _ (by omega) (by omega) (fun c k hc hk => ?_))))))
    by_cases e : c = gT (3 * i)
    · rw [e, pk_us, cd_bset _ (by omega) hk, Bool.or_eq_true, hgf _ k t2 hk, decide_eq_true_iff]
      constructor
      · rintro (z | z)
        · exact ⟨by omega, z.2⟩
        · exact ⟨by omega, by rw [← z]⟩
      · rintro ⟨z1, z2⟩
        by_cases y : i = k
        · exact Or.inr y
        · exact Or.inl ⟨by omega, z2⟩
    · rw [pk_un e, hgf c k hc hk]
      constructor
      · rintro ⟨z1, z2⟩
        exact ⟨by omega, z2⟩
      · rintro ⟨z1, z2⟩
        refine ⟨?_, z2⟩
        rcases Nat.lt_or_ge k i with y | y
        · exact y
        · exfalso
          apply e
          rw [← z2, show k = i by omega]
theorem cd_xIg_2 {post : SX → Prop} {g : Nat} {gT : Nat → Nat} (hg : g ≤ 6) (hfg : f_groups = nI g) (hT : ∀ j, j < 18 → a_groupLetters j = nI (gT j) ∧ gT j < 10)
    (h : ∀ gf, (∀ c i, c < 10 → i < g → (bt (gf c) i = true ↔ gT (3 * i) = c)) → post (f_groups, f_backwards, f_shifted, f_top, f_ready, f_ordered, f_wordLength, a_length, a_letters, a_cells, a_groupLength, a_groupLetters, gf, a_count, a_weights, a_order, a_word)) :
    ∀ d c n gf, c + d = 10 → d < n → (∀ i, i < c → gf i = 0) → wX_indexGroups_2 post f_groups f_backwards f_shifted f_top f_ready f_ordered f_wordLength n (nI c) a_length a_letters a_cells a_groupLength a_groupLetters gf a_count a_weights a_order a_word := by
  intro d
  induction d with
  | zero =>
    intro c n gf hc hn hgf
    obtain ⟨n, rfl⟩ : ∃ m, n = m + 1 := ⟨n - 1, by omega⟩
    refine br_t (nI_le (a := 10) (by omega) (by omega)) (Exists.intro (g + 1) ?_)
    refine cd_xIg_23 hg hfg hT h g 0 _ gf (by omega) (by omega) (fun c' k hc' hk => ?_)
    rw [hgf c' (by omega), b_0]
    exact ⟨fun z => absurd z (by decide), fun z => absurd z.1 (Nat.not_lt_zero k)⟩
  | succ d ih =>
    intro c n gf hc hn hgf
    obtain ⟨n, rfl⟩ : ∃ m, n = m + 1 := ⟨n - 1, by omega⟩
    refine br_f (nI_ge (b := 10) (by omega) (by omega)) (And.intro (vp_in_nI (by omega) (by omega)) (nm_r (e' := upd gf c 0) (by rw [nI_clamp (by omega)]) (nm_r (nI_1 c) (ih (c + 1) n _ (by omega) (by omega) (fun i hi => ?_)))))
    by_cases e : i = c
    · rw [e, pk_us]
    · rw [pk_un e]
      exact hgf i (by omega)
theorem cd_xIg {post : SX → Prop} {g : Nat} {gT : Nat → Nat} (hg : g ≤ 6) (hfg : f_groups = nI g) (hT : ∀ j, j < 18 → a_groupLetters j = nI (gT j) ∧ gT j < 10)
    (h : ∀ gf, (∀ c i, c < 10 → i < g → (bt (gf c) i = true ↔ gT (3 * i) = c)) → post (f_groups, f_backwards, f_shifted, f_top, f_ready, f_ordered, f_wordLength, a_length, a_letters, a_cells, a_groupLength, a_groupLetters, gf, a_count, a_weights, a_order, a_word)) : wpX_indexGroups post (f_groups, f_backwards, f_shifted, f_top, f_ready, f_ordered, f_wordLength, a_length, a_letters, a_cells, a_groupLength, a_groupLetters, a_groupsFrom, a_count, a_weights, a_order, a_word) :=
  Exists.intro 11 (cd_xIg_2 hg hfg hT h 10 0 11 a_groupsFrom (by omega) (by omega) (fun i hi => by omega))
theorem cd_xEl1 {post : Int32 → Prop} {e : Nat} (he : cd_ok e) (h : post 1) : wpX_isElement post (nI e) := by
  obtain ⟨h1, h2⟩ := he
  refine br_f (nI_pos (by omega)) (br_f (nI_ge (b := 1024) h1 (by omega)) ?_)
  rw [cd_e1 h1]
  exact br_f (fun z => by have := (nI_eq (b := 31) (by omega) (by omega)).mp z; omega) h
end SPELLX
/-- no element -/
def cd_noel (x : Int32) : Prop := ¬ ∃ e, cd_ok e ∧ x = nI e
theorem cd_noel_c {x : Int32} (hx : cd_noel x) : x < 0 ∨ (1024 : Int32) ≤ x ∨ ∃ e, e < 1024 ∧ x = nI e ∧ e % 32 = 31 := by
  rcases pk_ix x (n := 1024) (by omega) with h | h | ⟨e, he, rfl⟩
  · exact Or.inl h
  · exact Or.inr (Or.inl h)
  · refine Or.inr (Or.inr ⟨e, he, rfl, ?_⟩)
    rcases Nat.lt_or_ge (e % 32) 31 with c | c
    · exact absurd ⟨e, ⟨he, by omega⟩, rfl⟩ hx
    · omega
theorem cd_xEl0 {post : Int32 → Prop} {x : Int32} (hx : cd_noel x) (h : post 0) : wpX_isElement post x := by
  refine br_c (fun _ => h) (fun n1 => br_c (fun _ => h) (fun n2 => br_t ?_ h))
  rcases cd_noel_c hx with c | c | ⟨e, he, rfl, c⟩
  · exact absurd c n1
  · exact absurd c n2
  · rw [cd_e1 he, c]
    rfl
section SPELLY
variable {f_longer f_backwards f_shifted f_top f_many : Int32} {a_sizes a_letters a_words a_counts a_ones a_twos a_first a_second a_third a_fourth a_keySizes a_keys : Nat → Int32}
theorem cd_yEl1 {post : Int32 → Prop} {e : Nat} (he : cd_ok e) (h : post 1) : wpY_isElement post (f_longer, f_backwards, f_shifted, f_top, f_many, a_sizes, a_letters, a_words, a_counts, a_ones, a_twos, a_first, a_second, a_third, a_fourth, a_keySizes, a_keys) (nI e) := by
  obtain ⟨h1, h2⟩ := he
  refine br_f (nI_pos (by omega)) (br_f (nI_ge (b := 1024) h1 (by omega)) (And.intro cd_32 ?_))
  rw [cd_y1 h1]
  exact br_f (nI_nlt (a := 30) h2 (by omega)) h
theorem cd_yEl0 {post : Int32 → Prop} {x : Int32} (hx : cd_noel x) (h : post 0) : wpY_isElement post (f_longer, f_backwards, f_shifted, f_top, f_many, a_sizes, a_letters, a_words, a_counts, a_ones, a_twos, a_first, a_second, a_third, a_fourth, a_keySizes, a_keys) x := by
  refine br_c (fun _ => h) (fun n1 => br_c (fun _ => h) (fun n2 => And.intro cd_32 (br_t ?_ h)))
  rcases cd_noel_c hx with c | c | ⟨e, he, rfl, c⟩
  · exact absurd c n1
  · exact absurd c n2
  · rw [cd_y1 he, c]
    decide
theorem cd_yLo_4 {post : Int32 → Prop} : ∀ f k r n, k + f = 3 → f < n → r < 2 ^ 31 → (∀ l, cd_sp f r = some l → post (nI (k + l.length))) → (cd_sp f r = none → post 0) → wY_lengthOf_4 post f_longer f_backwards f_shifted f_top f_many a_sizes a_letters a_words a_counts a_ones a_twos a_first a_second a_third a_fourth a_keySizes a_keys n (nI k) (nI r) := by
  intro f
  induction f with
  | zero =>
    intro k r n hk hn hr h1 h0
    obtain ⟨n, rfl⟩ : ∃ m, n = m + 1 := ⟨n - 1, by omega⟩
    by_cases c : r = 0
    · subst c
      exact br_t (by decide) (br_t rfl (h1 [] (cd_sp_0 0)))
    · exact br_f (nI_nle (by omega) hr) (br_t (nI_le (a := 3) (by omega) (by omega)) (br_f (nI_ne0 (by omega) hr) (h0 (cd_sp_z c))))
  | succ f ih =>
    intro k r n hk hn hr h1 h0
    obtain ⟨n, rfl⟩ : ∃ m, n = m + 1 := ⟨n - 1, by omega⟩
    by_cases c : r = 0
    · subst c
      exact br_t (by decide) (br_t rfl (h1 [] (cd_sp_0 _)))
    · refine br_f (nI_nle (by omega) hr) (br_f (nI_ge (b := 3) (by omega) (by omega)) (And.intro cd_11 ?_))
      rw [cd_r11 hr]
      by_cases d : r % 11 = 0
      · exact br_t (by rw [d]; decide) (br_f (nI_ne0 (by omega) hr) (h0 (cd_sp_n c d)))
      · refine br_f (nI_nle (by omega) (by omega)) (And.intro cd_11 (nm_r (cd_d11 hr) (nm_r (nI_1 k) ?_)))
        refine ih (k + 1) (r / 11) n (by omega) (by omega) (by omega) (fun l hl => ?_) (fun hl => h0 (by rw [cd_sp_s c d, hl]; rfl))
        have z := h1 ((r % 11 - 1) :: l) (by rw [cd_sp_s c d, hl]; rfl)
        rw [List.length_cons, show k + (l.length + 1) = k + 1 + l.length by omega] at z
        exact z
theorem cd_yLen1 {post : Int32 → Prop} {x : Int32} {w : Nat} {l : List Nat} (hx : cd_word x w l) (h : post (nI l.length)) : wpY_lengthOf post (f_longer, f_backwards, f_shifted, f_top, f_many, a_sizes, a_letters, a_words, a_counts, a_ones, a_twos, a_first, a_second, a_third, a_fourth, a_keySizes, a_keys) x := by
  obtain ⟨rfl, h2, h3, h4⟩ := hx
  refine Exists.intro 4 (cd_yLo_4 3 0 w 4 (by omega) (by omega) h3 (fun l' hl => ?_) (fun q => by rw [h4] at q; cases q))
  have e : l = l' := Option.some.inj (h4.symm.trans hl)
  subst e
  rw [Nat.zero_add]
  exact h
theorem cd_yLen0 {post : Int32 → Prop} {x : Int32} (hx : cd_nowd x) (h : post 0) : wpY_lengthOf post (f_longer, f_backwards, f_shifted, f_top, f_many, a_sizes, a_letters, a_words, a_counts, a_ones, a_twos, a_first, a_second, a_third, a_fourth, a_keySizes, a_keys) x := by
  rcases hx with hx | ⟨w, rfl, h1, h2, h3⟩
  · exact Exists.intro 1 (br_t hx (br_c (fun _ => h) (fun _ => h)))
  · exact Exists.intro 4 (cd_yLo_4 3 0 w 4 (by omega) (by omega) h1 (fun l' hl => by rw [h3] at hl; cases hl) (fun _ => h))
end SPELLY
end
section
/-! the component: entry, forget -/
def cd_ue (E : cd_E) (w : Nat) (x : Option (Nat × Option Nat)) : cd_E := fun j => if j = w then x else E j
theorem cd_ue_s {E : cd_E} {w : Nat} {x : Option (Nat × Option Nat)} : cd_ue E w x w = x := if_pos rfl
theorem cd_ue_n {E : cd_E} {w j : Nat} {x : Option (Nat × Option Nat)} (h : ¬ j = w) : cd_ue E w x j = E j := if_neg h
theorem cd_Ok_ue {E : cd_E} (h : cd_Ok E) (w : Nat) {a : Nat} {b : Option Nat} (ha : cd_ok a) (hb : ∀ c, b = some c → cd_ok c) : cd_Ok (cd_ue E w (some (a, b))) := by
  refine ⟨fun w' x y e => ?_, fun c hc => ?_⟩
  · by_cases q : w' = w
    · rw [q, cd_ue_s] at e
      cases e
      exact ⟨ha, hb⟩
    · rw [cd_ue_n q] at e
      exact h.1 w' x y e
  · by_cases q : c + 1 = w
    · rw [q, cd_ue_s]
      rfl
    · rw [cd_ue_n q]
      exact h.2 c hc
theorem cd_Ok_un {E : cd_E} (h : cd_Ok E) (w : Nat) (hw : ∀ c, c < 10 → ¬ c + 1 = w) : cd_Ok (cd_ue E w none) := by
  refine ⟨fun w' x y e => ?_, fun c hc => ?_⟩
  · by_cases q : w' = w
    · rw [q, cd_ue_s] at e
      cases e
    · rw [cd_ue_n q] at e
      exact h.1 w' x y e
  · rw [cd_ue_n (hw c hc)]
    exact h.2 c hc
/-- a word of two or three letters is no letter -/
theorem cd_vl_long {l : List Nat} (h2 : 2 ≤ l.length) (hd : ∀ k, k < l.length → cd_at l k < 10) : ∀ c, c < 10 → ¬ c + 1 = cd_vl l := by
  intro c hc e
  rw [← cd_vl_at] at e
  have q := cd_wn_inj (fun _ => c) (cd_at l) 1 l.length 0 0 (fun _ _ => hc) (fun k hk => by rw [Nat.zero_add]; exact hd k hk) e
  omega
theorem cd_nm_long {g : Nat} {gL gT : Nat → Nat} {gl gt gf : Nat → Int32} (hg : g ≤ 6) (hG : cd_XG g gL gT gl gt gf) {i : Nat} (hi : i < g) : ∀ c, c < 10 → ¬ c + 1 = cd_nm gL gT i := by
  intro c hc e
  obtain ⟨-, l2, l3⟩ := hG.1 i hi
  have q := cd_wn_inj (fun _ => c) gT 1 (gL i) 0 (3 * i) (fun _ _ => hc) (fun k hk => (hG.2.1 _ (by omega)).2) e
  omega
theorem cd_XC_let {E : cd_E} {g : Nat} {gL gT : Nat → Nat} {cells : Nat → Int32} (hC : cd_XC E g gL gT cells) {c a : Nat} {b : Option Nat} (hc : c < 10) (hn : ∀ i, i < g → ¬ c + 1 = cd_nm gL gT i) :
    cd_XC (cd_ue E (c + 1) (some (a, b))) g gL gT (upd (upd cells (2 * c) (nI a)) (2 * c + 1) (cd_oI b)) := by
  obtain ⟨c1, c2, c3, c4⟩ := hC
  refine ⟨fun i hi => ?_, fun k hk => ?_, c3, fun w hw => ?_⟩
  · obtain ⟨x, y, e1, e2, e3⟩ := c1 i hi
    refine ⟨x, y, ?_, ?_, ?_⟩
    · rw [cd_ue_n (fun q => hn i hi q.symm)]
      exact e1
    · rw [pk_un (by omega), pk_un (by omega)]
      exact e2
    · rw [pk_un (by omega), pk_un (by omega)]
      exact e3
  · by_cases e : k = c
    · subst e
      refine ⟨a, b, cd_ue_s, ?_, pk_us⟩
      rw [pk_un (by omega), pk_us]
    · obtain ⟨x, y, e1, e2, e3⟩ := c2 k hk
      refine ⟨x, y, ?_, ?_, ?_⟩
      · rw [cd_ue_n (by omega)]
        exact e1
      · rw [pk_un (by omega), pk_un (by omega)]
        exact e2
      · rw [pk_un (by omega), pk_un (by omega)]
        exact e3
  · by_cases e : w = c + 1
    · exact Or.inl ⟨c, hc, e⟩
    · rw [cd_ue_n e] at hw
      exact c4 w hw
/-- an entry is written at group j: an old one, or one more -/
theorem cd_XC_grp {E : cd_E} {g g' : Nat} {gL gT gL' gT' : Nat → Nat} {cells : Nat → Int32} (hC : cd_XC E g gL gT cells) {j w a : Nat} {b : Option Nat} (hj : j < g') (hw : cd_nm gL' gT' j = w)
    (h2 : ∀ i, i < g' → ¬ i = j → i < g ∧ cd_nm gL' gT' i = cd_nm gL gT i) (h3 : ∀ i, i < g → cd_nm gL gT i = w → i = j) (h4 : g ≤ g') (h5 : ∀ c, c < 10 → ¬ c + 1 = w) (h6 : j < g → cd_nm gL gT j = w) :
    cd_XC (cd_ue E w (some (a, b))) g' gL' gT' (upd (upd cells (20 + 2 * j) (nI a)) (20 + 2 * j + 1) (cd_oI b)) := by
  obtain ⟨c1, c2, c3, c4⟩ := hC
  refine ⟨fun i hi => ?_, fun k hk => ?_, fun i i' hi hi' e => ?_, fun w' hw' => ?_⟩
  · by_cases e : i = j
    · subst e
      refine ⟨a, b, ?_, ?_, pk_us⟩
      · rw [hw, cd_ue_s]
      · rw [pk_un (by omega), pk_us]
    · obtain ⟨q1, q2⟩ := h2 i hi e
      obtain ⟨x, y, e1, e2, e3⟩ := c1 i q1
      refine ⟨x, y, ?_, ?_, ?_⟩
      · rw [q2, cd_ue_n (fun q => e (h3 i q1 q))]
        exact e1
      · rw [pk_un (by omega), pk_un (by omega)]
        exact e2
      · rw [pk_un (by omega), pk_un (by omega)]
        exact e3
  · obtain ⟨x, y, e1, e2, e3⟩ := c2 k hk
    refine ⟨x, y, ?_, ?_, ?_⟩
    · rw [cd_ue_n (h5 k hk)]
      exact e1
    · rw [pk_un (by omega), pk_un (by omega)]
      exact e2
    · rw [pk_un (by omega), pk_un (by omega)]
      exact e3
  · by_cases p : i = j
    · by_cases p' : i' = j
      · omega
      · exfalso
        obtain ⟨q1, q2⟩ := h2 i' hi' p'
        rw [p, hw, q2] at e
        exact p' (h3 i' q1 e.symm)
    · obtain ⟨q1, q2⟩ := h2 i hi p
      by_cases p' : i' = j
      · exfalso
        rw [p', hw, q2] at e
        exact p (h3 i q1 e)
      · obtain ⟨q3, q4⟩ := h2 i' hi' p'
        rw [q2, q4] at e
        exact c3 i i' q1 q3 e
  · by_cases e : w' = w
    · exact Or.inr ⟨j, hj, by rw [hw]; exact e⟩
    · rw [cd_ue_n e] at hw'
      rcases c4 w' hw' with z | ⟨i, hi, z⟩
      · exact Or.inl z
      · refine Or.inr ⟨i, by omega, ?_⟩
        have p : ¬ i = j := fun q => e (by rw [z, q, h6 (by omega)])
        rw [(h2 i (by omega) p).2]
        exact z
/-- the letters of a new group, k of them written -/
def cd_gy (gT : Nat → Nat) (g : Nat) (l : List Nat) (k : Nat) : Nat → Nat := fun j => if 3 * g ≤ j ∧ j < 3 * g + k then cd_at l (j - 3 * g) else gT j
theorem cd_gy_s (gT : Nat → Nat) (g : Nat) (l : List Nat) (k j : Nat) : cd_gy gT g l (k + 1) j = if j = 3 * g + k then cd_at l k else cd_gy gT g l k j := by
  unfold cd_gy
  by_cases c : j = 3 * g + k
  · rw [if_pos (by omega), if_pos c, c, show 3 * g + k - 3 * g = k by omega]
  · rw [if_neg c]
    by_cases d : 3 * g ≤ j ∧ j < 3 * g + k
    · rw [if_pos d, if_pos (by omega)]
    · rw [if_neg d, if_neg (by omega)]
section XENTRY
variable {f_groups f_backwards f_shifted f_top f_ready f_ordered f_wordLength : Int32} {a_length a_letters a_cells a_groupLength a_groupLetters a_groupsFrom a_count a_weights a_order a_word : Nat → Int32}
theorem cd_xEn_155 {post : Int32 → SX → Prop} {z : Nat} {x y : Int32} (hz : z + 1 < 32) (h : post f_groups (f_groups, f_backwards, f_shifted, f_top, 0, 0, f_wordLength, a_length, a_letters, upd (upd a_cells z x) (z + 1) y, a_groupLength, a_groupLetters, a_groupsFrom, a_count, a_weights, a_order, a_word)) : wX_entry_155 post x y (nI z) f_groups f_backwards f_shifted f_top f_ready f_ordered f_wordLength a_length a_letters a_cells a_groupLength a_groupLetters a_groupsFrom a_count a_weights a_order a_word := by
  refine And.intro (vp_in_nI (by omega) (by omega)) (nm_r (e' := upd a_cells z x) (by rw [nI_clamp (by omega)]) (And.intro (by rw [nI_1]; exact vp_in_nI hz (by omega)) (nm_r (e' := upd (upd a_cells z x) (z + 1) y) (by rw [nI_1, nI_clamp (by omega)]) h)))
theorem cd_xEn_108 {post : Int32 → SX → Prop} {g : Nat} {gT : Nat → Nat} {l : List Nat} {x y : Int32} (hg : g < 6) (hfg : f_groups = nI (g + 1)) (hwl : f_wordLength = nI l.length) (hl3 : l.length ≤ 3) (hw : ∀ k, k < l.length → a_word k = nI (cd_at l k)) (hd : ∀ k, k < l.length → cd_at l k < 10) (hT : ∀ j, j < 18 → gT j < 10)
    (h : ∀ gt gf, (∀ j, j < 18 → gt j = nI (cd_gy gT g l l.length j) ∧ cd_gy gT g l l.length j < 10) → (∀ c i, c < 10 → i < g + 1 → (bt (gf c) i = true ↔ cd_gy gT g l l.length (3 * i) = c)) →
      wX_entry_146 post x y (nI g) f_groups f_backwards f_shifted f_top f_ready f_ordered f_wordLength a_length a_letters a_cells a_groupLength gt gf a_count a_weights a_order a_word) :
    ∀ d k n gt, k + d = l.length → d < n → (∀ j, j < 18 → gt j = nI (cd_gy gT g l k j)) → wX_entry_108 post x y (nI g) f_groups f_backwards f_shifted f_top f_ready f_ordered f_wordLength n (nI k) a_length a_letters a_cells a_groupLength gt a_groupsFrom a_count a_weights a_order a_word := by
  intro d
  induction d with
  | zero =>
    intro k n gt hk hn hgt
    obtain ⟨n, rfl⟩ : ∃ m, n = m + 1 := ⟨n - 1, by omega⟩
    have ek : k = l.length := by omega
    subst ek
    have hb : ∀ j, j < 18 → gt j = nI (cd_gy gT g l l.length j) ∧ cd_gy gT g l l.length j < 10 := by
      intro j hj
      refine ⟨hgt j hj, ?_⟩
      unfold cd_gy
      split
      · exact hd _ (by omega)
      · exact hT j hj
    exact br_t (by rw [hwl]; exact nI_le (by omega) (by omega)) (cd_xIg (g := g + 1) (by omega) hfg hb (fun gf hgf => h gt gf hb hgf))
  | succ d ih =>
    intro k n gt hk hn hgt
    obtain ⟨n, rfl⟩ : ∃ m, n = m + 1 := ⟨n - 1, by omega⟩
    refine br_f (by rw [hwl]; exact nI_ge (by omega) (by omega)) ?_
    rw [cd_m3, nI_add, nI_clamp (n := 3 * g + k) (by omega), nI_clamp (n := k) (by omega), hw k (by omega)]
    refine And.intro (vp_in_nI (by omega) (by omega)) (And.intro (vp_in_nI (by omega) (by omega)) (nm_e (nm_r (nI_1 k) (ih (k + 1) n _ (by omega) (by omega) (fun j hj => ?_)))))
    rw [cd_gy_s]
    by_cases c : j = 3 * g + k
    · rw [if_pos c, c, pk_us]
    · rw [if_neg c, pk_un c]
      exact hgt j hj
end XENTRY
section XENTRY2
variable {ln lt : Nat → Nat} {E : cd_E} {g bk sh top : Nat} {u : SX} {post : Int32 → SX → Prop}
theorem cd_none_of {g : Nat} {gL gT : Nat → Nat} {cells : Nat → Int32} (hC : cd_XC E g gL gT cells) {w : Nat} (h5 : ∀ c, c < 10 → ¬ c + 1 = w) (h : ∀ j, j < g → ¬ cd_nm gL gT j = w) : E w = none := by
  cases q : E w with
  | none => rfl
  | some x =>
    exfalso
    rcases hC.2.2.2 w (by rw [q]; rfl) with ⟨c, hc, e⟩ | ⟨i, hi, e⟩
    · exact h5 c hc e.symm
    · exact h i hi e.symm
theorem cd_xEntry' (D : cd_D ln lt E g bk sh top) (R : cd_RX ln lt E g bk sh top u) {x y : Int32} {w : Nat} {l : List Nat} (hx : cd_word x w l) {a : Nat} {b : Option Nat} (ha : cd_ok a) (hb : ∀ c, b = some c → cd_ok c) (hy : y = cd_oI b)
    (hA : (E w).isSome = true → ∀ u', cd_RX ln lt (cd_ue E w (some (a, b))) g bk sh top u' → post (nI g) u')
    (hB : E w = none → g < 6 → ∀ u', cd_RX ln lt (cd_ue E w (some (a, b))) (g + 1) bk sh top u' → post (nI (g + 1)) u')
    (hC : E w = none → g = 6 → ∀ u', cd_RX ln lt E g bk sh top u' → post (-3) u') : wpX_entry post u x (nI a) y := by
  obtain ⟨f_groups, f_backwards, f_shifted, f_top, f_ready, f_ordered, f_wordLength, a_length, a_letters, a_cells, a_groupLength, a_groupLetters, a_groupsFrom, a_count, a_weights, a_order, a_word⟩ := u
  obtain ⟨⟨gL, gT, S⟩, C⟩ := R
  obtain ⟨s1, s2, s3, s4, s5, s6, s7, s8⟩ := S
  have d4 := D.2.2.2.1
  obtain ⟨w1, w2, w3, w4, w5⟩ := cd_word_f hx
  unfold wpX_entry
  refine cd_xSpell1 hx (fun wd hwd => ?_)
  refine br_f cd_10 (cd_xEl1 ha (br_f cd_10 ?_))
  -- the entry itself
  have main : wX_entry_32 post (nI a) (cd_oI b) f_groups f_backwards f_shifted f_top f_ready f_ordered (nI l.length) a_length a_letters a_cells a_groupLength a_groupLetters a_groupsFrom a_count a_weights a_order wd := by
    unfold wX_entry_32
    refine nm_r (e' := nI (2 * cd_at l 0)) (by rw [hwd 0 (by omega), cd_m2]) ?_
    have l0 := w4 0 (by omega)
    by_cases c1 : l.length ≤ 1
    · refine br_t (nI_le (b := 1) c1 (by omega)) (cd_xEn_155 (by omega) ?_)
      have ew : w = cd_at l 0 + 1 := by
        rw [← w1, ← cd_vl_at, show l.length = 1 by omega]
        rfl
      have q := hA (by rw [ew]; exact D.2.2.1.2 _ l0)
      rw [s1]
      refine q _ ⟨⟨gL, gT, rfl, s2, s3, s4, s5, s6, s7, ?_⟩, cd_CA_all⟩
      rw [ew]
      exact cd_XC_let s8 l0 (fun i hi => cd_nm_long d4 s7 hi _ l0)
    · have h5 : ∀ c, c < 10 → ¬ c + 1 = w := by
        rw [← w1]
        exact cd_vl_long (by omega) w4
      refine br_f (nI_ge (a := 1) (by omega) (by omega)) ?_
      refine cd_xGs (l := l) d4 s1 s7 w3 rfl w4 hwd (fun j hj hnm => ?_) (fun hno => ?_)
      · rw [w1] at hnm
        have he : (E w).isSome = true := by
          obtain ⟨p, q, e, -⟩ := s8.1 j hj
          rw [← hnm, e]
          rfl
        refine br_t (nI_pos' (by omega)) ?_
        unfold wX_entry_73 wX_entry_146
        refine br_t (nI_pos' (by omega)) (nm_r (e' := nI (20 + 2 * j)) (by rw [cd_m2, cd_p20]) (cd_xEn_155 (by omega) ?_))
        rw [s1]
        refine hA he _ ⟨⟨gL, gT, rfl, s2, s3, s4, s5, s6, s7, ?_⟩, cd_CA_all⟩
        exact cd_XC_grp s8 hj hnm (fun i hi _ => ⟨hi, rfl⟩) (fun i hi q => s8.2.2.1 i j hi hj (by rw [q, hnm])) (Nat.le_refl g) h5 (fun _ => hnm)
      · rw [w1] at hno
        have he := cd_none_of s8 h5 hno
        refine br_f (by decide) ?_
        by_cases c6 : g < 6
        · refine br_t (by rw [s1]; exact nI_lt (b := 6) c6 (by omega)) ?_
          unfold wX_entry_73
          rw [s1]
          refine br_f (by decide) (nm_r (nI_1 g) (And.intro (vp_in_nI c6 (by omega)) (nm_r (e' := upd a_groupLength g (nI l.length)) (by rw [nI_clamp (by omega)]) (Exists.intro (l.length + 1) ?_))))
          refine cd_xEn_108 (gT := gT) c6 rfl rfl w3 hwd w4 (fun j hj => (s7.2.1 j hj).2) (fun gt gf h1 h2 => ?_) l.length 0 _ a_groupLetters (by omega) (by omega) (fun j hj => by
            unfold cd_gy
            rw [if_neg (by omega)]
            exact (s7.2.1 j hj).1)
          unfold wX_entry_146
          refine nm_r (e' := nI (20 + 2 * g)) (by rw [cd_m2, cd_p20]) (cd_xEn_155 (by omega) ?_)
          have nmo : ∀ i, i < g → cd_nm (cd_un gL g l.length) (cd_gy gT g l l.length) i = cd_nm gL gT i := by
            intro i hi
            obtain ⟨-, z2, z3⟩ := s7.1 i hi
            unfold cd_nm
            rw [cd_un_n (by omega)]
            refine cd_wn_ext _ _ _ _ _ (fun k hk => ?_)
            unfold cd_gy
            rw [if_neg (by omega)]
          have nmg : cd_nm (cd_un gL g l.length) (cd_gy gT g l l.length) g = w := by
            unfold cd_nm
            rw [cd_un_s, ← w1]
            refine cd_vl_wn _ l _ (fun k hk => ?_)
            unfold cd_gy
            rw [if_pos (by omega), show 3 * g + k - 3 * g = k by omega]
          refine hB he c6 _ ⟨⟨cd_un gL g l.length, cd_gy gT g l l.length, rfl, s2, s3, s4, s5, s6, ⟨fun i hi => ?_, h1, h2⟩, ?_⟩, cd_CA_all⟩
          · by_cases e : i = g
            · rw [e, pk_us, cd_un_s]
              exact ⟨rfl, by omega, w3⟩
            · rw [pk_un e, cd_un_n e]
              exact s7.1 i (by omega)
          · exact cd_XC_grp s8 (by omega) nmg (fun i hi hn => ⟨by omega, nmo i (by omega)⟩) (fun i hi q => absurd q (hno i hi)) (by omega) h5 (fun q => by omega)
        · refine br_f (by rw [s1]; exact nI_nlt (b := 6) (by omega) (by omega)) ?_
          exact hC he (by omega) _ ⟨⟨gL, gT, s1, s2, s3, s4, s5, s6, s7, s8⟩, C⟩
  rw [hy]
  cases b with
  | none => exact br_t rfl main
  | some c =>
    have hc := hb c rfl
    refine br_f (fun z => nI_pos (n := c) (by have := hc.1; omega) (by rw [show nI c = -1 from z]; decide)) ?_
    exact cd_xEl1 hc (br_f cd_10 main)
theorem cd_xEntry_w (R : cd_RX ln lt E g bk sh top u) {x y z : Int32} (hx : cd_nowd x) (h : ∀ u', cd_RX ln lt E g bk sh top u' → post (-1) u') : wpX_entry post u x y z := by
  obtain ⟨f_groups, f_backwards, f_shifted, f_top, f_ready, f_ordered, f_wordLength, a_length, a_letters, a_cells, a_groupLength, a_groupLetters, a_groupsFrom, a_count, a_weights, a_order, a_word⟩ := u
  unfold wpX_entry
  exact cd_xSpell0 hx (fun wl wd => br_t rfl (h _ R))
theorem cd_xEntry_e (R : cd_RX ln lt E g bk sh top u) {x y z : Int32} {w : Nat} {l : List Nat} (hx : cd_word x w l) (he : cd_noel y ∨ (cd_noel z ∧ ¬ z = -1)) (h : ∀ u', cd_RX ln lt E g bk sh top u' → post (-2) u') : wpX_entry post u x y z := by
  obtain ⟨f_groups, f_backwards, f_shifted, f_top, f_ready, f_ordered, f_wordLength, a_length, a_letters, a_cells, a_groupLength, a_groupLetters, a_groupsFrom, a_count, a_weights, a_order, a_word⟩ := u
  unfold wpX_entry
  refine cd_xSpell1 hx (fun wd hwd => br_f cd_10 ?_)
  rcases Classical.em (∃ e, cd_ok e ∧ y = nI e) with ⟨e, h1, rfl⟩ | c
  · rcases he with he | ⟨he, hz⟩
    · exact absurd ⟨e, h1, rfl⟩ he
    · exact cd_xEl1 h1 (br_f cd_10 (br_f hz (cd_xEl0 he (br_t rfl (h _ R)))))
  · exact cd_xEl0 c (br_t rfl (h _ R))
end XENTRY2
end
section
/-! the component: forget; the reference: entry, forget -/
/-- letters of group m moved to group j, k of them -/
def cd_gz (gT : Nat → Nat) (j m k : Nat) : Nat → Nat := fun i => if 3 * j ≤ i ∧ i < 3 * j + k then gT (3 * m + (i - 3 * j)) else gT i
theorem cd_gz_src (gT : Nat → Nat) {j m k : Nat} (hk : k < 3) : cd_gz gT j m k (3 * m + k) = gT (3 * m + k) := by
  unfold cd_gz
  rw [if_neg (by omega)]
theorem cd_gz_s (gT : Nat → Nat) {j m k : Nat} (i : Nat) : cd_gz gT j m (k + 1) i = if i = 3 * j + k then gT (3 * m + k) else cd_gz gT j m k i := by
  unfold cd_gz
  by_cases c : i = 3 * j + k
  · rw [if_pos (by omega), if_pos c, c, show 3 * j + k - 3 * j = k by omega]
  · rw [if_neg c]
    by_cases d : 3 * j ≤ i ∧ i < 3 * j + k
    · rw [if_pos d, if_pos (by omega)]
    · rw [if_neg d, if_neg (by omega)]
/-- group j gives way to the last one, m -/
theorem cd_XC_del {E : cd_E} {m j w : Nat} {gL gT gL' gT' : Nat → Nat} {cells cells' : Nat → Int32} (hC : cd_XC E (m + 1) gL gT cells) (hj : j < m + 1) (hw : cd_nm gL gT j = w) (h5 : ∀ c, c < 10 → ¬ c + 1 = w)
    (hnm : ∀ i, i < m → cd_nm gL' gT' i = cd_nm gL gT (if i = j then m else i)) (hc1 : ∀ c, c < 20 → cells' c = cells c)
    (hc2 : ∀ i, i < m → cells' (20 + 2 * i) = cells (20 + 2 * (if i = j then m else i)) ∧ cells' (20 + 2 * i + 1) = cells (20 + 2 * (if i = j then m else i) + 1)) :
    cd_XC (cd_ue E w none) m gL' gT' cells' := by
  obtain ⟨c1, c2, c3, c4⟩ := hC
  have pi : ∀ i, i < m → (if i = j then m else i) < m + 1 ∧ ¬ (if i = j then m else i) = j := by
    intro i hi
    by_cases e : i = j
    · rw [if_pos e]
      omega
    · rw [if_neg e]
      omega
  have ne : ∀ i, i < m → ¬ cd_nm gL gT (if i = j then m else i) = w := by
    intro i hi q
    obtain ⟨p1, p2⟩ := pi i hi
    exact p2 (c3 _ _ p1 hj (by rw [q, hw]))
  refine ⟨fun i hi => ?_, fun k hk => ?_, fun i i' hi hi' e => ?_, fun w' hw' => ?_⟩
  · obtain ⟨p1, p2⟩ := pi i hi
    obtain ⟨x, y, e1, e2, e3⟩ := c1 _ p1
    refine ⟨x, y, ?_, ?_, ?_⟩
    · rw [hnm i hi, cd_ue_n (ne i hi)]
      exact e1
    · rw [(hc2 i hi).1]
      exact e2
    · rw [(hc2 i hi).2]
      exact e3
  · obtain ⟨x, y, e1, e2, e3⟩ := c2 k hk
    refine ⟨x, y, ?_, ?_, ?_⟩
    · rw [cd_ue_n (h5 k hk)]
      exact e1
    · rw [hc1 _ (by omega)]
      exact e2
    · rw [hc1 _ (by omega)]
      exact e3
  · rw [hnm i hi, hnm i' hi'] at e
    have q := c3 _ _ (pi i hi).1 (pi i' hi').1 e
    by_cases p : i = j
    · by_cases p' : i' = j
      · omega
      · rw [if_pos p, if_neg p'] at q
        omega
    · by_cases p' : i' = j
      · rw [if_neg p, if_pos p'] at q
        omega
      · rw [if_neg p, if_neg p'] at q
        exact q
  · by_cases e : w' = w
    · rw [e, cd_ue_s] at hw'
      cases hw'
    · rw [cd_ue_n e] at hw'
      rcases c4 w' hw' with z | ⟨i, hi, z⟩
      · exact Or.inl z
      · have nj : ¬ i = j := fun q => e (by rw [z, q, hw])
        by_cases im : i = m
        · refine Or.inr ⟨j, by omega, ?_⟩
          rw [hnm j (by omega), if_pos rfl, ← im]
          exact z
        · refine Or.inr ⟨i, by omega, ?_⟩
          rw [hnm i (by omega), if_neg nj]
          exact z
section XFORGET
variable {f_groups f_backwards f_shifted f_top f_ready f_ordered f_wordLength : Int32} {a_length a_letters a_cells a_groupLength a_groupLetters a_groupsFrom a_count a_weights a_order a_word : Nat → Int32}
theorem cd_xFo_57 {post : Int32 → SX → Prop} {m j : Nat} {gT : Nat → Nat} (hm : m < 6) (hj : j ≤ m) (hfg : f_groups = nI m) (hT : ∀ j, j < 18 → gT j < 10)
    (h : ∀ gt gf cl, (∀ i, i < 18 → gt i = nI (cd_gz gT j m 3 i) ∧ cd_gz gT j m 3 i < 10) → (∀ c i, c < 10 → i < m → (bt (gf c) i = true ↔ cd_gz gT j m 3 (3 * i) = c)) →
      (∀ c, c < 20 → cl c = a_cells c) → (∀ i, i < m → cl (20 + 2 * i) = a_cells (20 + 2 * (if i = j then m else i)) ∧ cl (20 + 2 * i + 1) = a_cells (20 + 2 * (if i = j then m else i) + 1)) →
      post (nI m) (f_groups, f_backwards, f_shifted, f_top, 0, 0, f_wordLength, a_length, a_letters, cl, a_groupLength, gt, gf, a_count, a_weights, a_order, a_word)) :
    ∀ d k n gt, k + d = 3 → d < n → (∀ i, i < 18 → gt i = nI (cd_gz gT j m k i)) → wX_forget_57 post (nI j) f_groups f_backwards f_shifted f_top f_ready f_ordered f_wordLength n (nI k) a_length a_letters a_cells a_groupLength gt a_groupsFrom a_count a_weights a_order a_word := by
  subst hfg
  intro d
  induction d with
  | zero =>
    intro k n gt hk hn hgt
    obtain ⟨n, rfl⟩ : ∃ m, n = m + 1 := ⟨n - 1, by omega⟩
    have ek : k = 3 := by omega
    subst ek
    have hb : ∀ i, i < 18 → gt i = nI (cd_gz gT j m 3 i) ∧ cd_gz gT j m 3 i < 10 := by
      intro i hi
      refine ⟨hgt i hi, ?_⟩
      unfold cd_gz
      split
      · exact hT _ (by omega)
      · exact hT i hi
    refine br_t (nI_le (a := 3) (by omega) (by omega)) ?_
    rw [cd_m2, cd_m2, cd_p20, cd_p20, nI_1, nI_1, nI_clamp (n := 20 + 2 * j) (by omega), nI_clamp (n := 20 + 2 * m) (by omega), nI_clamp (n := 20 + 2 * j + 1) (by omega), nI_clamp (n := 20 + 2 * m + 1) (by omega)]
    refine And.intro (vp_in_nI (by omega) (by omega)) (And.intro (vp_in_nI (by omega) (by omega)) (nm_e (And.intro (vp_in_nI (by omega) (by omega)) (And.intro (vp_in_nI (by omega) (by omega)) (nm_e ?_)))))
    refine cd_xIg (g := m) (by omega) rfl hb (fun gf hgf => ?_)
    refine h gt gf _ hb hgf (fun c hc => ?_) (fun i hi => ⟨?_, ?_⟩)
    · rw [pk_un (by omega), pk_un (by omega)]
    · rw [pk_un (by omega)]
      by_cases e : i = j
      · rw [if_pos e, e, pk_us]
      · rw [if_neg e, pk_un (by omega)]
    · by_cases e : i = j
      · rw [if_pos e, e, pk_us, pk_un (by omega)]
      · rw [if_neg e, pk_un (by omega), pk_un (by omega)]
  | succ d ih =>
    intro k n gt hk hn hgt
    obtain ⟨n, rfl⟩ : ∃ m, n = m + 1 := ⟨n - 1, by omega⟩
    refine br_f (nI_ge (b := 3) (by omega) (by omega)) ?_
    rw [cd_m3, cd_m3, nI_add, nI_add, nI_clamp (n := 3 * m + k) (by omega), nI_clamp (n := 3 * j + k) (by omega)]
    refine And.intro (vp_in_nI (by omega) (by omega)) (And.intro (vp_in_nI (by omega) (by omega)) (nm_e (nm_r (nI_1 k) ?_)))
    refine ih (k + 1) n _ (by omega) (by omega) (fun i hi => ?_)
    rw [cd_gz_s]
    by_cases c : i = 3 * j + k
    · rw [if_pos c, c, pk_us, hgt _ (by omega), cd_gz_src gT (by omega)]
    · rw [if_neg c, pk_un c]
      exact hgt i hi
end XFORGET
section XFORGET2
variable {ln lt : Nat → Nat} {E : cd_E} {g bk sh top : Nat} {u : SX} {post : Int32 → SX → Prop}
theorem cd_xForget (D : cd_D ln lt E g bk sh top) (R : cd_RX ln lt E g bk sh top u) {x : Int32} {w : Nat} {l : List Nat} (hx : cd_word x w l) (h2 : 2 ≤ l.length)
    (hA : (E w).isSome = true → 1 ≤ g → ∀ u', cd_RX ln lt (cd_ue E w none) (g - 1) bk sh top u' → post (nI (g - 1)) u')
    (hB : E w = none → ∀ u', cd_RX ln lt E g bk sh top u' → post (-2) u') : wpX_forget post u x := by
  obtain ⟨f_groups, f_backwards, f_shifted, f_top, f_ready, f_ordered, f_wordLength, a_length, a_letters, a_cells, a_groupLength, a_groupLetters, a_groupsFrom, a_count, a_weights, a_order, a_word⟩ := u
  obtain ⟨⟨gL, gT, S⟩, C⟩ := R
  obtain ⟨s1, s2, s3, s4, s5, s6, s7, s8⟩ := S
  have d4 := D.2.2.2.1
  obtain ⟨w1, w2, w3, w4, w5⟩ := cd_word_f hx
  have h5 : ∀ c, c < 10 → ¬ c + 1 = w := by
    rw [← w1]
    exact cd_vl_long (by omega) w4
  unfold wpX_forget
  refine cd_xSpell1 hx (fun wd hwd => ?_)
  refine br_f cd_10 (br_t (nI_le (a := 2) h2 (by omega)) ?_)
  refine cd_xGs (l := l) d4 s1 s7 w3 rfl w4 hwd (fun j hj hnm => ?_) (fun hno => ?_)
  · rw [w1] at hnm
    obtain ⟨m, rfl⟩ : ∃ m, g = m + 1 := ⟨g - 1, by omega⟩
    simp only [Nat.add_sub_cancel] at hA
    have he : (E w).isSome = true := by
      obtain ⟨p, q, e, -⟩ := s8.1 j hj
      rw [← hnm, e]
      rfl
    refine br_t (nI_pos' (by omega)) (nm_r (e' := nI m) (by rw [s1]; exact nI_pred m) (And.intro (vp_in_nI (by omega) (by omega)) (And.intro (vp_in_nI (by omega) (by omega)) (nm_r (e' := upd a_groupLength j (nI (gL m))) (by rw [nI_clamp (n := j) (by omega), nI_clamp (n := m) (by omega), (s7.1 m (by omega)).1]) (Exists.intro 4 ?_)))))
    refine cd_xFo_57 (gT := gT) (by omega) (by omega) rfl (fun i hi => (s7.2.1 i hi).2) (fun gt gf cl q1 q2 q3 q4 => ?_) 3 0 4 a_groupLetters (by omega) (by omega) (fun i hi => by
      unfold cd_gz
      rw [if_neg (by omega)]
      exact (s7.2.1 i hi).1)
    refine hA he (by omega) _ ⟨⟨cd_un gL j (gL m), cd_gz gT j m 3, rfl, s2, s3, s4, s5, s6, ⟨fun i hi => ?_, q1, q2⟩, ?_⟩, cd_CA_all⟩
    · by_cases e : i = j
      · rw [e, pk_us, cd_un_s]
        exact ⟨rfl, (s7.1 m (by omega)).2⟩
      · rw [pk_un e, cd_un_n e]
        exact s7.1 i (by omega)
    · refine cd_XC_del s8 hj hnm h5 (fun i hi => ?_) q3 q4
      unfold cd_nm
      by_cases e : i = j
      · rw [if_pos e, e, cd_un_s]
        obtain ⟨-, z2, z3⟩ := s7.1 m (by omega)
        refine cd_wn_ext _ _ _ _ _ (fun k hk => ?_)
        unfold cd_gz
        rw [if_pos (by omega), show 3 * j + k - 3 * j = k by omega]
      · rw [if_neg e, cd_un_n e]
        obtain ⟨-, z2, z3⟩ := s7.1 i (by omega)
        refine cd_wn_ext _ _ _ _ _ (fun k hk => ?_)
        unfold cd_gz
        rw [if_neg (by omega)]
  · rw [w1] at hno
    exact br_f (by decide) (hB (cd_none_of s8 h5 hno) _ ⟨⟨gL, gT, s1, s2, s3, s4, s5, s6, s7, s8⟩, C⟩)
theorem cd_xForget_w (R : cd_RX ln lt E g bk sh top u) {x : Int32} (hx : cd_nowd x ∨ ∃ w l, cd_word x w l ∧ ¬ 2 ≤ l.length) (h : ∀ u', cd_RX ln lt E g bk sh top u' → post (-1) u') : wpX_forget post u x := by
  obtain ⟨f_groups, f_backwards, f_shifted, f_top, f_ready, f_ordered, f_wordLength, a_length, a_letters, a_cells, a_groupLength, a_groupLetters, a_groupsFrom, a_count, a_weights, a_order, a_word⟩ := u
  unfold wpX_forget
  rcases hx with hx | ⟨w, l, hx, h2⟩
  · exact cd_xSpell0 hx (fun wl wd => br_t rfl (h _ R))
  · exact cd_xSpell1 hx (fun wd hwd => br_f cd_10 (br_f (nI_ge (b := 2) (by omega) (by omega)) (h _ R)))
end XFORGET2
/-! the reference -/
theorem cd_YE_set {E : cd_E} {g g' : Nat} {wd wd' : Nat → Nat} {words counts ones twos words' counts' ones' twos' : Nat → Int32} (hE : cd_YE E g wd words counts ones twos) {j w a : Nat} {b : Option Nat} (hj : j < 10 + g') (h4 : g ≤ g') (hw31 : w < 2 ^ 31)
    (hwj : wd' j = w) (hwo : ∀ e, ¬ e = j → wd' e = wd e) (h2 : ∀ e, e < 10 + g' → ¬ e = j → e < 10 + g) (h3 : ∀ e, e < 10 + g → wd e = w → e = j) (h6 : j < 10 + g → wd j = w)
    (k1 : words' j = nI w) (k2 : ones' j = nI a) (k3 : counts' j = cd_cI b) (k4 : ∀ c, b = some c → twos' j = nI c)
    (o1 : ∀ e, ¬ e = j → words' e = words e) (o2 : ∀ e, ¬ e = j → ones' e = ones e) (o3 : ∀ e, ¬ e = j → counts' e = counts e) (o4 : ∀ e, ¬ e = j → twos' e = twos e) :
    cd_YE (cd_ue E w (some (a, b))) g' wd' words' counts' ones' twos' := by
  obtain ⟨c1, c2, c3, c4, c5⟩ := hE
  refine ⟨fun e he => ?_, fun c hc => ?_, fun e he => ?_, fun e e' he he' q => ?_, fun w' hw' => ?_⟩
  · by_cases p : e = j
    · rw [p, hwj]
      exact ⟨k1, hw31⟩
    · rw [hwo e p, o1 e p]
      exact c1 e (h2 e he p)
  · by_cases p : c = j
    · rw [p, hwj, ← h6 (by omega), ← p]
      exact c2 c hc
    · rw [hwo c p]
      exact c2 c hc
  · by_cases p : e = j
    · rw [p, hwj]
      exact ⟨a, b, cd_ue_s, k2, k3, k4⟩
    · obtain ⟨x, y, e1, e2, e3, e4⟩ := c3 e (h2 e he p)
      refine ⟨x, y, ?_, (o2 e p).trans e2, (o3 e p).trans e3, fun c q => (o4 e p).trans (e4 c q)⟩
      rw [hwo e p, cd_ue_n (fun q => p (h3 e (h2 e he p) q))]
      exact e1
  · by_cases p : e = j
    · by_cases p' : e' = j
      · omega
      · exfalso
        rw [p, hwj, hwo e' p'] at q
        exact p' (h3 e' (h2 e' he' p') q.symm)
    · by_cases p' : e' = j
      · exfalso
        rw [p', hwj, hwo e p] at q
        exact p (h3 e (h2 e he p) q)
      · rw [hwo e p, hwo e' p'] at q
        exact c4 e e' (h2 e he p) (h2 e' he' p') q
  · by_cases p : w' = w
    · exact ⟨j, hj, by rw [hwj, p]⟩
    · rw [cd_ue_n p] at hw'
      obtain ⟨e, he, q⟩ := c5 w' hw'
      have nj : ¬ e = j := fun z => p (by rw [← q, z, h6 (by omega)])
      exact ⟨e, by omega, by rw [hwo e nj]; exact q⟩
section YENTRY
variable {ln lt : Nat → Nat} {E : cd_E} {g bk sh top : Nat} {v : SY} {post : Int32 → SY → Prop}
theorem cd_yEntry' (D : cd_D ln lt E g bk sh top) (R : cd_RY ln lt E g bk sh top v) {x y : Int32} {w : Nat} {l : List Nat} (hx : cd_word x w l) {a : Nat} {b : Option Nat} (ha : cd_ok a) (hb : ∀ c, b = some c → cd_ok c) (hy : y = cd_oI b)
    (hA : (E w).isSome = true → ∀ v', cd_RY ln lt (cd_ue E w (some (a, b))) g bk sh top v' → post (nI g) v')
    (hB : E w = none → g < 6 → ∀ v', cd_RY ln lt (cd_ue E w (some (a, b))) (g + 1) bk sh top v' → post (nI (g + 1)) v')
    (hC : E w = none → g = 6 → ∀ v', cd_RY ln lt E g bk sh top v' → post (-3) v') : wpY_entry post v x (nI a) y := by
  obtain ⟨f_longer, f_backwards, f_shifted, f_top, f_many, a_sizes, a_letters, a_words, a_counts, a_ones, a_twos, a_first, a_second, a_third, a_fourth, a_keySizes, a_keys⟩ := v
  obtain ⟨wd, S⟩ := R
  obtain ⟨s1, s2, s3, s4, s5, s6, s7⟩ := S
  have d4 := D.2.2.2.1
  obtain ⟨w1, w2, w3, w4, w5⟩ := cd_word_f hx
  have hx1 := hx.1
  subst hx1
  -- the store at e
  have store : ∀ (e g' : Nat) (fl : Int32), e < 10 + g' → g' ≤ 6 → g ≤ g' → (∀ e', e' < 10 + g' → ¬ e' = e → e' < 10 + g) → (∀ e', e' < 10 + g → wd e' = w → e' = e) → (e < 10 + g → wd e = w) → fl = nI g' →
      (∀ v', cd_RY ln lt (cd_ue E w (some (a, b))) g' bk sh top v' → post (nI g') v') → wY_entry_82 post (nI w) (nI a) (cd_oI b) (nI e) fl f_backwards f_shifted f_top f_many a_sizes a_letters a_words a_counts a_ones a_twos a_first a_second a_third a_fourth a_keySizes a_keys := by
    intro e g' fl he hg' hgg q2 q3 q6 hfl hp
    have ec : (nI e).toNatClampNeg = e := nI_clamp (by omega)
    have hv : vp_in (nI e) 16 := vp_in_nI (by omega) (by omega)
    have go : ∀ t : Int32, t = cd_cI b → wY_entry_106 post (nI a) (cd_oI b) (nI e) t (nI e) fl f_backwards f_shifted f_top f_many a_sizes a_letters (upd a_words e (nI w)) a_counts a_ones a_twos a_first a_second a_third a_fourth a_keySizes a_keys := by
      intro t ht
      unfold wY_entry_106
      refine And.intro hv (nm_r (e' := upd a_counts e t) (by rw [ec]) (And.intro hv (nm_r (e' := upd a_ones e (nI a)) (by rw [ec]) (And.intro hv (nm_r (e' := upd a_twos e (cd_oI b)) (by rw [ec]) ?_)))))
      have z := hp (nI g', f_backwards, f_shifted, f_top, f_many, a_sizes, a_letters, upd a_words e (nI w), upd a_counts e t, upd a_ones e (nI a), upd a_twos e (cd_oI b), a_first, a_second, a_third, a_fourth, a_keySizes, a_keys)
        ⟨cd_un wd e w, rfl, s2, s3, s4, s5, s6, cd_YE_set s7 he hgg (by omega) cd_un_s (fun e' p => cd_un_n p) q2 q3 q6 pk_us pk_us (by rw [pk_us, ht]) (fun c q => by rw [pk_us, q]; rfl) (fun e' p => pk_un p) (fun e' p => pk_un p) (fun e' p => pk_un p) (fun e' p => pk_un p)⟩
      rw [hfl]
      exact z
    unfold wY_entry_82
    refine And.intro hv (nm_r (e' := upd a_words e (nI w)) (by rw [ec]) ?_)
    cases b with
    | none => exact br_t rfl (go 1 rfl)
    | some c =>
      have hc := hb c rfl
      exact br_f (fun z => nI_pos (n := c) (by have := hc.1; omega) (by rw [show nI c = -1 from z]; decide)) (go 2 rfl)
  have main : wY_entry_34 post (nI w) (nI a) (cd_oI b) f_longer f_backwards f_shifted f_top f_many a_sizes a_letters a_words a_counts a_ones a_twos a_first a_second a_third a_fourth a_keySizes a_keys := by
    unfold wY_entry_34
    refine cd_yEntryOf d4 s1 s7 (by omega) (fun q => ?_) (fun e he q => ?_)
    · refine br_f (by decide) ?_
      by_cases c6 : g = 6
      · exact br_t (by rw [s1, c6]; rfl) (hC q c6 _ ⟨wd, s1, s2, s3, s4, s5, s6, s7⟩)
      · refine br_f (fun z => c6 (by rw [s1] at z; exact (nI_eq (b := 6) (by omega) (by omega)).mp z)) ?_
        unfold wY_entry_58
        refine br_f (by decide) (nm_r (e' := nI (10 + g)) (by rw [s1, cd_p10]) (nm_r (e' := nI (g + 1)) (by rw [s1, nI_1]) ?_))
        refine store (10 + g) (g + 1) _ (by omega) (by omega) (by omega) (fun e' p1 p2 => by omega) (fun e' p1 p2 => ?_) (fun p => by omega) rfl (hB q (by omega))
        exfalso
        obtain ⟨x, y, e1, -⟩ := s7.2.2.1 e' p1
        rw [p2, q] at e1
        cases e1
    · have he' : (E w).isSome = true := by
        obtain ⟨x, y, e1, -⟩ := s7.2.2.1 e he
        rw [← q, e1]
        rfl
      refine br_t (nI_pos' (by omega)) ?_
      unfold wY_entry_58
      refine br_t (nI_pos' (by omega)) ?_
      exact store e g _ he d4 (Nat.le_refl g) (fun e' p1 _ => p1) (fun e' p1 p2 => s7.2.2.2.1 e' e p1 he (by rw [p2, q])) (fun _ => q) s1 (hA he')
  unfold wpY_entry
  refine cd_yLen1 hx (br_f (nI_ne0 (by omega) (by omega)) (cd_yEl1 ha (br_f cd_10 ?_)))
  rw [hy]
  cases b with
  | none =>
    refine cd_yEl0 ?_ (br_t rfl (br_t rfl main))
    rintro ⟨e, h1, h2⟩
    exact nI_pos (n := e) (by have := h1.1; omega) (by rw [show nI e = -1 from h2.symm]; decide)
  | some c => exact cd_yEl1 (hb c rfl) (br_f cd_10 main)
theorem cd_yEntry_w (R : cd_RY ln lt E g bk sh top v) {x y z : Int32} (hx : cd_nowd x) (h : post (-1) v) : wpY_entry post v x y z := by
  obtain ⟨f_longer, f_backwards, f_shifted, f_top, f_many, a_sizes, a_letters, a_words, a_counts, a_ones, a_twos, a_first, a_second, a_third, a_fourth, a_keySizes, a_keys⟩ := v
  unfold wpY_entry
  exact cd_yLen0 hx (br_t rfl h)
theorem cd_yEntry_e {x y z : Int32} {w : Nat} {l : List Nat} (hx : cd_word x w l) (he : cd_noel y ∨ (cd_noel z ∧ ¬ z = -1)) (h : post (-2) v) : wpY_entry post v x y z := by
  obtain ⟨f_longer, f_backwards, f_shifted, f_top, f_many, a_sizes, a_letters, a_words, a_counts, a_ones, a_twos, a_first, a_second, a_third, a_fourth, a_keySizes, a_keys⟩ := v
  obtain ⟨w1, w2, w3, w4, w5⟩ := cd_word_f hx
  unfold wpY_entry
  refine cd_yLen1 hx (br_f (nI_ne0 (by omega) (by omega)) ?_)
  rcases Classical.em (∃ e, cd_ok e ∧ y = nI e) with ⟨e, h1, rfl⟩ | c
  · rcases he with he | ⟨he, hz⟩
    · exact absurd ⟨e, h1, rfl⟩ he
    · exact cd_yEl1 h1 (br_f cd_10 (cd_yEl0 he (br_t rfl (br_f hz h))))
  · exact cd_yEl0 c (br_t rfl h)
end YENTRY
end
section
/-! the reference: forget -/
def cd_sd (f : Nat → Int32) (e k : Nat) : Nat → Int32 := fun j => if e ≤ j ∧ j < k then f (j + 1) else f j
theorem cd_sd_0 (f : Nat → Int32) (e : Nat) : cd_sd f e e = f := by
  funext j
  unfold cd_sd
  rw [if_neg (by omega)]
theorem cd_sd_n (f : Nat → Int32) {e k : Nat} : cd_sd f e k (k + 1) = f (k + 1) := by
  unfold cd_sd
  rw [if_neg (by omega)]
theorem cd_sd_s (f : Nat → Int32) {e k : Nat} (h : e ≤ k) : upd (cd_sd f e k) k (f (k + 1)) = cd_sd f e (k + 1) := by
  funext j
  unfold cd_sd
  by_cases c : j = k
  · rw [c, pk_us, if_pos (by omega)]
  · rw [pk_un c]
    by_cases d : e ≤ j ∧ j < k
    · rw [if_pos d, if_pos (by omega)]
    · rw [if_neg d, if_neg (by omega)]
theorem cd_YE_del {E : cd_E} {m e w : Nat} {wd : Nat → Nat} {words counts ones twos : Nat → Int32} (hE : cd_YE E (m + 1) wd words counts ones twos) (he : e < 10 + (m + 1)) (he10 : 10 ≤ e) (hw : wd e = w) (h5 : ∀ c, c < 10 → ¬ c + 1 = w) :
    cd_YE (cd_ue E w none) m (fun j => wd (if e ≤ j then j + 1 else j)) (cd_sd words e (10 + m)) (cd_sd counts e (10 + m)) (cd_sd ones e (10 + m)) (cd_sd twos e (10 + m)) := by
  obtain ⟨c1, c2, c3, c4, c5⟩ := hE
  have sd : ∀ (f : Nat → Int32) (j : Nat), j < 10 + m → cd_sd f e (10 + m) j = f (if e ≤ j then j + 1 else j) := by
    intro f j hj
    unfold cd_sd
    by_cases c : e ≤ j
    · rw [if_pos ⟨c, hj⟩, if_pos c]
    · rw [if_neg (by omega), if_neg c]
  have pi : ∀ j, j < 10 + m → (if e ≤ j then j + 1 else j) < 10 + (m + 1) ∧ ¬ (if e ≤ j then j + 1 else j) = e := by
    intro j hj
    by_cases c : e ≤ j
    · rw [if_pos c]
      omega
    · rw [if_neg c]
      omega
  refine ⟨fun j hj => ?_, fun c hc => ?_, fun j hj => ?_, fun j j' hj hj' q => ?_, fun w' hw' => ?_⟩
  · rw [sd _ j hj]
    exact c1 _ (pi j hj).1
  · show wd (if e ≤ c then c + 1 else c) = c + 1
    rw [if_neg (by omega)]
    exact c2 c hc
  · obtain ⟨p1, p2⟩ := pi j hj
    obtain ⟨x, y, e1, e2, e3, e4⟩ := c3 _ p1
    refine ⟨x, y, ?_, (sd _ j hj).trans e2, (sd _ j hj).trans e3, fun c z => (sd _ j hj).trans (e4 c z)⟩
    rw [cd_ue_n (fun z => p2 (c4 _ _ p1 he (by rw [hw]; exact z)))]
    exact e1
  · have z := c4 _ _ (pi j hj).1 (pi j' hj').1 q
    by_cases c : e ≤ j
    · by_cases c' : e ≤ j'
      · rw [if_pos c, if_pos c'] at z
        omega
      · rw [if_pos c, if_neg c'] at z
        omega
    · by_cases c' : e ≤ j'
      · rw [if_neg c, if_pos c'] at z
        omega
      · rw [if_neg c, if_neg c'] at z
        exact z
  · by_cases q : w' = w
    · rw [q, cd_ue_s] at hw'
      cases hw'
    · rw [cd_ue_n q] at hw'
      obtain ⟨i, hi, z⟩ := c5 w' hw'
      have ni : ¬ i = e := fun y => q (by rw [← z, y, hw])
      by_cases c : i < e
      · refine ⟨i, by omega, ?_⟩
        show wd (if e ≤ i then i + 1 else i) = w'
        rw [if_neg (by omega)]
        exact z
      · refine ⟨i - 1, by omega, ?_⟩
        show wd (if e ≤ i - 1 then i - 1 + 1 else i - 1) = w'
        rw [if_pos (by omega), show i - 1 + 1 = i by omega]
        exact z
section YFORGET
variable {f_longer f_backwards f_shifted f_top f_many : Int32} {a_sizes a_letters a_words a_counts a_ones a_twos a_first a_second a_third a_fourth a_keySizes a_keys : Nat → Int32}
theorem cd_yFo_36 {post : Int32 → SY → Prop} {m e : Nat} (hm : m < 6) (hfl : f_longer = nI m)
    (h : post (nI m) (f_longer, f_backwards, f_shifted, f_top, f_many, a_sizes, a_letters, cd_sd a_words e (10 + m), cd_sd a_counts e (10 + m), cd_sd a_ones e (10 + m), cd_sd a_twos e (10 + m), a_first, a_second, a_third, a_fourth, a_keySizes, a_keys)) :
    ∀ d k n, k + d = 10 + m → e ≤ k → d < n → wY_forget_36 post f_longer f_backwards f_shifted f_top f_many n (nI k) a_sizes a_letters (cd_sd a_words e k) (cd_sd a_counts e k) (cd_sd a_ones e k) (cd_sd a_twos e k) a_first a_second a_third a_fourth a_keySizes a_keys := by
  subst hfl
  intro d
  induction d with
  | zero =>
    intro k n hk he hn
    obtain ⟨n, rfl⟩ : ∃ m, n = m + 1 := ⟨n - 1, by omega⟩
    have ek : k = 10 + m := by omega
    subst ek
    exact br_t (by rw [cd_p10]; exact nI_le (by omega) (by omega)) h
  | succ d ih =>
    intro k n hk he hn
    obtain ⟨n, rfl⟩ : ∃ m, n = m + 1 := ⟨n - 1, by omega⟩
    have ec : (nI k).toNatClampNeg = k := nI_clamp (by omega)
    have es : (nI k + 1).toNatClampNeg = k + 1 := by rw [nI_1]; exact nI_clamp (by omega)
    have v0 : vp_in (nI k) 16 := vp_in_nI (by omega) (by omega)
    have v1 : vp_in (nI k + 1) 16 := by rw [nI_1]; exact vp_in_nI (by omega) (by omega)
    refine br_f (by rw [cd_p10]; exact nI_ge (by omega) (by omega)) ?_
    refine And.intro v1 (And.intro v0 (nm_r (e' := cd_sd a_words e (k + 1)) (by rw [ec, es, cd_sd_n, cd_sd_s _ he]) ?_))
    refine And.intro v1 (And.intro v0 (nm_r (e' := cd_sd a_counts e (k + 1)) (by rw [ec, es, cd_sd_n, cd_sd_s _ he]) ?_))
    refine And.intro v1 (And.intro v0 (nm_r (e' := cd_sd a_ones e (k + 1)) (by rw [ec, es, cd_sd_n, cd_sd_s _ he]) ?_))
    refine And.intro v1 (And.intro v0 (nm_r (e' := cd_sd a_twos e (k + 1)) (by rw [ec, es, cd_sd_n, cd_sd_s _ he]) (nm_r (nI_1 k) ?_)))
    exact ih (k + 1) n (by omega) (by omega) (by omega)
end YFORGET
section YFORGET2
variable {ln lt : Nat → Nat} {E : cd_E} {g bk sh top : Nat} {v : SY} {post : Int32 → SY → Prop}
theorem cd_yForget (D : cd_D ln lt E g bk sh top) (R : cd_RY ln lt E g bk sh top v) {x : Int32} {w : Nat} {l : List Nat} (hx : cd_word x w l) (h2 : 2 ≤ l.length)
    (hA : (E w).isSome = true → 1 ≤ g → ∀ v', cd_RY ln lt (cd_ue E w none) (g - 1) bk sh top v' → post (nI (g - 1)) v')
    (hB : E w = none → ∀ v', cd_RY ln lt E g bk sh top v' → post (-2) v') : wpY_forget post v x := by
  obtain ⟨f_longer, f_backwards, f_shifted, f_top, f_many, a_sizes, a_letters, a_words, a_counts, a_ones, a_twos, a_first, a_second, a_third, a_fourth, a_keySizes, a_keys⟩ := v
  obtain ⟨wd, S⟩ := R
  obtain ⟨s1, s2, s3, s4, s5, s6, s7⟩ := S
  have d4 := D.2.2.2.1
  obtain ⟨w1, w2, w3, w4, w5⟩ := cd_word_f hx
  have h5 : ∀ c, c < 10 → ¬ c + 1 = w := by
    rw [← w1]
    exact cd_vl_long (by omega) w4
  unfold wpY_forget
  refine cd_yLen1 hx (br_t (nI_le (a := 2) h2 (by omega)) ?_)
  rw [hx.1]
  refine cd_yEntryOf d4 s1 s7 (by omega) (fun q => ?_) (fun e he q => ?_)
  · exact br_f (by decide) (hB q _ ⟨wd, s1, s2, s3, s4, s5, s6, s7⟩)
  · have he' : (E w).isSome = true := by
      obtain ⟨x, y, e1, -⟩ := s7.2.2.1 e he
      rw [← q, e1]
      rfl
    have he10 : 10 ≤ e := by
      rcases Nat.lt_or_ge e 10 with c | c
      · exfalso
        exact h5 e c (by rw [← q]; exact (s7.2.1 e c).symm)
      · exact c
    obtain ⟨m, rfl⟩ : ∃ m, g = m + 1 := ⟨g - 1, by omega⟩
    simp only [Nat.add_sub_cancel] at hA
    refine br_t (nI_pos' (by omega)) (nm_r (e' := nI m) (by rw [s1]; exact nI_pred m) (Exists.intro (10 + m - e + 1) ?_))
    have z := cd_yFo_36 (post := post) (f_longer := nI m) (f_backwards := f_backwards) (f_shifted := f_shifted) (f_top := f_top) (f_many := f_many) (a_sizes := a_sizes) (a_letters := a_letters) (a_words := a_words) (a_counts := a_counts) (a_ones := a_ones) (a_twos := a_twos) (a_first := a_first) (a_second := a_second) (a_third := a_third) (a_fourth := a_fourth) (a_keySizes := a_keySizes) (a_keys := a_keys) (e := e) (by omega) rfl
      (hA he' (by omega) _ ⟨_, rfl, s2, s3, s4, s5, s6, cd_YE_del s7 he he10 q h5⟩) (10 + m - e) e (10 + m - e + 1) (by omega) (Nat.le_refl e) (by omega)
    rw [cd_sd_0, cd_sd_0, cd_sd_0, cd_sd_0] at z
    exact z
theorem cd_yForget_w {x : Int32} (hx : cd_nowd x ∨ ∃ w l, cd_word x w l ∧ ¬ 2 ≤ l.length) (h : post (-1) v) : wpY_forget post v x := by
  obtain ⟨f_longer, f_backwards, f_shifted, f_top, f_many, a_sizes, a_letters, a_words, a_counts, a_ones, a_twos, a_first, a_second, a_third, a_fourth, a_keySizes, a_keys⟩ := v
  unfold wpY_forget
  rcases hx with hx | ⟨w, l, hx, h2⟩
  · exact cd_yLen0 hx (br_f (by decide) h)
  · exact cd_yLen1 hx (br_f (nI_ge (b := 2) (by omega) (by omega)) h)
end YFORGET2
end
section
/-! moving letters: pure; the component's tailor -/
def cd_bh (x fr L : Nat) : Bool := if L = 1 then decide (fr % 32 < x % 32) else if L = 2 then decide (x % 32 = fr % 32 ∧ fr / 32 % 8 < x / 32 % 8) else decide (x % 32 = fr % 32 ∧ x / 32 % 8 = fr / 32 % 8 ∧ fr / 256 < x / 256)
def cd_mo (L : Nat) : Nat := if L = 1 then 30 else if L = 2 then 7 else 3
def cd_uu (L : Nat) : Nat := if L = 1 then 1 else if L = 2 then 32 else 256
def cd_gr (fr L x : Nat) : Nat := if cd_bh x fr L = true then x + cd_uu L else x
def cd_hv (fr L x : Nat) : Prop := cd_bh x fr L = true ∧ cd_mo L ≤ cd_wt x L
def cd_nw (fr L : Nat) : Nat := if L = 1 then fr % 32 + 1 + 32 + 256 else if L = 2 then fr % 32 + 32 * (fr / 32 % 8 + 1) + 256 else fr + 256
def cd_full (E : cd_E) (fr L : Nat) : Prop := cd_mo L ≤ cd_wt fr L ∨ ∃ w x y, E w = some (x, y) ∧ (cd_hv fr L x ∨ ∃ c, y = some c ∧ cd_hv fr L c)
def cd_mp (E : cd_E) (fr L : Nat) : cd_E := fun w => (E w).map (fun p => (cd_gr fr L p.1, p.2.map (cd_gr fr L)))
theorem cd_mp_s {E : cd_E} {fr L w x : Nat} {y : Option Nat} (h : E w = some (x, y)) : cd_mp E fr L w = some (cd_gr fr L x, y.map (cd_gr fr L)) := by
  unfold cd_mp
  rw [h]
  rfl
theorem cd_mp_n {E : cd_E} {fr L w : Nat} (h : E w = none) : cd_mp E fr L w = none := by
  unfold cd_mp
  rw [h]
  rfl
theorem cd_mp_some {E : cd_E} {fr L w : Nat} : (cd_mp E fr L w).isSome = (E w).isSome := by
  cases h : E w with
  | none => rw [cd_mp_n h]
  | some p =>
    obtain ⟨x, y⟩ := p
    rw [cd_mp_s h]
    rfl
theorem cd_wt_mo {x L : Nat} (hx : cd_ok x) (h1 : 1 ≤ L) (h3 : L ≤ 3) : cd_wt x L ≤ cd_mo L := by
  obtain ⟨o1, o2⟩ := hx
  unfold cd_wt cd_mo
  by_cases c1 : L = 1
  · rw [if_pos c1, if_pos c1]
    exact o2
  · rw [if_neg c1, if_neg c1]
    by_cases c2 : L = 2
    · rw [if_pos c2, if_pos c2]
      omega
    · rw [if_neg c2, if_neg c2]
      omega
theorem cd_gr_ok {x fr L : Nat} (hx : cd_ok x) (h1 : 1 ≤ L) (h3 : L ≤ 3) (hn : ¬ cd_hv fr L x) : cd_ok (cd_gr fr L x) := by
  obtain ⟨o1, o2⟩ := hx
  unfold cd_gr
  by_cases c : cd_bh x fr L = true
  · rw [if_pos c]
    have hw : ¬ cd_mo L ≤ cd_wt x L := fun q => hn ⟨c, q⟩
    unfold cd_mo cd_wt at hw
    unfold cd_uu cd_ok
    by_cases c1 : L = 1
    · rw [if_pos c1, if_pos c1] at hw
      rw [if_pos c1]
      omega
    · rw [if_neg c1, if_neg c1] at hw
      rw [if_neg c1]
      by_cases c2 : L = 2
      · rw [if_pos c2, if_pos c2] at hw
        rw [if_pos c2]
        omega
      · rw [if_neg c2, if_neg c2] at hw
        rw [if_neg c2]
        omega
  · rw [if_neg c]
    exact ⟨o1, o2⟩
theorem cd_nw_ok {fr L : Nat} (hx : cd_ok fr) (h1 : 1 ≤ L) (h3 : L ≤ 3) (hn : ¬ cd_mo L ≤ cd_wt fr L) : cd_ok (cd_nw fr L) := by
  obtain ⟨o1, o2⟩ := hx
  unfold cd_mo cd_wt at hn
  unfold cd_nw cd_ok
  by_cases c1 : L = 1
  · rw [if_pos c1, if_pos c1] at hn
    rw [if_pos c1]
    omega
  · rw [if_neg c1, if_neg c1] at hn
    rw [if_neg c1]
    by_cases c2 : L = 2
    · rw [if_pos c2, if_pos c2] at hn
      rw [if_pos c2]
      omega
    · rw [if_neg c2, if_neg c2] at hn
      rw [if_neg c2]
      omega
/-- all entries after a move -/
def cd_te (E : cd_E) (fr L b : Nat) : cd_E := cd_ue (cd_mp E fr L) (b + 1) (some (cd_nw fr L, none))
theorem cd_te_ok {E : cd_E} {fr L b : Nat} (h : cd_Ok E) (hf : cd_ok fr) (h1 : 1 ≤ L) (h3 : L ≤ 3) (hn : ¬ cd_full E fr L) : cd_Ok (cd_te E fr L b) := by
  have hm : cd_Ok (cd_mp E fr L) := by
    refine ⟨fun w x y e => ?_, fun c hc => ?_⟩
    · cases q : E w with
      | none =>
        rw [cd_mp_n q] at e
        cases e
      | some p =>
        obtain ⟨x', y'⟩ := p
        rw [cd_mp_s q] at e
        have e1 : cd_gr fr L x' = x := (Prod.mk.inj (Option.some.inj e)).1
        have e2 : y'.map (cd_gr fr L) = y := (Prod.mk.inj (Option.some.inj e)).2
        obtain ⟨o1, o2⟩ := h.1 w x' y' q
        refine ⟨?_, fun c hc => ?_⟩
        · rw [← e1]
          exact cd_gr_ok o1 h1 h3 (fun z => hn (Or.inr ⟨w, x', y', q, Or.inl z⟩))
        · cases y' with
          | none =>
            rw [hc] at e2
            cases e2
          | some c' =>
            rw [hc] at e2
            have e3 : cd_gr fr L c' = c := Option.some.inj e2
            rw [← e3]
            exact cd_gr_ok (o2 c' rfl) h1 h3 (fun z => hn (Or.inr ⟨w, x', some c', q, Or.inr ⟨c', rfl, z⟩⟩))
    · rw [cd_mp_some]
      exact h.2 c hc
  exact cd_Ok_ue hm (b + 1) (cd_nw_ok hf h1 h3 (fun z => hn (Or.inl z))) (fun c q => by cases q)
/-- a cell read as an element or none -/
def cd_dc (x : Int32) : Option Nat := if x < 0 then none else some x.toNatClampNeg
theorem cd_dc_n {a : Nat} (h : a < 2 ^ 31) : cd_dc (nI a) = some a := by
  unfold cd_dc
  rw [if_neg (nI_pos h), nI_clamp h]
theorem cd_dc_o {b : Option Nat} (h : ∀ c, b = some c → c < 2 ^ 31) : cd_dc (cd_oI b) = b := by
  cases b with
  | none => exact if_pos (by decide)
  | some c => exact cd_dc_n (h c rfl)
theorem cd_cl {E : cd_E} {g : Nat} {gL gT : Nat → Nat} {cells : Nat → Int32} (hok : cd_Ok E) (hC : cd_XC E g gL gT cells) :
    ∀ k, k < 20 + 2 * g → cells k = cd_oI (cd_dc (cells k)) ∧ ∀ x, cd_dc (cells k) = some x → cd_ok x ∧ ∃ w a b, E w = some (a, b) ∧ (x = a ∨ b = some x) := by
  have one : ∀ w a b, E w = some (a, b) → nI a = cd_oI (cd_dc (nI a)) ∧ ∀ x, cd_dc (nI a) = some x → cd_ok x ∧ ∃ w a b, E w = some (a, b) ∧ (x = a ∨ b = some x) := by
    intro w a b e
    have o := (hok.1 w a b e).1
    rw [cd_dc_n (by have := o.1; omega)]
    refine ⟨rfl, fun x q => ?_⟩
    cases q
    exact ⟨o, w, a, b, e, Or.inl rfl⟩
  have two : ∀ w a b, E w = some (a, b) → cd_oI b = cd_oI (cd_dc (cd_oI b)) ∧ ∀ x, cd_dc (cd_oI b) = some x → cd_ok x ∧ ∃ w a b, E w = some (a, b) ∧ (x = a ∨ b = some x) := by
    intro w a b e
    have o := (hok.1 w a b e).2
    rw [cd_dc_o (fun c q => by have := (o c q).1; omega)]
    exact ⟨rfl, fun x q => ⟨o x q, w, a, b, e, Or.inr q⟩⟩
  intro k hk
  rcases Nat.lt_or_ge k 20 with c | c
  · obtain ⟨a, b, e1, e2, e3⟩ := hC.2.1 (k / 2) (by omega)
    rcases Nat.mod_two_eq_zero_or_one k with p | p
    · rw [show 2 * (k / 2) = k by omega] at e2
      rw [e2]
      exact one _ a b e1
    · rw [show 2 * (k / 2) + 1 = k by omega] at e3
      rw [e3]
      exact two _ a b e1
  · obtain ⟨a, b, e1, e2, e3⟩ := hC.1 ((k - 20) / 2) (by omega)
    rcases Nat.mod_two_eq_zero_or_one k with p | p
    · rw [show 20 + 2 * ((k - 20) / 2) = k by omega] at e2
      rw [e2]
      exact one _ a b e1
    · rw [show 20 + 2 * ((k - 20) / 2) + 1 = k by omega] at e3
      rw [e3]
      exact two _ a b e1
theorem cd_cl_r {E : cd_E} {g : Nat} {gL gT : Nat → Nat} {cells : Nat → Int32} (hok : cd_Ok E) (hC : cd_XC E g gL gT cells) {w a : Nat} {b : Option Nat} (h : E w = some (a, b)) :
    (∃ k, k < 20 + 2 * g ∧ cd_dc (cells k) = some a) ∧ ∀ c, b = some c → ∃ k, k < 20 + 2 * g ∧ cd_dc (cells k) = some c := by
  have o := hok.1 w a b h
  have go : ∀ z, z + 1 < 20 + 2 * g → cells z = nI a → cells (z + 1) = cd_oI b → (∃ k, k < 20 + 2 * g ∧ cd_dc (cells k) = some a) ∧ ∀ c, b = some c → ∃ k, k < 20 + 2 * g ∧ cd_dc (cells k) = some c := by
    intro z hz e1 e2
    refine ⟨⟨z, by omega, ?_⟩, fun c q => ⟨z + 1, hz, ?_⟩⟩
    · rw [e1]
      exact cd_dc_n (by have := o.1.1; omega)
    · rw [e2, q]
      exact cd_dc_n (by have := (o.2 c q).1; omega)
  rcases hC.2.2.2 w (by rw [h]; rfl) with ⟨c, hc, q⟩ | ⟨i, hi, q⟩
  · obtain ⟨x, y, e1, e2, e3⟩ := hC.2.1 c hc
    rw [← q, h] at e1
    cases e1
    exact go _ (by omega) e2 e3
  · obtain ⟨x, y, e1, e2, e3⟩ := hC.1 i hi
    rw [← q, h] at e1
    cases e1
    exact go _ (by omega) e2 e3
theorem cd_full_x {E : cd_E} {g fr L : Nat} {gL gT : Nat → Nat} {cells : Nat → Int32} (hok : cd_Ok E) (hC : cd_XC E g gL gT cells) :
    cd_full E fr L ↔ (cd_mo L ≤ cd_wt fr L ∨ ∃ k, k < 20 + 2 * g ∧ ∃ x, cd_dc (cells k) = some x ∧ cd_hv fr L x) := by
  constructor
  · rintro (h | ⟨w, x, y, e, h⟩)
    · exact Or.inl h
    · obtain ⟨⟨k, k1, k2⟩, r⟩ := cd_cl_r hok hC e
      rcases h with h | ⟨c, q, h⟩
      · exact Or.inr ⟨k, k1, x, k2, h⟩
      · obtain ⟨k', k3, k4⟩ := r c q
        exact Or.inr ⟨k', k3, c, k4, h⟩
  · rintro (h | ⟨k, k1, x, k2, h⟩)
    · exact Or.inl h
    · obtain ⟨-, w, a, b, e, q⟩ := (cd_cl hok hC k k1).2 x k2
      rcases q with q | q
      · exact Or.inr ⟨w, a, b, e, Or.inl (by rw [← q]; exact h)⟩
      · exact Or.inr ⟨w, a, b, e, Or.inr ⟨x, q, h⟩⟩
theorem cd_XC_te {E : cd_E} {g fr L b : Nat} {gL gT : Nat → Nat} {cells cells' : Nat → Int32} (hok : cd_Ok E) (hC : cd_XC E g gL gT cells) (hb : b < 10) (hn : ∀ i, i < g → ¬ b + 1 = cd_nm gL gT i)
    (hc : ∀ k, k < 20 + 2 * g → cells' k = cd_oI ((cd_dc (cells k)).map (cd_gr fr L))) : cd_XC (cd_te E fr L b) g gL gT (upd (upd cells' (2 * b) (nI (cd_nw fr L))) (2 * b + 1) (-1)) := by
  have hm : cd_XC (cd_mp E fr L) g gL gT cells' := by
    obtain ⟨c1, c2, c3, c4⟩ := hC
    refine ⟨fun i hi => ?_, fun k hk => ?_, c3, fun w hw => ?_⟩
    · obtain ⟨x, y, e1, e2, e3⟩ := c1 i hi
      have o := hok.1 _ x y e1
      refine ⟨_, _, cd_mp_s e1, ?_, ?_⟩
      · rw [hc _ (by omega), e2, cd_dc_n (by have := o.1.1; omega)]
        rfl
      · rw [hc _ (by omega), e3, cd_dc_o (fun c q => by have := (o.2 c q).1; omega)]
    · obtain ⟨x, y, e1, e2, e3⟩ := c2 k hk
      have o := hok.1 _ x y e1
      refine ⟨_, _, cd_mp_s e1, ?_, ?_⟩
      · rw [hc _ (by omega), e2, cd_dc_n (by have := o.1.1; omega)]
        rfl
      · rw [hc _ (by omega), e3, cd_dc_o (fun c q => by have := (o.2 c q).1; omega)]
    · rw [cd_mp_some] at hw
      exact c4 w hw
  exact cd_XC_let (b := none) hm hb hn
theorem cd_xGrows {post : Int32 → Prop} {x fr L : Nat} (hx : x < 1024) (hf : fr < 1024) (h1 : 1 ≤ L) (h3 : L ≤ 3) (h : post (cd_bI (cd_bh x fr L))) : wpX_grows post (nI x) (nI fr) (nI L) := by
  unfold wpX_grows wpX_firstOf wpX_secondOf wpX_thirdOf
  rw [cd_e1 hx, cd_e1 hf, cd_e2 hx, cd_e2 hf, cd_e3 hx, cd_e3 hf]
  unfold cd_bh at h
  refine br_t (nI_pos' (by omega)) ?_
  by_cases c1 : L = 1
  · rw [if_pos c1] at h
    refine br_t (by rw [c1]; rfl) ?_
    by_cases c : x % 32 ≤ fr % 32
    · rw [decide_eq_false (by omega)] at h
      exact br_t (nI_le c (by omega)) h
    · rw [decide_eq_true (by omega)] at h
      exact br_f (nI_ge (by omega) (by omega)) h
  · rw [if_neg c1] at h
    refine br_f (fun z => c1 ((nI_eq (b := 1) (by omega) (by omega)).mp z)) ?_
    by_cases ca : x % 32 = fr % 32
    · refine br_t (congrArg nI ca) ?_
      by_cases c2 : L = 2
      · rw [if_pos c2] at h
        refine br_t (by rw [c2]; rfl) ?_
        by_cases c : x / 32 % 8 ≤ fr / 32 % 8
        · rw [decide_eq_false (by omega)] at h
          exact br_t (nI_le c (by omega)) h
        · rw [decide_eq_true (by omega)] at h
          exact br_f (nI_ge (by omega) (by omega)) h
      · rw [if_neg c2] at h
        refine br_f (fun z => c2 ((nI_eq (b := 2) (by omega) (by omega)).mp z)) ?_
        by_cases cb : x / 32 % 8 = fr / 32 % 8
        · refine br_t (congrArg nI cb) ?_
          by_cases c : x / 256 ≤ fr / 256
          · rw [decide_eq_false (by omega)] at h
            exact br_t (nI_le c (by omega)) h
          · rw [decide_eq_true ⟨ca, cb, by omega⟩] at h
            exact br_f (nI_ge (by omega) (by omega)) h
        · rw [decide_eq_false (fun q => cb q.2.1)] at h
          exact br_f (fun z => cb ((nI_eq (by omega) (by omega)).mp z)) h
    · refine br_f (fun z => ca ((nI_eq (by omega) (by omega)).mp z)) ?_
      by_cases c2 : L = 2
      · rw [if_pos c2, decide_eq_false (fun q => ca q.1)] at h
        exact h
      · rw [if_neg c2, decide_eq_false (fun q => ca q.1)] at h
        exact h
theorem cd_xGrows_n {post : Int32 → Prop} {x y : Int32} (h : post 0) : wpX_grows post (-1) x y := br_f (by decide) h
theorem cd_xWeightOf {post : Int32 → Prop} {e L : Nat} (he : e < 1024) (h1 : 1 ≤ L) (h3 : L ≤ 3) (h : post (nI (cd_wt e L))) : wpX_weightOf post (nI e) (nI L) := by
  unfold wpX_weightOf wpX_firstOf wpX_secondOf wpX_thirdOf
  rw [cd_e1 he, cd_e2 he, cd_e3 he]
  unfold cd_wt at h
  by_cases c1 : L = 1
  · rw [if_pos c1] at h
    exact br_t (by rw [c1]; rfl) h
  · rw [if_neg c1] at h
    refine br_f (fun z => c1 ((nI_eq (b := 1) (by omega) (by omega)).mp z)) ?_
    by_cases c2 : L = 2
    · rw [if_pos c2] at h
      exact br_t (by rw [c2]; rfl) h
    · rw [if_neg c2] at h
      exact br_f (fun z => c2 ((nI_eq (b := 2) (by omega) (by omega)).mp z)) h
theorem cd_xMost {post : Int32 → Prop} {L : Nat} (h1 : 1 ≤ L) (h3 : L ≤ 3) (h : post (nI (cd_mo L))) : wpX_mostAt post (nI L) := by
  unfold cd_mo at h
  by_cases c1 : L = 1
  · rw [if_pos c1] at h
    exact br_t (by rw [c1]; rfl) h
  · rw [if_neg c1] at h
    refine br_f (fun z => c1 ((nI_eq (b := 1) (by omega) (by omega)).mp z)) ?_
    by_cases c2 : L = 2
    · rw [if_pos c2] at h
      exact br_t (by rw [c2]; rfl) h
    · rw [if_neg c2] at h
      exact br_f (fun z => c2 ((nI_eq (b := 2) (by omega) (by omega)).mp z)) h
theorem cd_xUnit {post : Int32 → Prop} {L : Nat} (h1 : 1 ≤ L) (h3 : L ≤ 3) (h : post (nI (cd_uu L))) : wpX_unitAt post (nI L) := by
  unfold cd_uu at h
  by_cases c1 : L = 1
  · rw [if_pos c1] at h
    exact br_t (by rw [c1]; rfl) h
  · rw [if_neg c1] at h
    refine br_f (fun z => c1 ((nI_eq (b := 1) (by omega) (by omega)).mp z)) ?_
    by_cases c2 : L = 2
    · rw [if_pos c2] at h
      exact br_t (by rw [c2]; rfl) h
    · rw [if_neg c2] at h
      exact br_f (fun z => c2 ((nI_eq (b := 2) (by omega) (by omega)).mp z)) h
theorem cd_xNew {post : Int32 → Prop} {fr L : Nat} (hf : fr < 1024) (h1 : 1 ≤ L) (h3 : L ≤ 3) (h : post (nI (cd_nw fr L))) : wpX_newElement post (nI fr) (nI L) := by
  unfold wpX_newElement wpX_firstOf wpX_secondOf wpX_elementOf
  rw [cd_e1 hf, cd_e2 hf]
  unfold cd_nw at h
  by_cases c1 : L = 1
  · rw [if_pos c1] at h
    refine br_t (by rw [c1]; rfl) ?_
    have e : ((nI (fr % 32) + 1) + (32 * 1)) + (256 * 1) = nI (fr % 32 + 1 + 32 + 256) := by
      rw [nI_1, show (32 : Int32) * 1 = nI 32 by decide, show (256 : Int32) * 1 = nI 256 by decide, nI_add, nI_add]
    rw [e]
    exact h
  · rw [if_neg c1] at h
    refine br_f (fun z => c1 ((nI_eq (b := 1) (by omega) (by omega)).mp z)) ?_
    by_cases c2 : L = 2
    · rw [if_pos c2] at h
      refine br_t (by rw [c2]; rfl) ?_
      have e : (nI (fr % 32) + (32 * (nI (fr / 32 % 8) + 1))) + (256 * 1) = nI (fr % 32 + 32 * (fr / 32 % 8 + 1) + 256) := by
        rw [nI_1, show (32 : Int32) = nI 32 by decide, pk_mul, show (256 : Int32) * 1 = nI 256 by decide, nI_add, nI_add]
      rw [e]
      exact h
    · rw [if_neg c2] at h
      refine br_f (fun z => c2 ((nI_eq (b := 2) (by omega) (by omega)).mp z)) ?_
      have e : nI fr + 256 = nI (fr + 256) := nI_add fr 256
      rw [e]
      exact h
end
section
/-! the component's tailor -/
section XTAILOR
variable {f_groups f_backwards f_shifted f_top f_ready f_ordered f_wordLength : Int32} {a_length a_letters a_cells a_groupLength a_groupLetters a_groupsFrom a_count a_weights a_order a_word : Nat → Int32}
theorem cd_xTa_147 {post : Int32 → SX → Prop} {g fr L b : Nat} (hg : g ≤ 6) (hb : b < 10) (hf : fr < 1024) (h1 : 1 ≤ L) (h3 : L ≤ 3)
    (hc : ∀ k, k < 20 + 2 * g → a_cells k = cd_oI (cd_dc (a_cells k)) ∧ ∀ x, cd_dc (a_cells k) = some x → x < 1024)
    (h : ∀ c, (∀ k, k < 20 + 2 * g → c k = cd_oI ((cd_dc (a_cells k)).map (cd_gr fr L))) → post (nI (cd_nw fr L)) (f_groups, f_backwards, f_shifted, f_top, 0, 0, f_wordLength, a_length, a_letters, upd (upd c (2 * b) (nI (cd_nw fr L))) (2 * b + 1) (-1), a_groupLength, a_groupLetters, a_groupsFrom, a_count, a_weights, a_order, a_word)) :
    ∀ d k n c, k + d = 20 + 2 * g → d < n → (∀ j, j < k → c j = cd_oI ((cd_dc (a_cells j)).map (cd_gr fr L))) → (∀ j, k ≤ j → c j = a_cells j) →
      wX_tailor_147 post (nI b) (nI L) (nI fr) (nI (20 + 2 * g)) f_groups f_backwards f_shifted f_top f_ready f_ordered f_wordLength n (nI k) a_length a_letters c a_groupLength a_groupLetters a_groupsFrom a_count a_weights a_order a_word := by
  intro d
  induction d with
  | zero =>
    intro k n c hk hn hlo hhi
    obtain ⟨n, rfl⟩ : ∃ m, n = m + 1 := ⟨n - 1, by omega⟩
    have z := h c (fun j hj => hlo j (by omega))
    refine br_t (nI_le (by omega) (by omega)) (cd_xNew hf h1 h3 ?_)
    rw [cd_m2, nI_1, nI_clamp (n := 2 * b) (by omega), nI_clamp (n := 2 * b + 1) (by omega)]
    refine And.intro (vp_in_nI (by omega) (by omega)) (nm_e (And.intro (vp_in_nI (by omega) (by omega)) (nm_e (And.intro (vp_in_nI (by omega) (by omega)) ?_))))
    rw [pk_un (by omega), pk_us]
    exact z
  | succ d ih =>
    intro k n c hk hn hlo hhi
    obtain ⟨n, rfl⟩ : ∃ m, n = m + 1 := ⟨n - 1, by omega⟩
    obtain ⟨e1, e2⟩ := hc k (by omega)
    have hv : vp_in (nI k) 32 := vp_in_nI (by omega) (by omega)
    have next : ∀ x : Int32, x = cd_oI ((cd_dc (a_cells k)).map (cd_gr fr L)) → wX_tailor_147 post (nI b) (nI L) (nI fr) (nI (20 + 2 * g)) f_groups f_backwards f_shifted f_top f_ready f_ordered f_wordLength n (nI (k + 1)) a_length a_letters (upd c k x) a_groupLength a_groupLetters a_groupsFrom a_count a_weights a_order a_word := by
      intro x hx
      refine ih (k + 1) n _ (by omega) (by omega) (fun j hj => ?_) (fun j hj => ?_)
      · by_cases e : j = k
        · rw [e, pk_us]
          exact hx
        · rw [pk_un e]
          exact hlo j (by omega)
      · rw [pk_un (by omega)]
        exact hhi j (by omega)
    refine br_f (nI_ge (by omega) (by omega)) (And.intro hv ?_)
    rw [nI_clamp (n := k) (by omega), hhi k (Nat.le_refl k)]
    cases q : cd_dc (a_cells k) with
    | none =>
      rw [q] at e1 next
      have e1' : a_cells k = -1 := e1
      rw [e1']
      exact cd_xGrows_n (And.intro hv (br_t rfl (And.intro hv (nm_e (nm_r (nI_1 k) (next _ rfl))))))
    | some x =>
      have hx := e2 x q
      rw [q] at e1 next
      have e1' : a_cells k = nI x := e1
      rw [e1']
      have next' : ∀ y : Int32, y = nI (cd_gr fr L x) → wX_tailor_147 post (nI b) (nI L) (nI fr) (nI (20 + 2 * g)) f_groups f_backwards f_shifted f_top f_ready f_ordered f_wordLength n (nI (k + 1)) a_length a_letters (upd c k y) a_groupLength a_groupLetters a_groupsFrom a_count a_weights a_order a_word := fun y hy => next y hy
      refine cd_xGrows hx hf h1 h3 (And.intro hv ?_)
      cases w : cd_bh x fr L with
      | false =>
        refine br_t rfl (And.intro hv (nm_e (nm_r (nI_1 k) (next' _ ?_))))
        unfold cd_gr
        rw [w, cd_a0, if_neg (by decide)]
      | true =>
        refine br_f (by decide) (cd_xUnit h1 h3 (And.intro hv (nm_e (nm_r (nI_1 k) (next' _ ?_)))))
        unfold cd_gr
        rw [w, nI_add, if_pos rfl]
theorem cd_xTa_73 {post : Int32 → SX → Prop} {g fr L b : Nat} (hg : g ≤ 6) (hf : fr < 1024) (h1 : 1 ≤ L) (h3 : L ≤ 3)
    (hc : ∀ k, k < 20 + 2 * g → a_cells k = cd_oI (cd_dc (a_cells k)) ∧ ∀ x, cd_dc (a_cells k) = some x → x < 1024) :
    ∀ d k fl n, k + d = 20 + 2 * g → d < n → ((fl = true ∨ ∃ k', k ≤ k' ∧ k' < 20 + 2 * g ∧ ∃ x, cd_dc (a_cells k') = some x ∧ cd_hv fr L x) → post (-3) (f_groups, f_backwards, f_shifted, f_top, f_ready, f_ordered, f_wordLength, a_length, a_letters, a_cells, a_groupLength, a_groupLetters, a_groupsFrom, a_count, a_weights, a_order, a_word)) →
      (¬ (fl = true ∨ ∃ k', k ≤ k' ∧ k' < 20 + 2 * g ∧ ∃ x, cd_dc (a_cells k') = some x ∧ cd_hv fr L x) → ∃ n, wX_tailor_147 post (nI b) (nI L) (nI fr) (nI (20 + 2 * g)) f_groups f_backwards f_shifted f_top f_ready f_ordered f_wordLength n 0 a_length a_letters a_cells a_groupLength a_groupLetters a_groupsFrom a_count a_weights a_order a_word) →
      wX_tailor_73 post (nI b) (nI L) (nI fr) (nI (20 + 2 * g)) f_groups f_backwards f_shifted f_top f_ready f_ordered f_wordLength a_length a_letters a_cells a_groupLength a_groupLetters a_groupsFrom a_count a_weights a_order a_word n (cd_bI fl) (nI k) := by
  intro d
  induction d with
  | zero =>
    intro k fl n hk hn hT hF
    obtain ⟨n, rfl⟩ : ∃ m, n = m + 1 := ⟨n - 1, by omega⟩
    refine br_t (nI_le (by omega) (by omega)) ?_
    cases fl with
    | true => exact br_f (by decide) (hT (Or.inl rfl))
    | false =>
      refine br_t rfl (hF ?_)
      rintro (z | ⟨k', z1, z2, -⟩)
      · cases z
      · omega
  | succ d ih =>
    intro k fl n hk hn hT hF
    obtain ⟨n, rfl⟩ : ∃ m, n = m + 1 := ⟨n - 1, by omega⟩
    obtain ⟨e1, e2⟩ := hc k (by omega)
    have hv : vp_in (nI k) 32 := vp_in_nI (by omega) (by omega)
    have next : ∀ fl', (fl' = true ↔ (fl = true ∨ ∃ x, cd_dc (a_cells k) = some x ∧ cd_hv fr L x)) → wX_tailor_73 post (nI b) (nI L) (nI fr) (nI (20 + 2 * g)) f_groups f_backwards f_shifted f_top f_ready f_ordered f_wordLength a_length a_letters a_cells a_groupLength a_groupLetters a_groupsFrom a_count a_weights a_order a_word n (cd_bI fl') (nI (k + 1)) := by
      intro fl' hfl
      have iff : (fl' = true ∨ ∃ k', k + 1 ≤ k' ∧ k' < 20 + 2 * g ∧ ∃ x, cd_dc (a_cells k') = some x ∧ cd_hv fr L x) ↔ (fl = true ∨ ∃ k', k ≤ k' ∧ k' < 20 + 2 * g ∧ ∃ x, cd_dc (a_cells k') = some x ∧ cd_hv fr L x) := by
        constructor
        · rintro (z | ⟨k', z1, z2, z3⟩)
          · rcases hfl.mp z with y | y
            · exact Or.inl y
            · exact Or.inr ⟨k, Nat.le_refl k, by omega, y⟩
          · exact Or.inr ⟨k', by omega, z2, z3⟩
        · rintro (z | ⟨k', z1, z2, z3⟩)
          · exact Or.inl (hfl.mpr (Or.inl z))
          · by_cases e : k' = k
            · rw [e] at z3
              exact Or.inl (hfl.mpr (Or.inr z3))
            · exact Or.inr ⟨k', by omega, z2, z3⟩
      exact ih (k + 1) fl' n (by omega) (by omega) (fun z => hT (iff.mp z)) (fun z => hF (fun y => z (iff.mpr y)))
    refine br_f (nI_ge (by omega) (by omega)) (And.intro hv ?_)
    rw [nI_clamp (n := k) (by omega)]
    cases q : cd_dc (a_cells k) with
    | none =>
      rw [q] at e1 next
      have e1' : a_cells k = -1 := e1
      rw [e1']
      refine cd_xGrows_n ?_
      cases fl with
      | true => exact br_f (by decide) (nm_r (nI_1 k) (next true ⟨fun _ => Or.inl rfl, fun _ => rfl⟩))
      | false =>
        refine br_t rfl (br_t rfl (nm_r (nI_1 k) (next false ⟨(fun z => by cases z), ?_⟩)))
        rintro (z | ⟨x, z, -⟩)
        · exact z
        · cases z
    | some x =>
      have hx := e2 x q
      rw [q] at e1 next
      have e1' : a_cells k = nI x := e1
      rw [e1']
      refine cd_xGrows hx hf h1 h3 ?_
      cases fl with
      | true => exact br_f (by decide) (nm_r (nI_1 k) (next true ⟨fun _ => Or.inl rfl, fun _ => rfl⟩))
      | false =>
        refine br_t rfl ?_
        have mb : cd_mo L < 2 ^ 31 := by
          unfold cd_mo
          split
          · omega
          · split <;> omega
        have wb : cd_wt x L < 2 ^ 31 := by
          unfold cd_wt
          split
          · omega
          · split <;> omega
        cases w : cd_bh x fr L with
        | false =>
          refine br_t rfl (nm_r (nI_1 k) (next false ⟨(fun z => by cases z), ?_⟩))
          rintro (z | ⟨y, z, z2⟩)
          · exact z
          · cases z
            have z3 := z2.1
            rw [w] at z3
            exact z3
        | true =>
          refine br_f (by decide) (And.intro hv (cd_xWeightOf hx h1 h3 (cd_xMost h1 h3 ?_)))
          by_cases c : cd_wt x L < cd_mo L
          · refine br_t (nI_lt c mb) (nm_r (nI_1 k) (next false ⟨(fun z => by cases z), ?_⟩))
            rintro (z | ⟨y, z, z2⟩)
            · exact z
            · cases z
              have z3 := z2.2
              omega
          · exact br_f (nI_nlt (by omega) wb) (nm_r (nI_1 k) (next true ⟨fun _ => Or.inr ⟨x, rfl, w, by omega⟩, fun _ => rfl⟩))
end XTAILOR
section XTAILOR2
variable {ln lt : Nat → Nat} {E : cd_E} {g bk sh top : Nat} {u : SX} {post : Int32 → SX → Prop}
theorem cd_xTailor (D : cd_D ln lt E g bk sh top) (R : cd_RX ln lt E g bk sh top u) {a b L fr : Nat} {y : Option Nat} (ha : a < 10) (hb : b < 10) (hab : ¬ a = b) (h1 : 1 ≤ L) (h3 : L ≤ 3) (hfr : E (a + 1) = some (fr, y))
    (hT : cd_full E fr L → post (-3) u) (hF : ¬ cd_full E fr L → ∀ u', cd_RX ln lt (cd_te E fr L b) g bk sh top u' → post (nI (cd_nw fr L)) u') : wpX_tailor post u (nI a) (nI b) (nI L) := by
  obtain ⟨f_groups, f_backwards, f_shifted, f_top, f_ready, f_ordered, f_wordLength, a_length, a_letters, a_cells, a_groupLength, a_groupLetters, a_groupsFrom, a_count, a_weights, a_order, a_word⟩ := u
  obtain ⟨⟨gL, gT, S⟩, C⟩ := R
  obtain ⟨s1, s2, s3, s4, s5, s6, s7, s8⟩ := S
  have d4 := D.2.2.2.1
  have d3 := D.2.2.1
  have hok := (d3.1 _ fr y hfr).1
  have hf := hok.1
  have hcl := cd_cl d3 s8
  have hc : ∀ k, k < 20 + 2 * g → a_cells k = cd_oI (cd_dc (a_cells k)) ∧ ∀ x, cd_dc (a_cells k) = some x → x < 1024 := fun k hk => ⟨(hcl k hk).1, fun x q => ((hcl k hk).2 x q).1.1⟩
  have hfx := cd_full_x (fr := fr) (L := L) d3 s8
  have ec : a_cells (2 * a) = nI fr := by
    obtain ⟨x, y', e1, e2, -⟩ := s8.2.1 a ha
    rw [hfr] at e1
    cases e1
    exact e2
  have mb : cd_mo L < 2 ^ 31 := by
    unfold cd_mo
    split
    · omega
    · split <;> omega
  have wb : cd_wt fr L < 2 ^ 31 := by
    unfold cd_wt
    split
    · omega
    · split <;> omega
  have hab' : ¬ nI a = nI b := fun z => hab ((nI_eq (by omega) (by omega)).mp z)
  -- both entrances
  have go : ∀ fl : Bool, (fl = true ↔ cd_mo L ≤ cd_wt fr L) → wX_tailor_62 post (nI b) (nI L) (nI fr) (cd_bI fl) f_groups f_backwards f_shifted f_top f_ready f_ordered f_wordLength a_length a_letters a_cells a_groupLength a_groupLetters a_groupsFrom a_count a_weights a_order a_word := by
    intro fl hfl
    unfold wX_tailor_62 wpX_usedCells
    have e20 : 20 + 2 * f_groups = nI (20 + 2 * g) := by rw [s1, cd_m2, cd_p20]
    dsimp only
    rw [e20]
    refine Exists.intro (20 + 2 * g + 1) ?_
    refine cd_xTa_73 d4 hf h1 h3 hc (20 + 2 * g) 0 fl _ (by omega) (by omega) (fun z => hT (hfx.mpr ?_)) (fun z => ?_)
    · rcases z with z | ⟨k', -, z2, z3⟩
      · exact Or.inl (hfl.mp z)
      · exact Or.inr ⟨k', z2, z3⟩
    · have nf : ¬ cd_full E fr L := by
        intro q
        rcases hfx.mp q with q | ⟨k', q1, q2⟩
        · exact z (Or.inl (hfl.mpr q))
        · exact z (Or.inr ⟨k', Nat.zero_le _, q1, q2⟩)
      refine ⟨20 + 2 * g + 1, cd_xTa_147 d4 hb hf h1 h3 hc (fun c hcc => ?_) (20 + 2 * g) 0 _ a_cells (by omega) (by omega) (fun j hj => by omega) (fun j _ => rfl)⟩
      exact hF nf _ ⟨⟨gL, gT, s1, s2, s3, s4, s5, s6, s7, cd_XC_te d3 s8 hb (fun i hi => cd_nm_long d4 s7 hi b hb) hcc⟩, cd_CA_all⟩
  unfold wpX_tailor
  refine cd_xLet1 ha (br_f cd_10 (cd_xLet1 hb (br_f cd_10 (br_f hab' (br_f (nI_nlt (b := 1) h1 (by omega)) (br_t (nI_le (b := 3) h3 (by omega)) ?_))))))
  rw [cd_m2, nI_clamp (n := 2 * a) (by omega), ec]
  refine And.intro (vp_in_nI (by omega) (by omega)) (nm_e (cd_xWeightOf hf h1 h3 (cd_xMost h1 h3 ?_)))
  by_cases c : cd_wt fr L < cd_mo L
  · exact br_t (nI_lt c mb) (go false ⟨(fun z => by cases z), fun z => by omega⟩)
  · exact br_f (nI_nlt (by omega) wb) (go true ⟨fun _ => by omega, fun _ => rfl⟩)
theorem cd_xTailor_b {x y z : Int32} (hx : cd_bad 10 x ∨ cd_bad 10 y ∨ x = y) (h : post (-1) u) : wpX_tailor post u x y z := by
  obtain ⟨f_groups, f_backwards, f_shifted, f_top, f_ready, f_ordered, f_wordLength, a_length, a_letters, a_cells, a_groupLength, a_groupLetters, a_groupsFrom, a_count, a_weights, a_order, a_word⟩ := u
  unfold wpX_tailor
  rcases cd_slot 10 x with ⟨i, hi, rfl⟩ | c
  · refine cd_xLet1 hi (br_f cd_10 ?_)
    rcases cd_slot 10 y with ⟨j, hj, rfl⟩ | c
    · refine cd_xLet1 hj (br_f cd_10 ?_)
      rcases hx with hx | hx | hx
      · exact absurd ⟨i, hi, rfl⟩ hx
      · exact absurd ⟨j, hj, rfl⟩ hx
      · exact br_t hx h
    · exact cd_xLet0 c (br_t rfl h)
  · exact cd_xLet0 c (br_t rfl h)
def cd_badL (x : Int32) : Prop := ¬ ∃ t, 1 ≤ t ∧ t ≤ 3 ∧ x = nI t
theorem cd_badL_gt {x : Int32} (hx : cd_badL x) (h1 : ¬ x < 1) : ¬ x ≤ 3 := by
  have h0 : ¬ x < 0 := fun z => h1 (Int32.lt_trans z (by decide))
  obtain ⟨j, hj, rfl⟩ := nI_of h0
  have g1 : ¬ j < 1 := fun z => h1 ((nI_ltI (b := 1) hj (by omega)).mpr z)
  intro z
  have z' := (nI_leI (b := 3) hj (by omega)).mp z
  exact hx ⟨j, by omega, z', rfl⟩
theorem cd_xTailor_l {i j : Nat} (hi : i < 10) (hj : j < 10) (hij : ¬ i = j) {z : Int32} (hz : cd_badL z) (h : post (-2) u) : wpX_tailor post u (nI i) (nI j) z := by
  obtain ⟨f_groups, f_backwards, f_shifted, f_top, f_ready, f_ordered, f_wordLength, a_length, a_letters, a_cells, a_groupLength, a_groupLetters, a_groupsFrom, a_count, a_weights, a_order, a_word⟩ := u
  unfold wpX_tailor
  exact cd_xLet1 hi (br_f cd_10 (cd_xLet1 hj (br_f cd_10 (br_f (fun z => hij ((nI_eq (by omega) (by omega)).mp z)) (br_c (fun _ => h) (fun n => br_f (cd_badL_gt hz n) h))))))
end XTAILOR2
end
section
/-! the reference's tailor -/
def cd_al (x fr : Nat) : Nat → Nat → Bool
  | 0, _ => true
  | d + 1, l => decide (cd_wt x l = cd_wt fr l) && cd_al x fr d (l + 1)
theorem cd_al_s (x fr d l : Nat) : cd_al x fr (d + 1) l = (decide (cd_wt x l = cd_wt fr l) && cd_al x fr d (l + 1)) := rfl
theorem cd_bh_al {x fr L : Nat} (h1 : 1 ≤ L) (h3 : L ≤ 3) : cd_bh x fr L = (cd_al x fr (L - 1) 1 && decide (cd_wt fr L < cd_wt x L)) := by
  have c : L = 1 ∨ L = 2 ∨ L = 3 := by omega
  rcases c with c | c | c
  · subst c
    show decide (fr % 32 < x % 32) = (true && decide (fr % 32 < x % 32))
    rw [Bool.true_and]
  · subst c
    show decide (x % 32 = fr % 32 ∧ fr / 32 % 8 < x / 32 % 8) = ((decide (x % 32 = fr % 32) && true) && decide (fr / 32 % 8 < x / 32 % 8))
    rw [Bool.and_true, Bool.decide_and]
  · subst c
    show decide (x % 32 = fr % 32 ∧ x / 32 % 8 = fr / 32 % 8 ∧ fr / 256 < x / 256) = ((decide (x % 32 = fr % 32) && (decide (x / 32 % 8 = fr / 32 % 8) && true)) && decide (fr / 256 < x / 256))
    rw [Bool.and_true, Bool.decide_and, Bool.decide_and, Bool.and_assoc]
theorem cd_wt_lt {x L : Nat} (hx : x < 1024) : cd_wt x L < 32 := by
  unfold cd_wt
  split
  · omega
  · split <;> omega
theorem cd_mo_lt (L : Nat) : cd_mo L < 32 := by
  unfold cd_mo
  split
  · omega
  · split <;> omega
section YTAILOR
variable {f_longer f_backwards f_shifted f_top f_many : Int32} {a_sizes a_letters a_words a_counts a_ones a_twos a_first a_second a_third a_fourth a_keySizes a_keys : Nat → Int32}
theorem cd_yIb_6 {post : Int32 → Prop} {x fr L : Nat} (hx : x < 1024) (hf : fr < 1024) (h3 : L ≤ 3) :
    ∀ d l sm n, 1 ≤ l → l + d = L → d < n → post (cd_bI (sm && (cd_al x fr d l && decide (cd_wt fr L < cd_wt x L)))) → wY_isBehind_6 post (nI x) (nI fr) (nI L) f_longer f_backwards f_shifted f_top f_many a_sizes a_letters a_words a_counts a_ones a_twos a_first a_second a_third a_fourth a_keySizes a_keys n (cd_bI sm) (nI l) := by
  intro d
  induction d with
  | zero =>
    intro l sm n h1 hl hn h
    obtain ⟨n, rfl⟩ : ∃ m, n = m + 1 := ⟨n - 1, by omega⟩
    have a1 := cd_wt_lt (L := L) hx
    have a2 := cd_wt_lt (L := L) hf
    have h' : post (cd_bI (sm && (true && decide (cd_wt fr L < cd_wt x L)))) := h
    rw [Bool.true_and] at h'
    refine br_t (nI_le (by omega) (by omega)) ?_
    cases sm with
    | false =>
      rw [Bool.false_and] at h'
      exact br_t rfl h'
    | true =>
      rw [Bool.true_and] at h'
      refine br_f (by decide) (cd_yWeight hx (by omega) h3 (cd_yWeight hf (by omega) h3 ?_))
      by_cases c : cd_wt x L ≤ cd_wt fr L
      · rw [decide_eq_false (by omega)] at h'
        exact br_t (nI_le c (by omega)) h'
      · rw [decide_eq_true (by omega)] at h'
        exact br_f (nI_ge (by omega) (by omega)) h'
  | succ d ih =>
    intro l sm n h1 hl hn h
    obtain ⟨n, rfl⟩ : ∃ m, n = m + 1 := ⟨n - 1, by omega⟩
    have a1 := cd_wt_lt (L := l) hx
    have a2 := cd_wt_lt (L := l) hf
    rw [cd_al_s] at h
    refine br_f (nI_ge (by omega) (by omega)) ?_
    cases sm with
    | false =>
      rw [Bool.false_and] at h
      exact br_t rfl (nm_r (nI_1 l) (ih (l + 1) false n (by omega) (by omega) (by omega) (by rw [Bool.false_and]; exact h)))
    | true =>
      rw [Bool.true_and] at h
      refine br_f (by decide) (cd_yWeight hx h1 (by omega) (cd_yWeight hf h1 (by omega) ?_))
      by_cases c : cd_wt x l = cd_wt fr l
      · rw [decide_eq_true c, Bool.true_and] at h
        exact br_t (congrArg nI c) (nm_r (nI_1 l) (ih (l + 1) true n (by omega) (by omega) (by omega) (by rw [Bool.true_and]; exact h)))
      · rw [decide_eq_false c, Bool.false_and, Bool.false_and] at h
        exact br_f (fun z => c ((nI_eq (by omega) (by omega)).mp z)) (nm_r (nI_1 l) (ih (l + 1) false n (by omega) (by omega) (by omega) (by rw [Bool.false_and]; exact h)))
theorem cd_yIb {post : Int32 → Prop} {x fr L : Nat} (hx : x < 1024) (hf : fr < 1024) (h1 : 1 ≤ L) (h3 : L ≤ 3) (h : post (cd_bI (cd_bh x fr L))) : wpY_isBehind post (f_longer, f_backwards, f_shifted, f_top, f_many, a_sizes, a_letters, a_words, a_counts, a_ones, a_twos, a_first, a_second, a_third, a_fourth, a_keySizes, a_keys) (nI x) (nI fr) (nI L) := by
  rw [cd_bh_al h1 h3] at h
  exact Exists.intro L (cd_yIb_6 hx hf h3 (L - 1) 1 true L (by omega) (by omega) (by omega) (by rw [Bool.true_and]; exact h))
theorem cd_yMost {post : Int32 → Prop} {L : Nat} (h1 : 1 ≤ L) (h3 : L ≤ 3) (h : post (nI (cd_mo L))) : wpY_most post (f_longer, f_backwards, f_shifted, f_top, f_many, a_sizes, a_letters, a_words, a_counts, a_ones, a_twos, a_first, a_second, a_third, a_fourth, a_keySizes, a_keys) (nI L) := by
  unfold cd_mo at h
  by_cases c1 : L = 1
  · rw [if_pos c1] at h
    exact br_t (by rw [c1]; rfl) h
  · rw [if_neg c1] at h
    refine br_f (fun z => c1 ((nI_eq (b := 1) (by omega) (by omega)).mp z)) ?_
    by_cases c2 : L = 2
    · rw [if_pos c2] at h
      exact br_t (by rw [c2]; rfl) h
    · rw [if_neg c2] at h
      exact br_f (fun z => c2 ((nI_eq (b := 2) (by omega) (by omega)).mp z)) h
theorem cd_yUnit {post : Int32 → Prop} {L : Nat} (h1 : 1 ≤ L) (h3 : L ≤ 3) (h : post (nI (cd_uu L))) : wpY_unit post (f_longer, f_backwards, f_shifted, f_top, f_many, a_sizes, a_letters, a_words, a_counts, a_ones, a_twos, a_first, a_second, a_third, a_fourth, a_keySizes, a_keys) (nI L) := by
  unfold cd_uu at h
  by_cases c1 : L = 1
  · rw [if_pos c1] at h
    exact br_t (by rw [c1]; rfl) h
  · rw [if_neg c1] at h
    refine br_f (fun z => c1 ((nI_eq (b := 1) (by omega) (by omega)).mp z)) ?_
    by_cases c2 : L = 2
    · rw [if_pos c2] at h
      exact br_t (by rw [c2]; rfl) h
    · rw [if_neg c2] at h
      exact br_f (fun z => c2 ((nI_eq (b := 2) (by omega) (by omega)).mp z)) h
/-- an entry that stands in the way -/
def cd_Pe (E : cd_E) (wd : Nat → Nat) (fr L e : Nat) : Prop := ∃ x y, E (wd e) = some (x, y) ∧ (cd_hv fr L x ∨ ∃ c, y = some c ∧ cd_hv fr L c)
theorem cd_yTa_77 {post : Int32 → SY → Prop} {E : cd_E} {g fr L b : Nat} {wd : Nat → Nat} (hg : g ≤ 6) (hfl : f_longer = nI g) (hok : cd_Ok E) (hE : cd_YE E g wd a_words a_counts a_ones a_twos) (hf : fr < 1024) (h1 : 1 ≤ L) (h3 : L ≤ 3) :
    ∀ d e ft n, e + d = 10 + g → d < n → ((ft = false ∨ ∃ e', e ≤ e' ∧ e' < 10 + g ∧ cd_Pe E wd fr L e') → post (-3) (f_longer, f_backwards, f_shifted, f_top, f_many, a_sizes, a_letters, a_words, a_counts, a_ones, a_twos, a_first, a_second, a_third, a_fourth, a_keySizes, a_keys)) →
      (¬ (ft = false ∨ ∃ e', e ≤ e' ∧ e' < 10 + g ∧ cd_Pe E wd fr L e') → ∃ n, wY_tailor_209 post (nI b) (nI L) (nI fr) f_longer f_backwards f_shifted f_top f_many n 0 a_sizes a_letters a_words a_counts a_ones a_twos a_first a_second a_third a_fourth a_keySizes a_keys) →
      wY_tailor_77 post (nI b) (nI L) (nI fr) (nI (cd_mo L)) f_longer f_backwards f_shifted f_top f_many a_sizes a_letters a_words a_counts a_ones a_twos a_first a_second a_third a_fourth a_keySizes a_keys n (cd_bI ft) (nI e) := by
  have mb := cd_mo_lt L
  intro d
  induction d with
  | zero =>
    intro e ft n he hn hT hF
    obtain ⟨n, rfl⟩ : ∃ m, n = m + 1 := ⟨n - 1, by omega⟩
    refine br_t (by rw [hfl, cd_p10]; exact nI_le (by omega) (by omega)) ?_
    cases ft with
    | false => exact br_t rfl (hT (Or.inl rfl))
    | true =>
      refine br_f (by decide) (hF ?_)
      rintro (z | ⟨k', z1, z2, -⟩)
      · cases z
      · omega
  | succ d ih =>
    intro e ft n he hn hT hF
    obtain ⟨n, rfl⟩ : ∃ m, n = m + 1 := ⟨n - 1, by omega⟩
    obtain ⟨x, y, e1, e2, e3, e4⟩ := hE.2.2.1 e (by omega)
    have o := hok.1 _ x y e1
    have wx := cd_wt_mo o.1 h1 h3
    have hv : vp_in (nI e) 16 := vp_in_nI (by omega) (by omega)
    have ec : (nI e).toNatClampNeg = e := nI_clamp (by omega)
    have next : ∀ ft', (ft' = false ↔ (ft = false ∨ cd_Pe E wd fr L e)) → wY_tailor_77 post (nI b) (nI L) (nI fr) (nI (cd_mo L)) f_longer f_backwards f_shifted f_top f_many a_sizes a_letters a_words a_counts a_ones a_twos a_first a_second a_third a_fourth a_keySizes a_keys n (cd_bI ft') (nI (e + 1)) := by
      intro ft' hft
      have iff : (ft' = false ∨ ∃ e', e + 1 ≤ e' ∧ e' < 10 + g ∧ cd_Pe E wd fr L e') ↔ (ft = false ∨ ∃ e', e ≤ e' ∧ e' < 10 + g ∧ cd_Pe E wd fr L e') := by
        constructor
        · rintro (z | ⟨k', z1, z2, z3⟩)
          · rcases hft.mp z with q | q
            · exact Or.inl q
            · exact Or.inr ⟨e, Nat.le_refl e, by omega, q⟩
          · exact Or.inr ⟨k', by omega, z2, z3⟩
        · rintro (z | ⟨k', z1, z2, z3⟩)
          · exact Or.inl (hft.mpr (Or.inl z))
          · by_cases q : k' = e
            · rw [q] at z3
              exact Or.inl (hft.mpr (Or.inr z3))
            · exact Or.inr ⟨k', by omega, z2, z3⟩
      exact ih (e + 1) ft' n (by omega) (by omega) (fun z => hT (iff.mp z)) (fun z => hF (fun q => z (iff.mpr q)))
    refine br_f (by rw [hfl, cd_p10]; exact nI_ge (by omega) (by omega)) ?_
    cases ft with
    | false =>
      refine br_t rfl ?_
      unfold wY_tailor_132 wY_tailor_133
      exact br_t rfl (nm_r (nI_1 e) (next false ⟨fun _ => Or.inl rfl, fun _ => rfl⟩))
    | true =>
      refine br_f (by decide) (And.intro hv ?_)
      rw [ec, e2]
      have bad : cd_Pe E wd fr L e → wY_tailor_77 post (nI b) (nI L) (nI fr) (nI (cd_mo L)) f_longer f_backwards f_shifted f_top f_many a_sizes a_letters a_words a_counts a_ones a_twos a_first a_second a_third a_fourth a_keySizes a_keys n 0 (nI (e + 1)) := fun q => next false ⟨fun _ => Or.inr q, fun _ => rfl⟩
      have good : ¬ cd_Pe E wd fr L e → wY_tailor_77 post (nI b) (nI L) (nI fr) (nI (cd_mo L)) f_longer f_backwards f_shifted f_top f_many a_sizes a_letters a_words a_counts a_ones a_twos a_first a_second a_third a_fourth a_keySizes a_keys n 1 (nI (e + 1)) := fun q => next true ⟨(fun z => by cases z), fun z => by
        rcases z with z | z
        · cases z
        · exact absurd z q⟩
      -- the second element, the first one being no hindrance
      have second : ¬ cd_hv fr L x → wY_tailor_133 post (wY_tailor_77 post (nI b) (nI L) (nI fr) (nI (cd_mo L)) f_longer f_backwards f_shifted f_top f_many a_sizes a_letters a_words a_counts a_ones a_twos a_first a_second a_third a_fourth a_keySizes a_keys n) (nI b) (nI L) (nI fr) (nI (cd_mo L)) (nI e) 1 f_longer f_backwards f_shifted f_top f_many a_sizes a_letters a_words a_counts a_ones a_twos a_first a_second a_third a_fourth a_keySizes a_keys := by
        intro nx
        unfold wY_tailor_133
        refine br_f (by decide) (And.intro hv ?_)
        rw [ec, e3]
        cases y with
        | none =>
          refine br_f (by decide) (nm_r (nI_1 e) (good ?_))
          rintro ⟨x', y', q, z⟩
          rw [e1] at q
          cases q
          rcases z with z | ⟨c, z, -⟩
          · exact nx z
          · cases z
        | some c =>
          have oc := o.2 c rfl
          have wc := cd_wt_mo oc h1 h3
          refine br_t rfl (And.intro hv ?_)
          rw [e4 c rfl]
          have no : ¬ cd_hv fr L c → ¬ cd_Pe E wd fr L e := by
            rintro nc ⟨x', y', q, z⟩
            rw [e1] at q
            cases q
            rcases z with z | ⟨c', z, z2⟩
            · exact nx z
            · cases z
              exact nc z2
          refine cd_yIb oc.1 hf h1 h3 ?_
          cases w : cd_bh c fr L with
          | false =>
            exact br_t rfl (nm_r (nI_1 e) (good (no (fun z => by have := z.1; rw [w] at this; cases this))))
          | true =>
            refine br_f (by decide) (And.intro hv (cd_yWeight oc.1 h1 h3 ?_))
            by_cases k : cd_wt c L = cd_mo L
            · exact br_t (congrArg nI k) (nm_r (nI_1 e) (bad ⟨x, some c, e1, Or.inr ⟨c, rfl, w, by omega⟩⟩))
            · exact br_f (fun z => k ((nI_eq (by omega) (by omega)).mp z)) (nm_r (nI_1 e) (good (no (fun z => k (by have := z.2; omega)))))
      refine cd_yIb o.1.1 hf h1 h3 ?_
      cases w : cd_bh x fr L with
      | false =>
        refine br_t rfl ?_
        unfold wY_tailor_128
        exact second (fun z => by have := z.1; rw [w] at this; cases this)
      | true =>
        refine br_f (by decide) (And.intro hv (cd_yWeight o.1.1 h1 h3 ?_))
        by_cases k : cd_wt x L = cd_mo L
        · refine br_t (congrArg nI k) ?_
          unfold wY_tailor_132 wY_tailor_133
          exact br_t rfl (nm_r (nI_1 e) (bad ⟨x, y, e1, Or.inl ⟨w, by omega⟩⟩))
        · refine br_f (fun z => k ((nI_eq (by omega) (by omega)).mp z)) ?_
          unfold wY_tailor_128
          exact second (fun z => k (by have := z.2; omega))
/-- entry j has grown -/
def cd_dn (E : cd_E) (wd : Nat → Nat) (fr L : Nat) (o t : Nat → Int32) (j : Nat) : Prop := ∀ x y, E (wd j) = some (x, y) → o j = nI (cd_gr fr L x) ∧ ∀ c, y = some c → t j = nI (cd_gr fr L c)
theorem cd_frs {fr : Nat} : fr % 32 + 32 * (fr / 32 % 8) + 256 * (fr / 256 + 1) = fr + 256 := by
  have e : fr / 256 = fr / 32 / 8 := by rw [Nat.div_div_eq_div_mul]
  rw [e]
  omega
theorem cd_yTa_209 {post : Int32 → SY → Prop} {E : cd_E} {g fr L b : Nat} {wd : Nat → Nat} (hg : g ≤ 6) (hfl : f_longer = nI g) (hb : b < 10) (hok : cd_Ok E) (hE : cd_YE E g wd a_words a_counts a_ones a_twos) (hf : fr < 1024) (h1 : 1 ≤ L) (h3 : L ≤ 3)
    (h : ∀ o t, (∀ j, j < 10 + g → cd_dn E wd fr L o t j) → post (nI (cd_nw fr L)) (f_longer, f_backwards, f_shifted, f_top, f_many, a_sizes, a_letters, a_words, upd a_counts b 1, upd o b (nI (cd_nw fr L)), t, a_first, a_second, a_third, a_fourth, a_keySizes, a_keys)) :
    ∀ d e n o t, e + d = 10 + g → d < n → (∀ j, j < e → cd_dn E wd fr L o t j) → (∀ j, e ≤ j → o j = a_ones j ∧ t j = a_twos j) →
      wY_tailor_209 post (nI b) (nI L) (nI fr) f_longer f_backwards f_shifted f_top f_many n (nI e) a_sizes a_letters a_words a_counts o t a_first a_second a_third a_fourth a_keySizes a_keys := by
  intro d
  induction d with
  | zero =>
    intro e n o t he hn hlo hhi
    obtain ⟨n, rfl⟩ : ∃ m, n = m + 1 := ⟨n - 1, by omega⟩
    have z := h o t (fun j hj => hlo j (by omega))
    have hv : vp_in (nI b) 16 := vp_in_nI (by omega) (by omega)
    have ec : (nI b).toNatClampNeg = b := nI_clamp (by omega)
    refine br_t (by rw [hfl, cd_p10]; exact nI_le (by omega) (by omega)) ?_
    refine cd_yWeight (l := 1) hf (by omega) (by omega) ?_
    refine cd_yWeight (l := 2) hf (by omega) (by omega) ?_
    refine cd_yWeight (l := 3) hf (by omega) (by omega) ?_
    refine And.intro hv (nm_r (e' := upd a_counts b 1) (by rw [ec]) ?_)
    have w1 : cd_wt fr 1 = fr % 32 := rfl
    have w2 : cd_wt fr 2 = fr / 32 % 8 := rfl
    have w3 : cd_wt fr 3 = fr / 256 := rfl
    rw [w1, w2, w3, ec]
    unfold cd_nw at z
    by_cases c1 : L = 1
    · rw [if_pos c1] at z
      refine br_t (by rw [c1]; rfl) (And.intro hv (nm_r (e' := upd o b (nI (fr % 32 + 1 + 32 + 256))) ?_ (And.intro hv ?_)))
      · rw [nI_1, show (32 : Int32) = nI 32 by decide, show (256 : Int32) = nI 256 by decide, nI_add, nI_add]
      · rw [pk_us]
        exact z
    · rw [if_neg c1] at z
      refine br_f (fun z => c1 ((nI_eq (b := 1) (by omega) (by omega)).mp z)) ?_
      by_cases c2 : L = 2
      · rw [if_pos c2] at z
        refine br_t (by rw [c2]; rfl) (And.intro hv (nm_r (e' := upd o b (nI (fr % 32 + 32 * (fr / 32 % 8 + 1) + 256))) ?_ (And.intro hv ?_)))
        · rw [nI_1, show (32 : Int32) = nI 32 by decide, pk_mul, show (256 : Int32) = nI 256 by decide, nI_add, nI_add]
        · rw [pk_us]
          exact z
      · rw [if_neg c2] at z
        refine br_f (fun z => c2 ((nI_eq (b := 2) (by omega) (by omega)).mp z)) (And.intro hv (nm_r (e' := upd o b (nI (fr + 256))) ?_ (And.intro hv ?_)))
        · rw [nI_1, show (32 : Int32) = nI 32 by decide, pk_mul, show (256 : Int32) = nI 256 by decide, pk_mul, nI_add, nI_add, cd_frs]
        · rw [pk_us]
          exact z
  | succ d ih =>
    intro e n o t he hn hlo hhi
    obtain ⟨n, rfl⟩ : ∃ m, n = m + 1 := ⟨n - 1, by omega⟩
    obtain ⟨x, y, e1, e2, e3, e4⟩ := hE.2.2.1 e (by omega)
    have ok := hok.1 _ x y e1
    have hv : vp_in (nI e) 16 := vp_in_nI (by omega) (by omega)
    have ec : (nI e).toNatClampNeg = e := nI_clamp (by omega)
    obtain ⟨ho, ht⟩ := hhi e (Nat.le_refl e)
    have next : ∀ p q : Int32, p = nI (cd_gr fr L x) → (∀ c, y = some c → q = nI (cd_gr fr L c)) → wY_tailor_209 post (nI b) (nI L) (nI fr) f_longer f_backwards f_shifted f_top f_many n (nI (e + 1)) a_sizes a_letters a_words a_counts (upd o e p) (upd t e q) a_first a_second a_third a_fourth a_keySizes a_keys := by
      intro p q hp hq
      refine ih (e + 1) n _ _ (by omega) (by omega) (fun j hj => ?_) (fun j hj => ?_)
      · by_cases k : j = e
        · subst k
          intro x' y' z
          rw [e1] at z
          cases z
          exact ⟨by rw [pk_us]; exact hp, fun c r => by rw [pk_us]; exact hq c r⟩
        · intro x' y' z
          rw [pk_un k, pk_un k]
          exact hlo j (by omega) x' y' z
      · rw [pk_un (by omega), pk_un (by omega)]
        exact hhi j (by omega)
    -- the second element
    have second : ∀ p : Int32, p = nI (cd_gr fr L x) → wY_tailor_267 post (wY_tailor_209 post (nI b) (nI L) (nI fr) f_longer f_backwards f_shifted f_top f_many n) (nI b) (nI L) (nI fr) (nI e) p (nI e) f_longer f_backwards f_shifted f_top f_many a_sizes a_letters a_words a_counts o t a_first a_second a_third a_fourth a_keySizes a_keys := by
      intro p hp
      unfold wY_tailor_267
      refine And.intro hv (nm_r (e' := upd o e p) (by rw [ec]) (And.intro hv ?_))
      rw [ec, e3, ht]
      cases y with
      | none =>
        exact br_f (by decide) (And.intro hv (And.intro hv (nm_e (nm_r (nI_1 e) (next p _ hp (fun c q => by cases q))))))
      | some c =>
        have oc := ok.2 c rfl
        have next' : ∀ q : Int32, q = nI (cd_gr fr L c) → wY_tailor_209 post (nI b) (nI L) (nI fr) f_longer f_backwards f_shifted f_top f_many n (nI (e + 1)) a_sizes a_letters a_words a_counts (upd o e p) (upd t e q) a_first a_second a_third a_fourth a_keySizes a_keys := fun q hq => next p q hp (fun c' r => by cases r; exact hq)
        refine br_t rfl (And.intro hv ?_)
        rw [e4 c rfl]
        refine cd_yIb oc.1 hf h1 h3 ?_
        cases w : cd_bh c fr L with
        | false =>
          refine br_t rfl (And.intro hv (And.intro hv (nm_e (nm_r (nI_1 e) (next' _ ?_)))))
          unfold cd_gr
          rw [w, if_neg (by decide)]
        | true =>
          refine br_f (by decide) (And.intro hv (cd_yUnit h1 h3 (And.intro hv (nm_e (nm_r (nI_1 e) (next' _ ?_))))))
          unfold cd_gr
          rw [w, nI_add, if_pos rfl]
    refine br_f (by rw [hfl, cd_p10]; exact nI_ge (by omega) (by omega)) (And.intro hv ?_)
    rw [ec, ho, e2]
    refine cd_yIb ok.1.1 hf h1 h3 ?_
    cases w : cd_bh x fr L with
    | false =>
      refine br_t rfl (And.intro hv (second _ ?_))
      unfold cd_gr
      rw [w, if_neg (by decide)]
    | true =>
      refine br_f (by decide) (And.intro hv (cd_yUnit h1 h3 (second _ ?_)))
      unfold cd_gr
      rw [w, nI_add, if_pos rfl]
end YTAILOR
theorem cd_full_y {E : cd_E} {g fr L : Nat} {wd : Nat → Nat} {words counts ones twos : Nat → Int32} (hE : cd_YE E g wd words counts ones twos) :
    cd_full E fr L ↔ (cd_mo L ≤ cd_wt fr L ∨ ∃ e, e < 10 + g ∧ cd_Pe E wd fr L e) := by
  constructor
  · rintro (h | ⟨w, x, y, e, h⟩)
    · exact Or.inl h
    · obtain ⟨i, hi, q⟩ := hE.2.2.2.2 w (by rw [e]; rfl)
      exact Or.inr ⟨i, hi, x, y, by rw [q]; exact e, h⟩
  · rintro (h | ⟨e, he, x, y, q, h⟩)
    · exact Or.inl h
    · exact Or.inr ⟨_, x, y, q, h⟩
theorem cd_YE_te {E : cd_E} {g fr L b : Nat} {wd : Nat → Nat} {words counts ones twos o t : Nat → Int32} (hE : cd_YE E g wd words counts ones twos) (hb : b < 10) (h : ∀ j, j < 10 + g → cd_dn E wd fr L o t j) :
    cd_YE (cd_te E fr L b) g wd words (upd counts b 1) (upd o b (nI (cd_nw fr L))) t := by
  have hm : cd_YE (cd_mp E fr L) g wd words counts o t := by
    obtain ⟨c1, c2, c3, c4, c5⟩ := hE
    refine ⟨c1, c2, fun e he => ?_, c4, fun w hw => ?_⟩
    · obtain ⟨x, y, e1, e2, e3, e4⟩ := c3 e he
      obtain ⟨q1, q2⟩ := h e he x y e1
      refine ⟨_, _, cd_mp_s e1, q1, ?_, fun c q => ?_⟩
      · rw [e3]
        cases y <;> rfl
      · cases y with
        | none => cases q
        | some c' =>
          have q' : cd_gr fr L c' = c := Option.some.inj q
          rw [← q']
          exact q2 c' rfl
    · rw [cd_mp_some] at hw
      exact c5 w hw
  have wb := hE.2.1 b hb
  exact cd_YE_set (wd' := wd) (j := b) (w := b + 1) (b := none) hm (by omega) (Nat.le_refl g) (by omega) wb (fun e _ => rfl) (fun e he _ => he) (fun e he q => hm.2.2.2.1 e b he (by omega) (by rw [q, wb])) (fun _ => wb)
    (by rw [(hE.1 b (by omega)).1, wb]) pk_us pk_us (fun c q => by cases q) (fun e _ => rfl) (fun e p => pk_un p) (fun e p => pk_un p) (fun e _ => rfl)
section YTAILOR2
variable {ln lt : Nat → Nat} {E : cd_E} {g bk sh top : Nat} {v : SY} {post : Int32 → SY → Prop}
theorem cd_yTailor (D : cd_D ln lt E g bk sh top) (R : cd_RY ln lt E g bk sh top v) {a b L fr : Nat} {y : Option Nat} (ha : a < 10) (hb : b < 10) (hab : ¬ a = b) (h1 : 1 ≤ L) (h3 : L ≤ 3) (hfr : E (a + 1) = some (fr, y))
    (hT : cd_full E fr L → post (-3) v) (hF : ¬ cd_full E fr L → ∀ v', cd_RY ln lt (cd_te E fr L b) g bk sh top v' → post (nI (cd_nw fr L)) v') : wpY_tailor post v (nI a) (nI b) (nI L) := by
  obtain ⟨f_longer, f_backwards, f_shifted, f_top, f_many, a_sizes, a_letters, a_words, a_counts, a_ones, a_twos, a_first, a_second, a_third, a_fourth, a_keySizes, a_keys⟩ := v
  obtain ⟨wd, S⟩ := R
  obtain ⟨s1, s2, s3, s4, s5, s6, s7⟩ := S
  have d4 := D.2.2.2.1
  have d3 := D.2.2.1
  have hf := (d3.1 _ fr y hfr).1.1
  have hfy := cd_full_y (fr := fr) (L := L) s7
  have mb := cd_mo_lt L
  have wb := cd_wt_lt (L := L) hf
  have ec : a_ones a = nI fr := by
    obtain ⟨x, y', e1, e2, -⟩ := s7.2.2.1 a (by omega)
    rw [s7.2.1 a ha, hfr] at e1
    cases e1
    exact e2
  have hab' : ¬ nI a = nI b := fun z => hab ((nI_eq (by omega) (by omega)).mp z)
  have go : ∀ ft : Bool, (ft = false ↔ cd_mo L ≤ cd_wt fr L) → ∃ n, wY_tailor_77 post (nI b) (nI L) (nI fr) (nI (cd_mo L)) f_longer f_backwards f_shifted f_top f_many a_sizes a_letters a_words a_counts a_ones a_twos a_first a_second a_third a_fourth a_keySizes a_keys n (cd_bI ft) 0 := by
    intro ft hft
    refine ⟨10 + g + 1, cd_yTa_77 d4 s1 d3 s7 hf h1 h3 (10 + g) 0 ft _ (by omega) (by omega) (fun z => hT (hfy.mpr ?_)) (fun z => ?_)⟩
    · rcases z with z | ⟨k', -, z2, z3⟩
      · exact Or.inl (hft.mp z)
      · exact Or.inr ⟨k', z2, z3⟩
    · have nf : ¬ cd_full E fr L := by
        intro q
        rcases hfy.mp q with q | ⟨k', q1, q2⟩
        · exact z (Or.inl (hft.mpr q))
        · exact z (Or.inr ⟨k', Nat.zero_le _, q1, q2⟩)
      refine ⟨10 + g + 1, cd_yTa_209 d4 s1 hb d3 s7 hf h1 h3 (fun o t hd => ?_) (10 + g) 0 _ a_ones a_twos (by omega) (by omega) (fun j hj => by omega) (fun j _ => ⟨rfl, rfl⟩)⟩
      exact hF nf _ ⟨wd, s1, s2, s3, s4, s5, s6, cd_YE_te s7 hb hd⟩
  have l9 : ∀ k, k < 10 → ¬ (9 : Int32) < nI k := fun k hk z => nI_ge (b := 10) hk (by omega) (cd_9.mp z)
  refine br_f (nI_pos (by omega)) (br_f (l9 a ha) (br_f (nI_pos (by omega)) (br_f (l9 b hb) (br_f hab' (br_f (nI_nlt (b := 1) h1 (by omega)) (br_t (nI_le (b := 3) h3 (by omega)) ?_))))))
  rw [nI_clamp (n := a) (by omega), ec]
  refine And.intro (vp_in_nI (by omega) (by omega)) (nm_e (cd_yMost h1 h3 (cd_yWeight hf h1 h3 ?_)))
  by_cases c : cd_mo L ≤ cd_wt fr L
  · exact br_t (nI_le c (by omega)) (go false ⟨fun _ => c, fun _ => rfl⟩)
  · exact br_f (nI_ge (by omega) (by omega)) (go true ⟨(fun z => by cases z), fun z => absurd z c⟩)
theorem cd_yTailor_b {x y z : Int32} (hx : cd_bad 10 x ∨ cd_bad 10 y ∨ x = y) (h : post (-1) v) : wpY_tailor post v x y z := by
  obtain ⟨f_longer, f_backwards, f_shifted, f_top, f_many, a_sizes, a_letters, a_words, a_counts, a_ones, a_twos, a_first, a_second, a_third, a_fourth, a_keySizes, a_keys⟩ := v
  refine br_c (fun _ => h) (fun n1 => br_c (fun _ => h) (fun n2 => br_c (fun _ => h) (fun n3 => br_c (fun _ => h) (fun n4 => br_t ?_ h))))
  rcases hx with hx | hx | hx
  · exact absurd (cd_9.mpr (cd_bad_ge (n := 10) hx (by omega) n1)) n2
  · exact absurd (cd_9.mpr (cd_bad_ge (n := 10) hx (by omega) n3)) n4
  · exact hx
theorem cd_yTailor_l {i j : Nat} (hi : i < 10) (hj : j < 10) (hij : ¬ i = j) {z : Int32} (hz : cd_badL z) (h : post (-2) v) : wpY_tailor post v (nI i) (nI j) z := by
  obtain ⟨f_longer, f_backwards, f_shifted, f_top, f_many, a_sizes, a_letters, a_words, a_counts, a_ones, a_twos, a_first, a_second, a_third, a_fourth, a_keySizes, a_keys⟩ := v
  have l9 : ∀ k, k < 10 → ¬ (9 : Int32) < nI k := fun k hk z => nI_ge (b := 10) hk (by omega) (cd_9.mp z)
  exact br_f (nI_pos (by omega)) (br_f (l9 i hi) (br_f (nI_pos (by omega)) (br_f (l9 j hj) (br_f (fun z => hij ((nI_eq (by omega) (by omega)).mp z)) (br_c (fun _ => h) (fun n => br_f (cd_badL_gt hz n) h))))))
end YTAILOR2
end
section
/-! the beginning, the relation, the owed statements -/
def cd_E0 : cd_E := fun w => if 1 ≤ w ∧ w ≤ 10 then some (w + 288, none) else none
theorem cd_E0_s {w : Nat} (h1 : 1 ≤ w) (h2 : w ≤ 10) : cd_E0 w = some (w + 288, none) := if_pos ⟨h1, h2⟩
theorem cd_E0_some {w : Nat} (h : (cd_E0 w).isSome = true) : 1 ≤ w ∧ w ≤ 10 := by
  unfold cd_E0 at h
  by_cases c : 1 ≤ w ∧ w ≤ 10
  · exact c
  · rw [if_neg c] at h
    cases h
theorem cd_E0_ok : cd_Ok cd_E0 := by
  refine ⟨fun w a b e => ?_, fun c hc => ?_⟩
  · have h := cd_E0_some (w := w) (by rw [e]; rfl)
    rw [cd_E0_s h.1 h.2] at e
    cases e
    exact ⟨⟨by omega, by omega⟩, fun c q => by cases q⟩
  · rw [cd_E0_s (by omega) (by omega)]
    rfl
theorem cd_D0 : cd_D (fun _ => 0) (fun _ => 0) cd_E0 0 0 0 0 := ⟨fun _ _ => Nat.zero_le 12, fun _ _ => Nat.zero_lt_succ 9, cd_E0_ok, Nat.zero_le 6, Nat.zero_le 1, Nat.zero_le 1, Nat.zero_le 30⟩
theorem cd_el289 (c : Nat) : ((nI c + 1) + (32 * 1)) + (256 * 1) = nI (c + 1 + 288) := by
  rw [nI_1, show (32 : Int32) * 1 = nI 32 by decide, show (256 : Int32) * 1 = nI 256 by decide, nI_add, nI_add]
theorem cd_el289' (c : Nat) : ((nI c + 1) + 32) + 256 = nI (c + 1 + 288) := by
  rw [nI_1, show (32 : Int32) = nI 32 by decide, show (256 : Int32) = nI 256 by decide, nI_add, nI_add]
theorem cd_xInit_86 {post : SX → Prop} (h : ∀ cl, (∀ c, c < 10 → cl (2 * c) = nI (c + 1 + 288) ∧ cl (2 * c + 1) = -1) → post (0, 0, 0, 0, 0, 0, 0, fun _ => 0, fun _ => 0, cl, fun _ => 0, fun _ => 0, fun _ => 0, fun _ => 0, fun _ => 0, fun _ => 0, fun _ => 0)) :
    ∀ d c n cl, c + d = 10 → d < n → (∀ j, j < c → cl (2 * j) = nI (j + 1 + 288) ∧ cl (2 * j + 1) = -1) →
      wX_init_86 post 0 0 0 0 0 0 0 n (nI c) (fun _ => 0) (fun _ => 0) cl (fun _ => 0) (fun _ => 0) (fun _ => 0) (fun _ => 0) (fun _ => 0) (fun _ => 0) (fun _ => 0) := by
  intro d
  induction d with
  | zero =>
    intro c n cl hc hn hcl
    obtain ⟨n, rfl⟩ : ∃ m, n = m + 1 := ⟨n - 1, by omega⟩
    exact br_t (nI_le (a := 10) (by omega) (by omega)) (h cl (fun j hj => hcl j (by omega)))
  | succ d ih =>
    intro c n cl hc hn hcl
    obtain ⟨n, rfl⟩ : ∃ m, n = m + 1 := ⟨n - 1, by omega⟩
    refine br_f (nI_ge (b := 10) (by omega) (by omega)) ?_
    unfold wpX_elementOf
    rw [cd_el289, cd_m2, nI_1 (2 * c), nI_clamp (n := 2 * c) (by omega), nI_clamp (n := 2 * c + 1) (by omega)]
    refine And.intro (vp_in_nI (by omega) (by omega)) (nm_e (And.intro (vp_in_nI (by omega) (by omega)) (nm_e (nm_r (nI_1 c) (ih (c + 1) n _ (by omega) (by omega) (fun j hj => ?_))))))
    by_cases e : j = c
    · rw [e, pk_us, pk_un (by omega), pk_us]
      exact ⟨rfl, rfl⟩
    · rw [pk_un (by omega), pk_un (by omega), pk_un (by omega), pk_un (by omega)]
      exact hcl j (by omega)
theorem cd_yInit_102 {post : SY → Prop} (h : ∀ wds cts ons, (∀ c, c < 10 → wds c = nI (c + 1) ∧ cts c = 1 ∧ ons c = nI (c + 1 + 288)) → post (0, 0, 0, 0, 0, fun _ => 0, fun _ => 0, wds, cts, ons, fun _ => 0, fun _ => 0, fun _ => 0, fun _ => 0, fun _ => 0, fun _ => 0, fun _ => 0)) :
    ∀ d c n wds cts ons, c + d = 10 → d < n → (∀ j, j < c → wds j = nI (j + 1) ∧ cts j = 1 ∧ ons j = nI (j + 1 + 288)) →
      wY_init_102 post 0 0 0 0 0 n (nI c) (fun _ => 0) (fun _ => 0) wds cts ons (fun _ => 0) (fun _ => 0) (fun _ => 0) (fun _ => 0) (fun _ => 0) (fun _ => 0) (fun _ => 0) := by
  intro d
  induction d with
  | zero =>
    intro c n wds cts ons hc hn hcl
    obtain ⟨n, rfl⟩ : ∃ m, n = m + 1 := ⟨n - 1, by omega⟩
    exact br_t (nI_le (a := 10) (by omega) (by omega)) (h wds cts ons (fun j hj => hcl j (by omega)))
  | succ d ih =>
    intro c n wds cts ons hc hn hcl
    obtain ⟨n, rfl⟩ : ∃ m, n = m + 1 := ⟨n - 1, by omega⟩
    have hv : vp_in (nI c) 16 := vp_in_nI (by omega) (by omega)
    have ec : (nI c).toNatClampNeg = c := nI_clamp (by omega)
    refine br_f (nI_ge (b := 10) (by omega) (by omega)) ?_
    refine And.intro hv (nm_r (e' := upd wds c (nI (c + 1))) (by rw [ec, nI_1]) (And.intro hv (nm_r (e' := upd cts c 1) (by rw [ec]) (And.intro hv (nm_r (e' := upd ons c (nI (c + 1 + 288))) (by rw [ec, cd_el289']) (nm_r (nI_1 c) (ih (c + 1) n _ _ _ (by omega) (by omega) (fun j hj => ?_))))))))
    by_cases e : j = c
    · rw [e, pk_us, pk_us, pk_us]
      exact ⟨rfl, rfl, rfl⟩
    · rw [pk_un e, pk_un e, pk_un e]
      exact hcl j (by omega)
/-- the relation: one pure state for both -/
def i_Rel (k : Nat) (u : SX) (v : SY) : Prop := ∃ ln lt E g bk sh top, cd_D ln lt E g bk sh top ∧ cd_RX ln lt E g bk sh top u ∧ cd_RY ln lt E g bk sh top v
theorem i_up {k : Nat} {u : SX} {v : SY} (h : i_Rel k u v) : i_Rel (k + 5) u v := h
theorem i_vc0 : wpX_init (fun u => wpY_init (fun v => i_Rel 0 u v)) := by
  refine Exists.intro 11 (cd_xInit_86 (fun cl hcl => ?_) 10 0 11 (fun _ => 0) (by omega) (by omega) (fun j hj => by omega))
  refine Exists.intro 11 (cd_yInit_102 (fun wds cts ons hy => ?_) 10 0 11 (fun _ => 0) (fun _ => 0) (fun _ => 0) (by omega) (by omega) (fun j hj => by omega))
  refine ⟨fun _ => 0, fun _ => 0, cd_E0, 0, 0, 0, 0, cd_D0, ?_, ?_⟩
  · refine ⟨⟨fun _ => 0, fun _ => 0, rfl, rfl, rfl, rfl, fun _ _ => rfl, fun _ _ => rfl, ⟨fun i hi => absurd hi (Nat.not_lt_zero i), fun _ _ => ⟨rfl, Nat.zero_lt_succ 9⟩, fun c i _ hi => absurd hi (Nat.not_lt_zero i)⟩, ?_⟩, cd_CA_all⟩
    refine ⟨fun i hi => absurd hi (Nat.not_lt_zero i), fun c hc => ?_, fun i j hi => absurd hi (Nat.not_lt_zero i), fun w hw => ?_⟩
    · exact ⟨c + 1 + 288, none, cd_E0_s (by omega) (by omega), (hcl c hc).1, (hcl c hc).2⟩
    · have := cd_E0_some hw
      exact Or.inl ⟨w - 1, by omega, by omega⟩
  · refine ⟨fun j => j + 1, rfl, rfl, rfl, rfl, fun _ _ => rfl, fun _ _ => rfl, fun e he => ⟨(hy e (by omega)).1, by show e + 1 < 2 ^ 31; omega⟩, fun c _ => rfl, fun e he => ?_, fun e e' _ _ q => Nat.succ.inj q, fun w hw => ?_⟩
    · exact ⟨e + 1 + 288, none, cd_E0_s (w := e + 1) (by omega) (by omega), (hy e (by omega)).2.2, (hy e (by omega)).2.1, fun c q => by cases q⟩
    · have := cd_E0_some hw
      exact ⟨w - 1, by omega, by show w - 1 + 1 = w; omega⟩
theorem i_vc_put {k : Nat} {u : SX} {v : SY} (I : i_Rel k u v) (hk : k + 5 ≤ 2560) (v1 : Int32) (v2 : Int32) : wpX_put (fun r u' => wpY_put (fun r' v' => r' = r ∧ i_Rel (k + 5) u' v') v v1 v2) u v1 v2 := by
  obtain ⟨ln, lt, E, g, bk, sh, top, D, RX, RY⟩ := id I
  rcases cd_slot 10 v1 with ⟨s, hs, rfl⟩ | hb
  · rcases cd_slot 10 v2 with ⟨c, hc, rfl⟩ | hc
    · by_cases h12 : ln s < 12
      · exact cd_xPut D RX hs hc h12 (fun u' R' => cd_yPut RY hs hc h12 (fun v' R2 => ⟨rfl, _, _, _, _, _, _, _, cd_D_put D hs hc h12, R', R2⟩))
      · exact cd_xPut_f D RX hs hc h12 (cd_yPut_f D RY hs hc h12 ⟨rfl, I⟩)
    · exact cd_xPut_l hs hc (cd_yPut_l hs hc ⟨rfl, I⟩)
  · exact cd_xPut_b hb (cd_yPut_b hb ⟨rfl, I⟩)
theorem i_vc_take {k : Nat} {u : SX} {v : SY} (I : i_Rel k u v) (hk : k + 5 ≤ 2560) (v1 : Int32) : wpX_take (fun r u' => wpY_take (fun r' v' => r' = r ∧ i_Rel (k + 5) u' v') v v1) u v1 := by
  obtain ⟨ln, lt, E, g, bk, sh, top, D, RX, RY⟩ := id I
  rcases cd_slot 10 v1 with ⟨s, hs, rfl⟩ | hb
  · by_cases h0 : ln s = 0
    · exact cd_xTake_e RX hs h0 (cd_yTake_e RY hs h0 ⟨rfl, I⟩)
    · exact cd_xTake D RX hs h0 (fun u' R' => cd_yTake D RY hs h0 (fun v' R2 => ⟨rfl, _, _, _, _, _, _, _, cd_D_take D hs, R', R2⟩))
  · exact cd_xTake_b hb (cd_yTake_b hb ⟨rfl, I⟩)
theorem i_vc_copy {k : Nat} {u : SX} {v : SY} (I : i_Rel k u v) (hk : k + 5 ≤ 2560) (v1 : Int32) (v2 : Int32) : wpX_copy (fun r u' => wpY_copy (fun r' v' => r' = r ∧ i_Rel (k + 5) u' v') v v1 v2) u v1 v2 := by
  obtain ⟨ln, lt, E, g, bk, sh, top, D, RX, RY⟩ := id I
  rcases cd_slot 10 v1 with ⟨s, hs, rfl⟩ | hb
  · rcases cd_slot 10 v2 with ⟨o, ho, rfl⟩ | hc
    · exact cd_xCopy D RX hs ho (fun u' R' => cd_yCopy D RY hs ho (fun v' R2 => ⟨rfl, _, _, _, _, _, _, _, cd_D_copy D hs ho, R', R2⟩))
    · exact cd_xCopy_b (Or.inr hc) (cd_yCopy_b (Or.inr hc) ⟨rfl, I⟩)
  · exact cd_xCopy_b (Or.inl hb) (cd_yCopy_b (Or.inl hb) ⟨rfl, I⟩)
theorem cd_D_ue {ln lt : Nat → Nat} {E : cd_E} {g bk sh top : Nat} (D : cd_D ln lt E g bk sh top) {g' : Nat} (hg : g' ≤ 6) {w a : Nat} {b : Option Nat} (ha : cd_ok a) (hb : ∀ c, b = some c → cd_ok c) : cd_D ln lt (cd_ue E w (some (a, b))) g' bk sh top :=
  ⟨D.1, D.2.1, cd_Ok_ue D.2.2.1 w ha hb, hg, D.2.2.2.2⟩
theorem i_vc_entry {k : Nat} {u : SX} {v : SY} (I : i_Rel k u v) (hk : k + 5 ≤ 2560) (v1 : Int32) (v2 : Int32) (v3 : Int32) : wpX_entry (fun r u' => wpY_entry (fun r' v' => r' = r ∧ i_Rel (k + 5) u' v') v v1 v2 v3) u v1 v2 v3 := by
  obtain ⟨ln, lt, E, g, bk, sh, top, D, RX, RY⟩ := id I
  have d4 := D.2.2.2.1
  rcases cd_word_em v1 with hw | ⟨w, l, hw⟩
  · exact cd_xEntry_w RX hw (fun u' R' => cd_yEntry_w RY hw ⟨rfl, ln, lt, E, g, bk, sh, top, D, R', RY⟩)
  · rcases Classical.em (∃ e, cd_ok e ∧ v2 = nI e) with ⟨a, ha, rfl⟩ | c
    · have main : ∀ b : Option Nat, (∀ c, b = some c → cd_ok c) → v3 = cd_oI b → wpX_entry (fun r u' => wpY_entry (fun r' v' => r' = r ∧ i_Rel (k + 5) u' v') v v1 (nI a) v3) u v1 (nI a) v3 := by
        intro b hb hy
        refine cd_xEntry' D RX hw ha hb hy (fun q u' R' => ?_) (fun q q6 u' R' => ?_) (fun q q6 u' R' => ?_)
        · refine cd_yEntry' D RY hw ha hb hy (fun _ v' R2 => ?_) (fun z _ => ?_) (fun z _ => ?_)
          · exact ⟨rfl, _, _, _, _, _, _, _, cd_D_ue D d4 ha hb, R', R2⟩
          · rw [z] at q
            cases q
          · rw [z] at q
            cases q
        · refine cd_yEntry' D RY hw ha hb hy (fun z => ?_) (fun _ _ v' R2 => ?_) (fun _ z => ?_)
          · rw [q] at z
            cases z
          · exact ⟨rfl, _, _, _, _, _, _, _, cd_D_ue D (by omega) ha hb, R', R2⟩
          · omega
        · refine cd_yEntry' D RY hw ha hb hy (fun z => ?_) (fun _ z => ?_) (fun _ _ v' R2 => ?_)
          · rw [q] at z
            cases z
          · omega
          · exact ⟨rfl, _, _, _, _, _, _, _, D, R', R2⟩
      by_cases c1 : v3 = -1
      · exact main none (fun c q => by cases q) c1
      · rcases Classical.em (∃ e, cd_ok e ∧ v3 = nI e) with ⟨b, hb, e⟩ | c2
        · exact main (some b) (fun c q => by cases q; exact hb) e
        · exact cd_xEntry_e RX hw (Or.inr ⟨c2, c1⟩) (fun u' R' => cd_yEntry_e hw (Or.inr ⟨c2, c1⟩) ⟨rfl, ln, lt, E, g, bk, sh, top, D, R', RY⟩)
    · exact cd_xEntry_e RX hw (Or.inl c) (fun u' R' => cd_yEntry_e hw (Or.inl c) ⟨rfl, ln, lt, E, g, bk, sh, top, D, R', RY⟩)
theorem i_vc_forget {k : Nat} {u : SX} {v : SY} (I : i_Rel k u v) (hk : k + 5 ≤ 2560) (v1 : Int32) : wpX_forget (fun r u' => wpY_forget (fun r' v' => r' = r ∧ i_Rel (k + 5) u' v') v v1) u v1 := by
  obtain ⟨ln, lt, E, g, bk, sh, top, D, RX, RY⟩ := id I
  have d4 := D.2.2.2.1
  rcases cd_word_em v1 with hw | ⟨w, l, hw⟩
  · exact cd_xForget_w RX (Or.inl hw) (fun u' R' => cd_yForget_w (Or.inl hw) ⟨rfl, ln, lt, E, g, bk, sh, top, D, R', RY⟩)
  · by_cases h2 : 2 ≤ l.length
    · obtain ⟨w1, w2, w3, w4, w5⟩ := cd_word_f hw
      have h5 : ∀ c, c < 10 → ¬ c + 1 = w := by
        rw [← w1]
        exact cd_vl_long h2 w4
      refine cd_xForget D RX hw h2 (fun q q1 u' R' => ?_) (fun q u' R' => ?_)
      · refine cd_yForget D RY hw h2 (fun _ _ v' R2 => ?_) (fun z => ?_)
        · exact ⟨rfl, ln, lt, cd_ue E w none, g - 1, bk, sh, top, ⟨D.1, D.2.1, cd_Ok_un D.2.2.1 w h5, by omega, D.2.2.2.2⟩, R', R2⟩
        · rw [z] at q
          cases q
      · refine cd_yForget D RY hw h2 (fun z => ?_) (fun _ v' R2 => ?_)
        · rw [q] at z
          cases z
        · exact ⟨rfl, ln, lt, E, g, bk, sh, top, D, R', R2⟩
    · exact cd_xForget_w RX (Or.inr ⟨w, l, hw, h2⟩) (fun u' R' => cd_yForget_w (Or.inr ⟨w, l, hw, h2⟩) ⟨rfl, ln, lt, E, g, bk, sh, top, D, R', RY⟩)
theorem i_vc_tailor {k : Nat} {u : SX} {v : SY} (I : i_Rel k u v) (hk : k + 5 ≤ 2560) (v1 : Int32) (v2 : Int32) (v3 : Int32) : wpX_tailor (fun r u' => wpY_tailor (fun r' v' => r' = r ∧ i_Rel (k + 5) u' v') v v1 v2 v3) u v1 v2 v3 := by
  obtain ⟨ln, lt, E, g, bk, sh, top, D, RX, RY⟩ := id I
  have bad : (cd_bad 10 v1 ∨ cd_bad 10 v2 ∨ v1 = v2) → wpX_tailor (fun r u' => wpY_tailor (fun r' v' => r' = r ∧ i_Rel (k + 5) u' v') v v1 v2 v3) u v1 v2 v3 := fun h => cd_xTailor_b h (cd_yTailor_b h ⟨rfl, I⟩)
  rcases cd_slot 10 v1 with ⟨a, ha, rfl⟩ | c
  · rcases cd_slot 10 v2 with ⟨b, hb, rfl⟩ | c
    · by_cases hab : a = b
      · exact bad (Or.inr (Or.inr (congrArg nI hab)))
      · rcases Classical.em (∃ t, 1 ≤ t ∧ t ≤ 3 ∧ v3 = nI t) with ⟨L, h1, h3, rfl⟩ | c
        · have hs := D.2.2.1.2 a ha
          cases hfr : E (a + 1) with
          | none =>
            rw [hfr] at hs
            cases hs
          | some p =>
            obtain ⟨fr, y⟩ := p
            have hok := (D.2.2.1.1 _ fr y hfr).1
            refine cd_xTailor D RX ha hb hab h1 h3 hfr (fun q => ?_) (fun q u' R' => ?_)
            · exact cd_yTailor D RY ha hb hab h1 h3 hfr (fun _ => ⟨rfl, I⟩) (fun z => absurd q z)
            · exact cd_yTailor D RY ha hb hab h1 h3 hfr (fun z => absurd z q) (fun _ v' R2 => ⟨rfl, ln, lt, cd_te E fr L b, g, bk, sh, top, ⟨D.1, D.2.1, cd_te_ok D.2.2.1 hok h1 h3 q, D.2.2.2⟩, R', R2⟩)
        · exact cd_xTailor_l ha hb hab c (cd_yTailor_l ha hb hab c ⟨rfl, I⟩)
    · exact bad (Or.inr (Or.inl c))
  · exact bad (Or.inl c)
theorem i_vc_settings {k : Nat} {u : SX} {v : SY} (I : i_Rel k u v) (hk : k + 5 ≤ 2560) (v1 : Int32) (v2 : Int32) (v3 : Int32) : wpX_settings (fun r u' => wpY_settings (fun r' v' => r' = r ∧ i_Rel (k + 5) u' v') v v1 v2 v3) u v1 v2 v3 := by
  obtain ⟨ln, lt, E, g, bk, sh, top, D, RX, RY⟩ := id I
  rcases cd_slot 2 v1 with ⟨b, hb, rfl⟩ | c
  · rcases cd_slot 2 v2 with ⟨c, hc, rfl⟩ | c
    · rcases cd_slot 31 v3 with ⟨t, ht, rfl⟩ | c
      · exact cd_xSet D RX hb hc ht (fun u' R' => cd_ySet RY hb hc ht (fun v' R2 => ⟨rfl, ln, lt, E, g, b, c, t, ⟨D.1, D.2.1, D.2.2.1, D.2.2.2.1, by omega, by omega, by omega⟩, R', R2⟩))
      · exact cd_xSet_t hb hc c (cd_ySet_t hb hc c ⟨rfl, I⟩)
    · exact cd_xSet_b (Or.inr c) (cd_ySet_b (Or.inr c) ⟨rfl, I⟩)
  · exact cd_xSet_b (Or.inl c) (cd_ySet_b (Or.inl c) ⟨rfl, I⟩)
theorem i_vc_elements {k : Nat} {u : SX} {v : SY} (I : i_Rel k u v) (hk : k + 5 ≤ 2560) (v1 : Int32) : wpX_elements (fun r u' => wpY_elements (fun r' v' => r' = r ∧ i_Rel (k + 5) u' v') v v1) u v1 := by
  obtain ⟨ln, lt, E, g, bk, sh, top, D, RX, RY⟩ := id I
  rcases cd_slot 10 v1 with ⟨s, hs, rfl⟩ | hb
  · exact cd_xElements D RX hs (fun u' R' => cd_yElements D RY hs (fun v' R2 => ⟨rfl, ln, lt, E, g, bk, sh, top, D, R', R2⟩))
  · exact cd_xElements_b hb (cd_yElements_b hb ⟨rfl, I⟩)
theorem i_vc_compare {k : Nat} {u : SX} {v : SY} (I : i_Rel k u v) (hk : k + 5 ≤ 2560) (v1 : Int32) (v2 : Int32) (v3 : Int32) : wpX_compare (fun r u' => wpY_compare (fun r' v' => r' = r ∧ i_Rel (k + 5) u' v') v v1 v2 v3) u v1 v2 v3 := by
  obtain ⟨ln, lt, E, g, bk, sh, top, D, RX, RY⟩ := id I
  rcases cd_slot 10 v1 with ⟨i, hi, rfl⟩ | c
  · rcases cd_slot 10 v2 with ⟨j, hj, rfl⟩ | c
    · rcases cd_str v3 with ⟨t, h1, h4, rfl⟩ | c
      · exact cd_xCompare D RX hi hj h1 h4 (fun u' R' => cd_yCompare D RY hi hj h1 h4 (fun v' R2 => ⟨rfl, ln, lt, E, g, bk, sh, top, D, R', R2⟩))
      · exact cd_xCompare_s hi hj c (cd_yCompare_s hi hj c ⟨rfl, I⟩)
    · exact cd_xCompare_b (Or.inr c) (cd_yCompare_b (Or.inr c) ⟨rfl, I⟩)
  · exact cd_xCompare_b (Or.inl c) (cd_yCompare_b (Or.inl c) ⟨rfl, I⟩)
theorem i_vc_keySize {k : Nat} {u : SX} {v : SY} (I : i_Rel k u v) (hk : k + 5 ≤ 2560) (v1 : Int32) (v2 : Int32) : wpX_keySize (fun r u' => wpY_keySize (fun r' v' => r' = r ∧ i_Rel (k + 5) u' v') v v1 v2) u v1 v2 := by
  obtain ⟨ln, lt, E, g, bk, sh, top, D, RX, RY⟩ := id I
  rcases cd_slot 10 v1 with ⟨i, hi, rfl⟩ | c
  · rcases cd_str v2 with ⟨t, h1, h4, rfl⟩ | c
    · exact cd_xKeySize D RX hi h1 h4 (fun u' R' => cd_yKeySize D RY hi h1 h4 (fun v' R2 => ⟨rfl, ln, lt, E, g, bk, sh, top, D, R', R2⟩))
    · exact cd_xKeySize_s hi c (cd_yKeySize_s hi c ⟨rfl, I⟩)
  · exact cd_xKeySize_b c (cd_yKeySize_b c ⟨rfl, I⟩)
theorem i_vc_keyAt {k : Nat} {u : SX} {v : SY} (I : i_Rel k u v) (hk : k + 5 ≤ 2560) (v1 : Int32) (v2 : Int32) (v3 : Int32) : wpX_keyAt (fun r u' => wpY_keyAt (fun r' v' => r' = r ∧ i_Rel (k + 5) u' v') v v1 v2 v3) u v1 v2 v3 := by
  obtain ⟨ln, lt, E, g, bk, sh, top, D, RX, RY⟩ := id I
  rcases cd_slot 10 v1 with ⟨i, hi, rfl⟩ | c
  · rcases cd_str v2 with ⟨t, h1, h4, rfl⟩ | c
    · rcases cd_slot (cd_kf ln lt E bk sh top t i).length v3 with ⟨p, hp, rfl⟩ | c
      · exact cd_xKeyAt D RX hi h1 h4 hp (fun u' R' => cd_yKeyAt D RY hi h1 h4 hp (fun v' R2 => ⟨rfl, ln, lt, E, g, bk, sh, top, D, R', R2⟩))
      · exact cd_xKeyAt_p D RX hi h1 h4 c (fun u' R' => cd_yKeyAt_p D RY hi h1 h4 c (fun v' R2 => ⟨rfl, ln, lt, E, g, bk, sh, top, D, R', R2⟩))
    · exact cd_xKeyAt_s hi c (cd_yKeyAt_s hi c ⟨rfl, I⟩)
  · exact cd_xKeyAt_b c (cd_yKeyAt_b c ⟨rfl, I⟩)
theorem i_vc_rank {k : Nat} {u : SX} {v : SY} (I : i_Rel k u v) (hk : k + 5 ≤ 2560) (v1 : Int32) (v2 : Int32) : wpX_rank (fun r u' => wpY_rank (fun r' v' => r' = r ∧ i_Rel (k + 5) u' v') v v1 v2) u v1 v2 := by
  obtain ⟨ln, lt, E, g, bk, sh, top, D, RX, RY⟩ := id I
  rcases cd_slot 10 v1 with ⟨i, hi, rfl⟩ | c
  · rcases cd_str v2 with ⟨t, h1, h4, rfl⟩ | c
    · exact cd_xRank D RX hi h1 h4 (fun u' R' => cd_yRank D RY hi h1 h4 (fun v' R2 => ⟨rfl, ln, lt, E, g, bk, sh, top, D, R', R2⟩))
    · exact cd_xRank_s hi c (cd_yRank_s hi c ⟨rfl, I⟩)
  · exact cd_xRank_b c (cd_yRank_b c ⟨rfl, I⟩)
theorem i_vc_nth {k : Nat} {u : SX} {v : SY} (I : i_Rel k u v) (hk : k + 5 ≤ 2560) (v1 : Int32) (v2 : Int32) : wpX_nth (fun r u' => wpY_nth (fun r' v' => r' = r ∧ i_Rel (k + 5) u' v') v v1 v2) u v1 v2 := by
  obtain ⟨ln, lt, E, g, bk, sh, top, D, RX, RY⟩ := id I
  rcases cd_str v2 with ⟨t, h1, h4, rfl⟩ | c
  · rcases cd_slot 10 v1 with ⟨i, hi, rfl⟩ | c
    · exact cd_xNth D RX hi h1 h4 (fun u' m R' hm hu => cd_yNth D RY hi h1 h4 hm hu (fun v' R2 => ⟨rfl, ln, lt, E, g, bk, sh, top, D, R', R2⟩))
    · exact cd_xNth_b h1 h4 c (cd_yNth_b h1 h4 c ⟨rfl, I⟩)
  · exact cd_xNth_s c (cd_yNth_s c ⟨rfl, I⟩)
theorem i_vc_kinds {k : Nat} {u : SX} {v : SY} (I : i_Rel k u v) (hk : k + 5 ≤ 2560) (v1 : Int32) : wpX_kinds (fun r u' => wpY_kinds (fun r' v' => r' = r ∧ i_Rel (k + 5) u' v') v v1) u v1 := by
  obtain ⟨ln, lt, E, g, bk, sh, top, D, RX, RY⟩ := id I
  rcases cd_str v1 with ⟨t, h1, h4, rfl⟩ | c
  · exact cd_xKinds D RX h1 h4 (fun u' R' => cd_yKinds D RY h1 h4 (fun v' R2 => ⟨rfl, ln, lt, E, g, bk, sh, top, D, R', R2⟩))
  · exact cd_xKinds_s c (cd_yKinds_s c ⟨rfl, I⟩)
theorem i_vc_find {k : Nat} {u : SX} {v : SY} (I : i_Rel k u v) (hk : k + 5 ≤ 2560) (v1 : Int32) (v2 : Int32) (v3 : Int32) (v4 : Int32) : wpX_find (fun r u' => wpY_find (fun r' v' => r' = r ∧ i_Rel (k + 5) u' v') v v1 v2 v3 v4) u v1 v2 v3 v4 := by
  obtain ⟨ln, lt, E, g, bk, sh, top, D, RX, RY⟩ := id I
  rcases cd_slot 10 v1 with ⟨i, hi, rfl⟩ | c
  · rcases cd_slot 10 v2 with ⟨j, hj, rfl⟩ | c
    · rcases cd_str v3 with ⟨t, h1, h4, rfl⟩ | c
      · obtain ⟨b, hx⟩ : ∃ b : Nat, (v4 < 0 ∧ b = 0) ∨ (v4 = nI b ∧ b < 2 ^ 31) := by
          by_cases q : v4 < 0
          · exact ⟨0, Or.inl ⟨q, rfl⟩⟩
          · obtain ⟨n, hn, e⟩ := nI_of q
            exact ⟨n, Or.inr ⟨e, hn⟩⟩
        refine cd_xFind D RX hi hj h1 h4 hx (fun p u' R' p1 p2 p3 p4 => ?_) (fun u' R' pn => ?_)
        · refine cd_yFindR D RY hi hj h1 h4 hx (fun p' v' R2 q1 q2 q3 q4 => ?_) (fun v' R2 qn => absurd p3 (qn p p1 p2))
          have e : p' = p := by
            rcases Nat.lt_trichotomy p' p with z | z | z
            · exact absurd q3 (p4 p' q1 z)
            · exact z
            · exact absurd p3 (q4 p p1 z)
          exact ⟨congrArg nI e, ln, lt, E, g, bk, sh, top, D, R', R2⟩
        · exact cd_yFindR D RY hi hj h1 h4 hx (fun p' v' R2 q1 q2 q3 q4 => absurd q3 (pn p' q1 q2)) (fun v' R2 qn => ⟨rfl, ln, lt, E, g, bk, sh, top, D, R', R2⟩)
      · exact cd_xFind_s hi hj c (cd_yFind_s hi hj c ⟨rfl, I⟩)
    · exact cd_xFind_b (Or.inr c) (cd_yFind_b (Or.inr c) ⟨rfl, I⟩)
  · exact cd_xFind_b (Or.inl c) (cd_yFind_b (Or.inl c) ⟨rfl, I⟩)
end
