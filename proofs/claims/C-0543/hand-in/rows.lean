section
/-! rows of kit/rows, pasted -/
theorem pk_us {f : Nat → Int32} {k : Nat} {x : Int32} : upd f k x k = x := if_pos rfl
theorem pk_un {f : Nat → Int32} {k j : Nat} {x : Int32} (h : j ≠ k) : upd f k x j = f j := if_neg h
theorem pk_sub {a b : Nat} (h : b ≤ a) : nI a - nI b = nI (a - b) := by
  obtain ⟨c, rfl⟩ : ∃ c, a = c + b := ⟨a - b, by omega⟩
  rw [← nI_add, Int32.add_sub_cancel, Nat.add_sub_cancel]
theorem pk_m1 (n : Nat) : nI (n + 1) + (-1) = nI n := by
  rw [← nI_1, Int32.add_assoc, show (1 : Int32) + (-1) = 0 from rfl, Int32.add_zero]
theorem pk_mul (a b : Nat) : nI a * nI b = nI (a * b) := (Int32.ofNat_mul a b).symm
theorem pk_div {a d : Nat} (ha : a < 2 ^ 31) (h0 : 0 < d) (hd : d < 2 ^ 31) : nI a / nI d = nI (a / d) := by
  apply Int32.toInt_inj.mp
  rw [lg_idiv_nonneg (by rw [nI_toInt ha]; omega) (by rw [nI_toInt hd]; omega), nI_toInt ha, nI_toInt hd, nI_toInt (Nat.lt_of_le_of_lt (Nat.div_le_self a d) ha)]
  first | rfl | exact (Int.natCast_ediv _ _).symm
theorem pk_rem {a d : Nat} (ha : a < 2 ^ 31) (h0 : 0 < d) (hd : d < 2 ^ 31) : nI a - nI a / nI d * nI d = nI (a % d) := by
  rw [pk_div ha h0 hd, pk_mul, pk_sub (Nat.div_mul_le_self a d)]
  exact congrArg nI (by have := Nat.div_add_mod' a d; omega)
theorem pk_sub_toInt {a b : Nat} (ha : a < 2 ^ 30) (hb : b < 2 ^ 30) : (nI a - nI b).toInt = (a : Int) - b := by
  rw [Int32.toInt_sub, nI_toInt (by omega), nI_toInt (by omega)]
  exact Int.bmod_eq_of_le (by omega) (by omega)
theorem pk_sneg {a b : Nat} (hb : b < 2 ^ 30) (h : a < b) : nI a - nI b < 0 := by
  rw [Int32.lt_iff_toInt_lt, pk_sub_toInt (by omega) hb, show (0 : Int32).toInt = 0 from by decide]
  omega
theorem pk_ix (x : Int32) {n : Nat} (hn : n < 2 ^ 31) : x < 0 ∨ nI n ≤ x ∨ ∃ j : Nat, j < n ∧ x = nI j := by
  by_cases h : x < 0
  · exact Or.inl h
  · obtain ⟨j, hj, rfl⟩ := nI_of h
    by_cases h2 : j < n
    · exact Or.inr (Or.inr ⟨j, h2, rfl⟩)
    · exact Or.inr (Or.inl (nI_le (by omega) hj))
theorem pk_le {x y : Int32} {A B : Prop} (a b : Nat) (f : a ≤ b → A) (g : b < a → B) (hx : x = nI a := by rfl) (hy : y = nI b := by rfl) (ha : a < 2 ^ 31 := by omega) (hb : b < 2 ^ 31 := by omega) : (x ≤ y → A) ∧ (¬ x ≤ y → B) := by
  subst hx hy
  rw [nI_leI ha hb]
  exact ⟨f, fun z => g (by omega)⟩
theorem pk_lt {x y : Int32} {A B : Prop} (a b : Nat) (f : a < b → A) (g : b ≤ a → B) (hx : x = nI a := by rfl) (hy : y = nI b := by rfl) (ha : a < 2 ^ 31 := by omega) (hb : b < 2 ^ 31 := by omega) : (x < y → A) ∧ (¬ x < y → B) := by
  subst hx hy
  rw [nI_ltI ha hb]
  exact ⟨f, fun z => g (by omega)⟩
theorem pk_eq {x y : Int32} {A B : Prop} (a b : Nat) (f : a = b → A) (g : a ≠ b → B) (hx : x = nI a := by rfl) (hy : y = nI b := by rfl) (ha : a < 2 ^ 31 := by omega) (hb : b < 2 ^ 31 := by omega) : (x = y → A) ∧ (¬ x = y → B) := by
  subst hx hy
  rw [nI_eq ha hb]
  exact ⟨f, g⟩
theorem pk_in {x : Int32} (n N : Nat) (h : n < N) (hx : x = nI n := by rfl) (hN : N < 2 ^ 31 := by omega) : vp_in x N := by
  subst hx
  exact vp_in_nI h hN
theorem pk_cl {x : Int32} (n : Nat) (hx : x = nI n := by rfl) (h : n < 2 ^ 31 := by omega) : x.toNatClampNeg = n := by
  subst hx
  exact nI_clamp h
theorem pk_tn {n : Nat} (h : n < 2 ^ 32) : (nI n).toBitVec.toNat = n := Nat.mod_eq_of_lt h
theorem pk_and (x : Int32) {m : Int32} (k : Nat) (hm : m.toBitVec.toNat = 2 ^ k - 1) : x &&& m = nI (x.toBitVec.toNat % 2 ^ k) := by
  apply Int32.toBitVec_inj.mp
  apply BitVec.eq_of_toNat_eq
  rw [Int32.toBitVec_and, BitVec.toNat_and, hm, Nat.and_two_pow_sub_one_eq_mod]
  show _ = (BitVec.ofNat 32 _).toNat
  rw [BitVec.toNat_ofNat]
  exact (Nat.mod_eq_of_lt (Nat.lt_of_le_of_lt (Nat.mod_le _ _) x.toBitVec.isLt)).symm
theorem pk_andN {n : Nat} (h : n < 2 ^ 32) {m : Int32} (k : Nat) (hm : m.toBitVec.toNat = 2 ^ k - 1) : nI n &&& m = nI (n % 2 ^ k) := by
  rw [pk_and _ k hm, pk_tn h]
theorem pk_andE (x : Int32) {m : Int32} (k : Nat) (hm : m.toBitVec.toNat = 2 ^ k - 1) : ∃ j : Nat, j < 2 ^ k ∧ x &&& m = nI j := ⟨_, Nat.mod_lt _ (Nat.two_pow_pos k), pk_and x k hm⟩
theorem pk_andIn (x : Int32) {m : Int32} (k : Nat) (hm : m.toBitVec.toNat = 2 ^ k - 1) (hk : k ≤ 30) : vp_in (x &&& m) (2 ^ k) := by
  obtain ⟨j, hj, e⟩ := pk_andE x k hm
  rw [e]
  exact vp_in_nI hj (Nat.lt_of_le_of_lt (Nat.pow_le_pow_right (by decide) hk) (by decide))
theorem pk_shl (a s : Int32) (k : Nat) (hs : (s.toBitVec.smod 32).toNat = k) : (a <<< s).toBitVec.toNat = a.toBitVec.toNat * 2 ^ k % 2 ^ 32 := by
  show (a.toBitVec <<< (s.toBitVec.smod 32).toNat).toNat = _
  rw [hs, BitVec.toNat_shiftLeft, Nat.shiftLeft_eq]
theorem pk_shlN {n : Nat} (s : Int32) (k : Nat) (hs : (s.toBitVec.smod 32).toNat = k) (h : n * 2 ^ k < 2 ^ 32) : nI n <<< s = nI (n * 2 ^ k) := by
  apply Int32.toBitVec_inj.mp
  apply BitVec.eq_of_toNat_eq
  have hn : n < 2 ^ 32 := Nat.lt_of_le_of_lt (Nat.le_mul_of_pos_right n (Nat.two_pow_pos k)) h
  rw [pk_shl _ _ k hs, pk_tn hn, pk_tn h, Nat.mod_eq_of_lt h]
theorem pk_shr (a s : Int32) (k : Nat) (hs : (s.toBitVec.smod 32).toNat = k) : (a >>> s).toInt = a.toInt >>> k := by
  show (a.toBitVec.sshiftRight (s.toBitVec.smod 32).toNat).toInt = _
  rw [hs, BitVec.toInt_sshiftRight]
  rfl
theorem pk_shrN {n : Nat} (h : n < 2 ^ 31) (s : Int32) (k : Nat) (hs : (s.toBitVec.smod 32).toNat = k) : nI n >>> s = nI (n / 2 ^ k) := by
  apply Int32.toInt_inj.mp
  have h2 : n / 2 ^ k ≤ n := Nat.div_le_self _ _
  rw [pk_shr _ _ k hs, nI_toInt h, nI_toInt (by omega), Int.shiftRight_eq_div_pow]
  rfl
def bt (x : Int32) (i : Nat) : Bool := x.toBitVec.getLsbD i
theorem b_ext {x y : Int32} (h : ∀ i, i < 32 → bt x i = bt y i) : x = y := Int32.toBitVec_inj.mp (BitVec.eq_of_getLsbD_eq (fun i hi => h i hi))
theorem b_or (x y : Int32) (i : Nat) : bt (x ||| y) i = (bt x i || bt y i) := by unfold bt; rw [Int32.toBitVec_or, BitVec.getLsbD_or]
theorem b_and (x y : Int32) (i : Nat) : bt (x &&& y) i = (bt x i && bt y i) := by unfold bt; rw [Int32.toBitVec_and, BitVec.getLsbD_and]
theorem b_xor (x y : Int32) (i : Nat) : bt (x ^^^ y) i = (bt x i ^^ bt y i) := by unfold bt; rw [Int32.toBitVec_xor, BitVec.getLsbD_xor]
theorem b_big {x : Int32} {i : Nat} (h : 32 ≤ i) : bt x i = false := BitVec.getLsbD_of_ge _ _ h
theorem b_0 (i : Nat) : bt 0 i = false := BitVec.getLsbD_zero
theorem s_l : ∀ n, n < 32 → ((nI n &&& 31).toBitVec.smod 32).toNat = n := by decide +kernel
theorem b_shl (n : Nat) (hn : n < 32) (x : Int32) {i : Nat} (hi : i < 32) : bt (x <<< (nI n &&& 31)) i = (decide (n ≤ i) && bt x (i - n)) := by
  unfold bt
  rw [Int32.toBitVec_shiftLeft]
  show (x.toBitVec <<< ((nI n &&& 31).toBitVec.smod 32).toNat).getLsbD i = _
  rw [s_l n hn, BitVec.getLsbD_shiftLeft]
  rcases Nat.lt_or_ge i n with h | h
  · simp [h, Nat.not_le.mpr h]
  · simp [hi, h, Nat.not_lt.mpr h]
theorem b_sshr (n : Nat) (hn : n < 32) (x : Int32) {i : Nat} (hi : i < 32) : bt (x >>> (nI n &&& 31)) i = if n + i < 32 then bt x (n + i) else bt x 31 := by
  unfold bt
  rw [Int32.toBitVec_shiftRight]
  show (x.toBitVec.sshiftRight ((nI n &&& 31).toBitVec.smod 32).toNat).getLsbD i = _
  rw [s_l n hn, BitVec.getLsbD_sshiftRight, BitVec.msb_eq_getLsbD_last]
  simp [hi]
theorem nx_and (a b : Nat) : nI a &&& nI b = nI (a &&& b) := by
  apply Int32.toBitVec_inj.1
  show BitVec.ofNat 32 a &&& BitVec.ofNat 32 b = BitVec.ofNat 32 (a &&& b)
  apply BitVec.eq_of_getLsbD_eq
  intro i hi
  simp [hi]
theorem nx_xor (a b : Nat) : nI a ^^^ nI b = nI (a ^^^ b) := by
  apply Int32.toBitVec_inj.1
  show BitVec.ofNat 32 a ^^^ BitVec.ofNat 32 b = BitVec.ofNat 32 (a ^^^ b)
  apply BitVec.eq_of_getLsbD_eq
  intro i hi
  simp [hi]
end
section
/-! pure: values, tokens, stages -/
def ps_sh (f : Nat → Int32) (b : Nat) : Nat → Int32 := fun i => f (b + i)
def ps_LF (lf : Int32 → Int32 → Int32) : Prop := (∀ n, lf 0 n = n) ∧ (∀ n, lf 1 n = lf 1 0) ∧ (∀ n, lf 2 n = lf 2 0)
def ps_cb (o x y : Int32) : Int32 := if o = 5 then x + y else if o = 6 then x - y else if o = 7 then x * y else if o = 8 then (if y ≤ x then y else x) else if o = 9 then (if x ≤ y then y else x) else (if y ≤ x then 0 else 1)
def ps_xs (lf : Int32 → Int32 → Int32) (o A B C : Int32) (v : Nat → Int32) : Int32 :=
  if o < 5 then lf o A else if o = 10 then v A.toNatClampNeg >>> ((1 : Int32) &&& 31) else if o = 12 then (if v A.toNatClampNeg ≤ 0 then v C.toNatClampNeg else v B.toNatClampNeg) else ps_cb o (v A.toNatClampNeg) (v B.toNatClampNeg)
def ps_xa (lf : Int32 → Int32 → Int32) (op a b c : Nat → Int32) : Nat → Nat → Int32
  | 0 => fun _ => 0
  | j + 1 => upd (ps_xa lf op a b c j) j (ps_xs lf (op j) (a j) (b j) (c j) (ps_xa lf op a b c j))
def ps_tk (o : Int32) : Nat := if o < 5 then 0 else if o = 10 then 1 else if o = 12 then 3 else 2
def ps_ht (ks : Nat → Int32) : Nat → Nat
  | 0 => 0
  | i + 1 => ps_ht ks i - ps_tk (ks i) + 1
def ps_sv (lf : Int32 → Int32 → Int32) (o A : Int32) (S : Nat → Int32) (p : Nat) : Int32 :=
  if o < 5 then lf o A else if o = 10 then S p >>> ((1 : Int32) &&& 31) else if o = 12 then (if S p ≤ 0 then S (p + 2) else S (p + 1)) else ps_cb o (S p) (S (p + 1))
def ps_sk (lf : Int32 → Int32 → Int32) (ks ag : Nat → Int32) : Nat → Nat → Int32
  | 0 => fun _ => 0
  | i + 1 => upd (ps_sk lf ks ag i) (ps_ht ks i - ps_tk (ks i)) (ps_sv lf (ks i) (ag i) (ps_sk lf ks ag i) (ps_ht ks i - ps_tk (ks i)))
def ps_cn (op : Nat → Int32) : Nat → Nat
  | 0 => 0
  | i + 1 => ps_cn op i + if op i = 4 then 1 else 0
def ps_CK (s : Nat) (op a b c : Nat → Int32) (L : Nat) : Prop := ∀ i, i < L → ∃ q : Nat, q ≤ 12 ∧ op i = nI q ∧ (q = 3 → ∃ r : Nat, r ≤ 8 ∧ a i = nI r) ∧ (q = 4 → ∃ r : Nat, r < 9 * s ∧ a i = nI r) ∧ (5 ≤ q → ∃ r : Nat, r < i ∧ a i = nI r) ∧ (5 ≤ q → q ≠ 10 → ∃ r : Nat, r < i ∧ b i = nI r) ∧ (q = 12 → ∃ r : Nat, r < i ∧ c i = nI r)
def ps_TK (s : Nat) (ks ag : Nat → Int32) (n : Nat) : Prop := ∀ i, i < n → ∃ q : Nat, q ≤ 12 ∧ ks i = nI q ∧ (q = 3 → ∃ r : Nat, r ≤ 8 ∧ ag i = nI r) ∧ (q = 4 → ∃ r : Nat, r < 9 * s ∧ ag i = nI r) ∧ ps_tk (ks i) ≤ ps_ht ks i ∧ ps_ht ks (i + 1) ≤ 6
theorem ps_q {q : Nat} (h : q ≤ 12) : q = 0 ∨ q = 1 ∨ q = 2 ∨ q = 3 ∨ q = 4 ∨ q = 5 ∨ q = 6 ∨ q = 7 ∨ q = 8 ∨ q = 9 ∨ q = 10 ∨ q = 11 ∨ q = 12 := by omega
theorem ps_l5 {q : Nat} (h : q ≤ 12) : nI q < 5 ↔ q < 5 := nI_ltI (b := 5) (by omega) (by decide)
theorem ps_e4 {q : Nat} (h : q ≤ 12) : nI q = 4 ↔ q = 4 := nI_eq (b := 4) (by omega) (by decide)
theorem ps_e10 {q : Nat} (h : q ≤ 12) : nI q = 10 ↔ q = 10 := nI_eq (b := 10) (by omega) (by decide)
theorem ps_e12 {q : Nat} (h : q ≤ 12) : nI q = 12 ↔ q = 12 := nI_eq (b := 12) (by omega) (by decide)
theorem ps_tk_lt {q : Nat} (h : q < 5) : ps_tk (nI q) = 0 := by unfold ps_tk; rw [if_pos ((ps_l5 (by omega)).mpr h)]
theorem ps_tk_10 : ps_tk (nI 10) = 1 := by decide
theorem ps_tk_12 : ps_tk (nI 12) = 3 := by decide
theorem ps_tk_2 {q : Nat} (h : q ≤ 12) (h5 : 5 ≤ q) (h10 : q ≠ 10) (h12 : q ≠ 12) : ps_tk (nI q) = 2 := by
  unfold ps_tk
  rw [if_neg (fun z => by have := (ps_l5 h).mp z; omega), if_neg (fun z => h10 ((ps_e10 h).mp z)), if_neg (fun z => h12 ((ps_e12 h).mp z))]
theorem ps_xs_l {lf : Int32 → Int32 → Int32} {q : Nat} {A B C : Int32} {v : Nat → Int32} (h : q < 5) : ps_xs lf (nI q) A B C v = lf (nI q) A := if_pos ((ps_l5 (by omega)).mpr h)
theorem ps_xs_10 {lf : Int32 → Int32 → Int32} {A B C : Int32} {v : Nat → Int32} : ps_xs lf (nI 10) A B C v = v A.toNatClampNeg >>> ((1 : Int32) &&& 31) := by
  unfold ps_xs; rw [if_neg (by decide), if_pos (by decide)]
theorem ps_xs_12 {lf : Int32 → Int32 → Int32} {A B C : Int32} {v : Nat → Int32} : ps_xs lf (nI 12) A B C v = if v A.toNatClampNeg ≤ 0 then v C.toNatClampNeg else v B.toNatClampNeg := by
  unfold ps_xs; rw [if_neg (by decide), if_neg (by decide), if_pos (by decide)]
theorem ps_xs_2 {lf : Int32 → Int32 → Int32} {q : Nat} {A B C : Int32} {v : Nat → Int32} (h : q ≤ 12) (h5 : 5 ≤ q) (h10 : q ≠ 10) (h12 : q ≠ 12) : ps_xs lf (nI q) A B C v = ps_cb (nI q) (v A.toNatClampNeg) (v B.toNatClampNeg) := by
  unfold ps_xs
  rw [if_neg (fun z => by have := (ps_l5 h).mp z; omega), if_neg (fun z => h10 ((ps_e10 h).mp z)), if_neg (fun z => h12 ((ps_e12 h).mp z))]
theorem ps_sv_l {lf : Int32 → Int32 → Int32} {q : Nat} {A : Int32} {S : Nat → Int32} {p : Nat} (h : q < 5) : ps_sv lf (nI q) A S p = lf (nI q) A := if_pos ((ps_l5 (by omega)).mpr h)
theorem ps_sv_10 {lf : Int32 → Int32 → Int32} {A : Int32} {S : Nat → Int32} {p : Nat} : ps_sv lf (nI 10) A S p = S p >>> ((1 : Int32) &&& 31) := by
  unfold ps_sv; rw [if_neg (by decide), if_pos (by decide)]
theorem ps_sv_12 {lf : Int32 → Int32 → Int32} {A : Int32} {S : Nat → Int32} {p : Nat} : ps_sv lf (nI 12) A S p = if S p ≤ 0 then S (p + 2) else S (p + 1) := by
  unfold ps_sv; rw [if_neg (by decide), if_neg (by decide), if_pos (by decide)]
theorem ps_sv_2 {lf : Int32 → Int32 → Int32} {q : Nat} {A : Int32} {S : Nat → Int32} {p : Nat} (h : q ≤ 12) (h5 : 5 ≤ q) (h10 : q ≠ 10) (h12 : q ≠ 12) : ps_sv lf (nI q) A S p = ps_cb (nI q) (S p) (S (p + 1)) := by
  unfold ps_sv
  rw [if_neg (fun z => by have := (ps_l5 h).mp z; omega), if_neg (fun z => h10 ((ps_e10 h).mp z)), if_neg (fun z => h12 ((ps_e12 h).mp z))]
/-! the list of values: what stands stays -/
theorem ps_xa_st {lf : Int32 → Int32 → Int32} {op a b c : Nat → Int32} {i n : Nat} (hi : i < n) : ∀ m, n ≤ m → ps_xa lf op a b c m i = ps_xa lf op a b c n i := by
  intro m
  induction m with
  | zero => intro h; omega
  | succ m ih =>
    intro h
    rcases Nat.lt_or_ge m n with h2 | h2
    · have : m + 1 = n := by omega
      rw [this]
    · show upd _ m _ i = _
      rw [pk_un (by omega)]
      exact ih h2
theorem ps_xa_top {lf : Int32 → Int32 → Int32} {op a b c : Nat → Int32} (j : Nat) : ps_xa lf op a b c (j + 1) j = ps_xs lf (op j) (a j) (b j) (c j) (ps_xa lf op a b c j) := pk_us
theorem ps_xa_cg {lf : Int32 → Int32 → Int32} {op a b c op' a' b' c' : Nat → Int32} : ∀ n : Nat, (∀ i, i < n → op' i = op i ∧ a' i = a i ∧ b' i = b i ∧ c' i = c i) → ps_xa lf op' a' b' c' n = ps_xa lf op a b c n := by
  intro n
  induction n with
  | zero => intro _; rfl
  | succ n ih =>
    intro h
    obtain ⟨h1, h2, h3, h4⟩ := h n (by omega)
    show upd _ n _ = upd _ n _
    rw [ih (fun i hi => h i (by omega)), h1, h2, h3, h4]
/-- a value's own formula reads only what stands below it -/
theorem ps_xs_cg {lf : Int32 → Int32 → Int32} {op a b c : Nat → Int32} {s L i : Nat} {v v' : Nat → Int32} (h : ps_CK s op a b c L) (hi : i < L) (hL : L ≤ 1000) (hv : ∀ t, t < i → v' t = v t) : ps_xs lf (op i) (a i) (b i) (c i) v' = ps_xs lf (op i) (a i) (b i) (c i) v := by
  obtain ⟨q, hq, e, _, _, hA, hB, hC⟩ := h i hi
  rw [e]
  rcases Nat.lt_or_ge q 5 with h5 | h5
  · rw [ps_xs_l h5, ps_xs_l h5]
  · obtain ⟨r, hr, ea⟩ := hA h5
    have e1 : v' (a i).toNatClampNeg = v (a i).toNatClampNeg := by rw [ea, nI_clamp (by omega)]; exact hv r hr
    by_cases h10 : q = 10
    · subst h10; rw [ps_xs_10, ps_xs_10, e1]
    · obtain ⟨r2, hr2, eb⟩ := hB h5 h10
      have e2 : v' (b i).toNatClampNeg = v (b i).toNatClampNeg := by rw [eb, nI_clamp (by omega)]; exact hv r2 hr2
      by_cases h12 : q = 12
      · subst h12
        obtain ⟨r3, hr3, ec⟩ := hC rfl
        have e3 : v' (c i).toNatClampNeg = v (c i).toNatClampNeg := by rw [ec, nI_clamp (by omega)]; exact hv r3 hr3
        rw [ps_xs_12, ps_xs_12, e1, e2, e3]
      · rw [ps_xs_2 hq h5 h10 h12, ps_xs_2 hq h5 h10 h12, e1, e2]
/-- a value, in terms of any list that agrees below -/
theorem ps_xa_at {lf : Int32 → Int32 → Int32} {op a b c : Nat → Int32} {s L i n : Nat} {v : Nat → Int32} (h : ps_CK s op a b c L) (hi : i < L) (hL : L ≤ 1000) (hn : i < n) (hv : ∀ t, t < i → v t = ps_xa lf op a b c i t) : ps_xa lf op a b c n i = ps_xs lf (op i) (a i) (b i) (c i) v := by
  rw [ps_xa_st (Nat.lt_succ_self i) n hn, ps_xa_top]
  exact (ps_xs_cg h hi hL hv).symm
/-! tokens: what matters of them -/
theorem ps_sk_cg {lf lf' : Int32 → Int32 → Int32} {ks ag ks' ag' : Nat → Int32} : ∀ n : Nat, (∀ i, i < n → ks' i = ks i) → (∀ i, i < n → ks i < 5 → lf' (ks i) (ag' i) = lf (ks i) (ag i)) → ps_sk lf' ks' ag' n = ps_sk lf ks ag n ∧ ps_ht ks' n = ps_ht ks n := by
  intro n
  induction n with
  | zero => intro _ _; exact ⟨rfl, rfl⟩
  | succ n ih =>
    intro h1 h2
    obtain ⟨i1, i2⟩ := ih (fun i hi => h1 i (by omega)) (fun i hi => h2 i (by omega))
    have e := h1 n (by omega)
    constructor
    · show upd _ _ _ = upd _ _ _
      rw [i1, i2, e]
      congr 1
      unfold ps_sv
      by_cases h5 : ks n < 5
      · rw [if_pos h5, if_pos h5]; exact h2 n (by omega) h5
      · rw [if_neg h5, if_neg h5]
    · show ps_ht ks' n - ps_tk (ks' n) + 1 = ps_ht ks n - ps_tk (ks n) + 1
      rw [i2, e]
theorem ps_ht_cg {ks ks' : Nat → Int32} (n : Nat) (h : ∀ i, i < n → ks' i = ks i) : ps_ht ks' n = ps_ht ks n :=
  (ps_sk_cg (lf := fun _ _ => 0) (lf' := fun _ _ => 0) (ag := fun _ => 0) (ag' := fun _ => 0) n h (fun _ _ _ => rfl)).2
theorem ps_cn_cg {op op' : Nat → Int32} : ∀ n : Nat, (∀ i, i < n → op' i = op i) → ps_cn op' n = ps_cn op n := by
  intro n
  induction n with
  | zero => intro _; rfl
  | succ n ih =>
    intro h
    show ps_cn op' n + (if op' n = 4 then 1 else 0) = ps_cn op n + (if op n = 4 then 1 else 0)
    rw [ih (fun i hi => h i (by omega)), h n (by omega)]
theorem ps_cn_mono {op : Nat → Int32} {j : Nat} : ∀ n, j ≤ n → ps_cn op j ≤ ps_cn op n := by
  intro n
  induction n with
  | zero => intro h; have : j = 0 := by omega
            rw [this]; exact Nat.le_refl _
  | succ n ih =>
    intro h
    rcases Nat.lt_or_ge n j with h2 | h2
    · have : j = n + 1 := by omega
      rw [this]; exact Nat.le_refl _
    · exact Nat.le_trans (ih h2) (Nat.le_add_right _ _)
theorem ps_CK_cg {s L : Nat} {op a b c op' a' b' c' : Nat → Int32} (h : ps_CK s op a b c L) (e : ∀ i, i < L → op' i = op i ∧ a' i = a i ∧ b' i = b i ∧ c' i = c i) : ps_CK s op' a' b' c' L := by
  intro i hi
  obtain ⟨e1, e2, e3, e4⟩ := e i hi
  rw [e1, e2, e3, e4]
  exact h i hi
theorem ps_TK_cg {s n : Nat} {ks ag ks' ag' : Nat → Int32} (h : ps_TK s ks ag n) (e : ∀ i, i < n → ks' i = ks i ∧ ag' i = ag i) : ps_TK s ks' ag' n := by
  intro i hi
  obtain ⟨e1, e2⟩ := e i hi
  have h0 := ps_ht_cg (ks := ks) (ks' := ks') i (fun t ht => (e t (by omega)).1)
  have h1 := ps_ht_cg (ks := ks) (ks' := ks') (i + 1) (fun t ht => (e t (by omega)).1)
  rw [e1, e2, h0, h1]
  exact h i hi
/-! leaves: the source, the stages below -/
def ps_ox (A : Int32) : Int32 := (A - A / 9 * 9) / 3
def ps_oy (A : Int32) : Int32 := (A - A / 9 * 9) - (A - A / 9 * 9) / 3 * 3
def ps_wi (n m : Int32) : Int32 := if 0 ≤ n then (if n ≤ m then n else m) else 0
def ps_nr (P : Nat → Int32) (x y : Int32) : Int32 := P ((8 * ps_wi y 5) + ps_wi x 7).toNatClampNeg
def ps_lv (P : Nat → Int32) (G : Nat → Int32 → Int32 → Int32) (x y o A : Int32) : Int32 :=
  if o = 0 then A else if o = 1 then x else if o = 2 then y else if o = 3 then ps_nr P ((x + ps_ox A) - 1) ((y + ps_oy A) - 1) else G (A / 9).toNatClampNeg ((x + ps_ox A) - 1) ((y + ps_oy A) - 1)
theorem ps_lv0 {P : Nat → Int32} {G : Nat → Int32 → Int32 → Int32} {x y A : Int32} : ps_lv P G x y (nI 0) A = A := if_pos rfl
theorem ps_lv1 {P : Nat → Int32} {G : Nat → Int32 → Int32 → Int32} {x y A : Int32} : ps_lv P G x y (nI 1) A = x := by
  unfold ps_lv; rw [if_neg (by decide), if_pos (by decide)]
theorem ps_lv2 {P : Nat → Int32} {G : Nat → Int32 → Int32 → Int32} {x y A : Int32} : ps_lv P G x y (nI 2) A = y := by
  unfold ps_lv; rw [if_neg (by decide), if_neg (by decide), if_pos (by decide)]
theorem ps_lv3 {P : Nat → Int32} {G : Nat → Int32 → Int32 → Int32} {x y A : Int32} : ps_lv P G x y (nI 3) A = ps_nr P ((x + ps_ox A) - 1) ((y + ps_oy A) - 1) := by
  unfold ps_lv; rw [if_neg (by decide), if_neg (by decide), if_neg (by decide), if_pos (by decide)]
theorem ps_lv4 {P : Nat → Int32} {G : Nat → Int32 → Int32 → Int32} {x y A : Int32} : ps_lv P G x y (nI 4) A = G (A / 9).toNatClampNeg ((x + ps_ox A) - 1) ((y + ps_oy A) - 1) := by
  unfold ps_lv; rw [if_neg (by decide), if_neg (by decide), if_neg (by decide), if_neg (by decide)]
theorem ps_lv_LF {P : Nat → Int32} {G : Nat → Int32 → Int32 → Int32} {x y : Int32} : ps_LF (ps_lv P G x y) :=
  ⟨fun _ => ps_lv0, fun _ => ps_lv1.trans ps_lv1.symm, fun _ => ps_lv2.trans ps_lv2.symm⟩
theorem ps_d9 {r : Nat} (h : r < 2 ^ 31) : nI r / 9 = nI (r / 9) := pk_div (d := 9) h (by decide) (by decide)
theorem ps_m9 {r : Nat} (h : r < 2 ^ 31) : nI r - nI r / 9 * 9 = nI (r % 9) := pk_rem (d := 9) h (by decide) (by decide)
theorem ps_d3 {r : Nat} (h : r < 2 ^ 31) : nI r / 3 = nI (r / 3) := pk_div (d := 3) h (by decide) (by decide)
theorem ps_m3 {r : Nat} (h : r < 2 ^ 31) : nI r - nI r / 3 * 3 = nI (r % 3) := pk_rem (d := 3) h (by decide) (by decide)
theorem ps_ox_n {r : Nat} (h : r < 2 ^ 31) : ps_ox (nI r) = nI (r % 9 / 3) := by
  unfold ps_ox; rw [ps_m9 h, ps_d3 (by omega)]
theorem ps_oy_n {r : Nat} (h : r < 2 ^ 31) : ps_oy (nI r) = nI (r % 9 % 3) := by
  unfold ps_oy; rw [ps_m9 h, ps_m3 (by omega)]
/-! the stages' functions, from the reference's tokens -/
def ps_GG (P sz ks ag : Nat → Int32) : Nat → Nat → Int32 → Int32 → Int32
  | 0 => fun _ _ _ => 0
  | m + 1 => fun j x y => if j = m then ps_sk (ps_lv P (ps_GG P sz ks ag m) x y) (ps_sh ks (14 * m)) (ps_sh ag (14 * m)) (sz m).toNatClampNeg 0 else ps_GG P sz ks ag m j x y
def ps_F (P sz ks ag : Nat → Int32) (k : Nat) (x y : Int32) : Int32 := ps_GG P sz ks ag (k + 1) k x y
theorem ps_GG_F {P sz ks ag : Nat → Int32} {j : Nat} : ∀ m, j < m → ps_GG P sz ks ag m j = ps_F P sz ks ag j := by
  intro m
  induction m with
  | zero => intro h; omega
  | succ m ih =>
    intro h
    by_cases e : j = m
    · subst e; rfl
    · rw [← ih (by omega)]
      funext x y
      exact if_neg e
theorem ps_F_0 {P sz ks ag : Nat → Int32} {k : Nat} {x y : Int32} : ps_F P sz ks ag k x y = ps_sk (ps_lv P (ps_GG P sz ks ag k) x y) (ps_sh ks (14 * k)) (ps_sh ag (14 * k)) (sz k).toNatClampNeg 0 := if_pos rfl
theorem ps_lv_G {P : Nat → Int32} {G G' : Nat → Int32 → Int32 → Int32} {x y A : Int32} {q : Nat} (hq : q < 5) (h : q = 4 → G' (A / 9).toNatClampNeg = G (A / 9).toNatClampNeg) : ps_lv P G' x y (nI q) A = ps_lv P G x y (nI q) A := by
  rcases (by omega : q = 0 ∨ q = 1 ∨ q = 2 ∨ q = 3 ∨ q = 4) with rfl | rfl | rfl | rfl | rfl
  · rw [ps_lv0, ps_lv0]
  · rw [ps_lv1, ps_lv1]
  · rw [ps_lv2, ps_lv2]
  · rw [ps_lv3, ps_lv3]
  · rw [ps_lv4, ps_lv4, h rfl]
theorem ps_F_eq {P sz ks ag : Nat → Int32} {k n : Nat} {x y : Int32} (hk : k ≤ 5) (hz : sz k = nI n) (hn : n ≤ 14) (ht : ps_TK k (ps_sh ks (14 * k)) (ps_sh ag (14 * k)) n) : ps_F P sz ks ag k x y = ps_sk (ps_lv P (ps_F P sz ks ag) x y) (ps_sh ks (14 * k)) (ps_sh ag (14 * k)) n 0 := by
  rw [ps_F_0, hz, nI_clamp (by omega)]
  refine congrFun (ps_sk_cg n (fun _ _ => rfl) (fun i hi h5 => ?_)).1 0
  obtain ⟨q, hq, e, _, h4, _, _⟩ := ht i hi
  rw [e] at h5 ⊢
  refine ps_lv_G ((ps_l5 hq).mp h5) (fun z => ?_)
  obtain ⟨r, hr, ea⟩ := h4 z
  rw [ea, ps_d9 (by omega), nI_clamp (by omega)]
  exact ps_GG_F k (by omega)
theorem ps_F_cg {P sz ks ag sz' ks' ag' : Nat → Int32} : ∀ k : Nat, (∀ j, j ≤ k → sz' j = sz j ∧ (sz j).toNatClampNeg ≤ 14) → (∀ i, i < 14 * (k + 1) → ks' i = ks i ∧ ag' i = ag i) → ∀ x y, ps_F P sz' ks' ag' k x y = ps_F P sz ks ag k x y := by
  have main : ∀ m : Nat, (∀ j, j < m → sz' j = sz j ∧ (sz j).toNatClampNeg ≤ 14) → (∀ i, i < 14 * m → ks' i = ks i ∧ ag' i = ag i) → ps_GG P sz' ks' ag' m = ps_GG P sz ks ag m := by
    intro m
    induction m with
    | zero => intro _ _; rfl
    | succ m ih =>
      intro h1 h2
      have e := ih (fun j hj => h1 j (by omega)) (fun i hi => h2 i (by omega))
      funext j x y
      show (if j = m then _ else _) = (if j = m then _ else _)
      rw [e, (h1 m (by omega)).1]
      by_cases hj : j = m
      · rw [if_pos hj, if_pos hj]
        have hl := (h1 m (by omega)).2
        refine congrFun (ps_sk_cg _ (fun i hi => (h2 (14 * m + i) (by omega)).1) (fun i hi _ => ?_)).1 0
        show ps_lv P _ x y _ (ag' (14 * m + i)) = ps_lv P _ x y _ (ag (14 * m + i))
        rw [(h2 (14 * m + i) (by omega)).2]
      · rw [if_neg hj, if_neg hj]
  intro k h1 h2 x y
  exact congrFun (congrFun (congrFun (main (k + 1) (fun j hj => h1 j (by omega)) h2) k) x) y
/-! a stage: the component's values against the reference's tokens -/
def ps_SR (k : Nat) (sz ks ag ln op a b c : Nat → Int32) : Prop := ∃ n L : Nat, 1 ≤ n ∧ n ≤ 14 ∧ 1 ≤ L ∧ L ≤ 14 ∧ sz k = nI n ∧ ln k = nI L ∧ ps_TK k (ps_sh ks (14 * k)) (ps_sh ag (14 * k)) n ∧ ps_CK k (ps_sh op (14 * k)) (ps_sh a (14 * k)) (ps_sh b (14 * k)) (ps_sh c (14 * k)) L ∧ ps_cn (ps_sh op (14 * k)) L ≤ 9 ∧ ∀ lf, ps_LF lf → ps_xa lf (ps_sh op (14 * k)) (ps_sh a (14 * k)) (ps_sh b (14 * k)) (ps_sh c (14 * k)) L (L - 1) = ps_sk lf (ps_sh ks (14 * k)) (ps_sh ag (14 * k)) n 0
end
section
/-! what the component keeps: pure -/
theorem xc_r1 (a b c : Int32) : (a + (b - c)) + c = a + b := by grind
theorem xc_sc (a b : Int32) : a - b + b = a := by grind
theorem xc_cc {a b c : Int32} (h : a - c = b - c) : a = b := by rw [← xc_sc a c, h, xc_sc]
theorem xc_m4 (k : Nat) : 4 * nI k = nI (4 * k) := pk_mul 4 k
theorem xc_m8 (k : Nat) : 8 * nI k = nI (8 * k) := pk_mul 8 k
theorem xc_m14 (k : Nat) : 14 * nI k = nI (14 * k) := pk_mul 14 k
theorem xc_m16 (k : Nat) : 16 * nI k = nI (16 * k) := pk_mul 16 k
theorem xc_m64 (k : Nat) : 64 * nI k = nI (64 * k) := pk_mul 64 k
theorem xc_m224 (k : Nat) : 224 * nI k = nI (224 * k) := pk_mul 224 k
theorem xc_i1 (k r : Nat) : ((14 * nI k) + (nI r - 4)) + 4 = nI (14 * k + r) := by rw [xc_r1, xc_m14, nI_add]
theorem xc_i2 (k p r : Nat) : (((224 * nI k) + (16 * ((nI r - 4) + 4))) + (nI p - 4)) + 4 = nI (224 * k + 16 * r + p) := by
  rw [xc_sc, xc_r1, xc_m224, xc_m16, nI_add, nI_add]
theorem xc_b0 (x : Int32) : (x &&& 1) = 1 ↔ bt x 0 = true := by
  have e : x &&& 1 = nI (x.toBitVec.toNat % 2) := pk_and x 1 (by decide)
  have h1 : (nI (x.toBitVec.toNat % 2) = 1 ↔ x.toBitVec.toNat % 2 = 1) := nI_eq (b := 1) (by omega) (by decide)
  have h2 : bt x 0 = decide (x.toBitVec.toNat % 2 = 1) := Nat.testBit_zero _
  rw [e, h1, h2, decide_eq_true_eq]
theorem xc_bit (w : Int32) {j : Nat} (hj : j < 32) : ((w >>> (nI j &&& 31)) &&& 1) = 1 ↔ bt w j = true := by
  rw [xc_b0, b_sshr j hj w (i := 0) (by decide), Nat.add_zero, if_pos hj]
theorem xc_b1 : ∀ t, t < 32 → bt 1 t = decide (t = 0) := by decide +kernel
theorem xc_or (w : Int32) {p i : Nat} (hp : p < 32) (hi : i < 32) : bt (w ||| ((1 : Int32) <<< (nI p &&& 31))) i = (bt w i || decide (i = p)) := by
  rw [b_or, b_shl p hp 1 hi, xc_b1 (i - p) (by omega), ← Bool.decide_and]
  congr 1
  exact decide_eq_decide.mpr (by omega)
theorem xc_off {x m : Int32} {N : Nat} (hN : N < 100) (hm : m.toInt = (N : Int) - 4) (h1 : ¬ x < -4) (h2 : ¬ m ≤ x) : ∃ p : Nat, p < N ∧ x = nI p - 4 := by
  rw [Int32.lt_iff_toInt_lt] at h1
  rw [Int32.le_iff_toInt_le] at h2
  have h4 : (-4 : Int32).toInt = -4 := by decide
  refine ⟨(x.toInt + 4).toNat, by omega, Int32.toInt_inj.mp ?_⟩
  rw [show (4 : Int32) = nI 4 from rfl, pk_sub_toInt (by omega) (by decide)]
  omega
def ps_sl (w : Int32) (p r : Nat) : Nat := if w = 2 then r % 4 else ((p / 4 + 3) ^^^ (r / 4 + 3)) % 4
def ps_nm (w : Int32) (p r : Nat) : Int32 := if w = 2 then nI r - 4 else nI (64 * (p / 4) + r / 4) - 65
def ps_pl (w : Int32) (p r : Nat) : Nat := if w = 2 then p else 4 * (r % 4) + p % 4
theorem xc_t1 : ∀ r, r < 16 → (nI r - 4) &&& 3 = nI (r % 4) := by decide +kernel
theorem xc_t2 : ∀ p, p < 16 → ∀ r, r < 14 → ((((nI p - 4) >>> ((2 : Int32) &&& 31)) ^^^ ((nI r - 4) >>> ((2 : Int32) &&& 31))) &&& 3) = nI (((p / 4 + 3) ^^^ (r / 4 + 3)) % 4) := by decide +kernel
theorem xc_t3 : ∀ p, p < 16 → ∀ r, r < 14 → (64 * ((nI p - 4) >>> ((2 : Int32) &&& 31))) + ((nI r - 4) >>> ((2 : Int32) &&& 31)) = nI (64 * (p / 4) + r / 4) - 65 := by decide +kernel
theorem xc_sl4 (w : Int32) (p r : Nat) : ps_sl w p r < 4 := by
  unfold ps_sl; split <;> exact Nat.mod_lt _ (by decide)
theorem xc_pl16 (w : Int32) {p : Nat} (r : Nat) (hp : p < 16) : ps_pl w p r < 16 := by
  unfold ps_pl; split <;> omega
theorem xc_inj {w : Int32} {p r p' r' : Nat} (hp : p < 16) (hr : r < 14) (hp' : p' < 16) (hr' : r' < 14) (h1 : ps_nm w p' r' = ps_nm w p r) (h2 : ps_pl w p' r' = ps_pl w p r) : p' = p ∧ r' = r := by
  unfold ps_nm at h1
  unfold ps_pl at h2
  by_cases hw : w = 2
  · rw [if_pos hw, if_pos hw] at h1 h2
    have := (nI_eq (by omega) (by omega)).mp (xc_cc h1)
    omega
  · rw [if_neg hw, if_neg hw] at h1 h2
    have := (nI_eq (by omega) (by omega)).mp (xc_cc h1)
    omega
def ps_RK (s : Nat) (F : Nat → Int32 → Int32 → Int32) (way kep kKn few fKn fTg : Nat → Int32) : Prop := ∀ k, k < s → ∀ p r : Nat, p < 16 → r < 14 →
  (way k = 1 → bt (kKn (14 * k + r)) p = true → kep (224 * k + 16 * r + p) = F k (nI p - 4) (nI r - 4)) ∧
  (fTg (4 * k + ps_sl (way k) p r) = ps_nm (way k) p r → bt (fKn (4 * k + ps_sl (way k) p r)) (ps_pl (way k) p r) = true → few (64 * k + 16 * ps_sl (way k) p r + ps_pl (way k) p r) = F k (nI p - 4) (nI r - 4))
/-! the component's walks over what is kept -/
theorem xc_may {post : Int32 → Prop} {x y : Int32} (h0 : post 0) (h1 : ∀ p r : Nat, p < 16 → r < 14 → x = nI p - 4 → y = nI r - 4 → post 1) : wpX_mayBeKept post x y := by
  refine br_c (fun _ => h0) (fun a => br_c (fun _ => h0) (fun b => br_c (fun _ => h0) (fun c => br_c (fun _ => h0) (fun d => ?_))))
  obtain ⟨p, hp, ep⟩ := xc_off (N := 16) (by decide) (by decide) a b
  obtain ⟨r, hr, er⟩ := xc_off (N := 14) (by decide) (by decide) c d
  exact h1 p r hp hr ep er
theorem xc_slot {post : Int32 → Prop} {w : Int32} {p r : Nat} (hp : p < 16) (hr : r < 14) (h : post (nI (ps_sl w p r))) : wpX_fewSlot post w (nI p - 4) (nI r - 4) := by
  unfold ps_sl at h
  by_cases hw : w = 2
  · rw [if_pos hw] at h
    exact br_t hw (by rw [xc_t1 r (by omega)]; exact h)
  · rw [if_neg hw] at h
    exact br_f hw (by rw [xc_t2 p hp r hr]; exact h)
theorem xc_name {post : Int32 → Prop} {w : Int32} {p r : Nat} (hp : p < 16) (hr : r < 14) (h : post (ps_nm w p r)) : wpX_fewName post w (nI p - 4) (nI r - 4) := by
  unfold ps_nm at h
  by_cases hw : w = 2
  · rw [if_pos hw] at h
    exact br_t hw h
  · rw [if_neg hw] at h
    exact br_f hw (by rw [xc_t3 p hp r hr]; exact h)
theorem xc_place {post : Int32 → Prop} {w : Int32} {p r : Nat} (hp : p < 16) (hr : r < 14) (h : post (nI (ps_pl w p r))) : wpX_fewPlace post w (nI p - 4) (nI r - 4) := by
  unfold ps_pl at h
  by_cases hw : w = 2
  · rw [if_pos hw] at h
    exact br_t hw (by rw [xc_sc]; exact h)
  · rw [if_neg hw] at h
    exact br_f hw (by rw [xc_t1 r (by omega), xc_t1 p hp, xc_m4, nI_add]; exact h)
section XCA
variable {tN dN hN sN pN : Int32} {pic dO dA dB dC stk spk ren len op aa ab ac way kep kKn few fKn fTg gS gX gY gA val spa : Nat → Int32}
theorem xc_known {post : Int32 → Prop} {s k : Nat} {F : Nat → Int32 → Int32 → Int32} {x y : Int32} (hs : s ≤ 5) (hk : k < s) (hR : ps_RK s F way kep kKn few fKn fTg) (h0 : post 0) (h1 : (∀ post' : Int32 → Prop, post' (F k x y) → wpX_knownValue post' (tN, dN, hN, sN, pN, pic, dO, dA, dB, dC, stk, spk, ren, len, op, aa, ab, ac, way, kep, kKn, few, fKn, fTg, gS, gX, gY, gA, val, spa) (nI k) x y) → post 1) : wpX_isKnown post (tN, dN, hN, sN, pN, pic, dO, dA, dB, dC, stk, spk, ren, len, op, aa, ab, ac, way, kep, kKn, few, fKn, fTg, gS, gX, gY, gA, val, spa) (nI k) x y := by
  have vk : vp_in (nI k) 5 := vp_in_nI (by omega) (by decide)
  have ek : way (nI k).toNatClampNeg = way k := by rw [nI_clamp (by omega)]
  refine And.intro vk (nm_r ek ?_)
  by_cases w0 : way k = 0
  · exact br_t w0 h0
  refine br_f w0 (xc_may (br_t rfl h0) ?_)
  intro p r hp hr ex ey
  subst ex ey
  obtain ⟨H1, H2⟩ := hR k hk p r hp hr
  refine br_f (by decide) ?_
  by_cases w1 : way k = 1
  · refine br_t w1 ?_
    rw [xc_i1, nI_clamp (by omega), xc_sc, xc_bit _ (by omega)]
    refine And.intro (vp_in_nI (by omega) (by decide)) ?_
    by_cases hb : bt (kKn (14 * k + r)) p = true
    · refine br_t hb (h1 (fun post' hp' => And.intro vk (nm_r ek (br_t w1 ?_))))
      rw [xc_i2, nI_clamp (by omega), H1 w1 hb]
      exact And.intro (vp_in_nI (by omega) (by decide)) hp'
    · exact br_f hb h0
  · refine br_f w1 (xc_slot hp hr ?_)
    have l4 := xc_sl4 (way k) p r
    have l16 := xc_pl16 (way k) r hp
    have e1 : 4 * nI k + nI (ps_sl (way k) p r) = nI (4 * k + ps_sl (way k) p r) := by rw [xc_m4, nI_add]
    refine nm_r e1 (xc_name hp hr (xc_place hp hr ?_))
    rw [nI_clamp (by omega), xc_bit _ (by omega)]
    have v1 : vp_in (nI (4 * k + ps_sl (way k) p r)) 20 := vp_in_nI (by omega) (by decide)
    refine And.intro v1 ?_
    by_cases ht : fTg (4 * k + ps_sl (way k) p r) = ps_nm (way k) p r
    · refine br_t ht (And.intro v1 ?_)
      by_cases hb : bt (fKn (4 * k + ps_sl (way k) p r)) (ps_pl (way k) p r) = true
      · refine br_t hb (h1 (fun post' hp' => And.intro vk (nm_r ek (br_f w1 (xc_slot hp hr (xc_place hp hr ?_))))))
        rw [xc_m64, xc_m16, nI_add, nI_add, nI_clamp (by omega), H2 ht hb]
        exact And.intro (vp_in_nI (by omega) (by decide)) hp'
      · exact br_f hb h0
    · exact br_f ht h0
theorem xc_k1 {s k : Nat} {F : Nat → Int32 → Int32 → Int32} {p r : Nat} {v : Int32} (hp : p < 16) (hr : r < 14) (hv : v = F k (nI p - 4) (nI r - 4)) (hR : ps_RK s F way kep kKn few fKn fTg) : ps_RK s F way (upd kep (224 * k + 16 * r + p) v) (upd kKn (14 * k + r) (kKn (14 * k + r) ||| ((1 : Int32) <<< (nI p &&& 31)))) few fKn fTg := by
  intro k' hk' p' r' hp' hr'
  obtain ⟨H1, H2⟩ := hR k' hk' p' r' hp' hr'
  refine ⟨fun w1 hb => ?_, H2⟩
  by_cases e : 14 * k' + r' = 14 * k + r
  · have ek : k' = k := by omega
    have er : r' = r := by omega
    subst ek er
    rw [pk_us, xc_or _ (by omega) (by omega)] at hb
    by_cases ep : p' = p
    · subst ep
      rw [pk_us]; exact hv
    · rw [pk_un (by omega)]
      rw [decide_eq_false ep, Bool.or_false] at hb
      exact H1 w1 hb
  · rw [pk_un e] at hb
    rw [pk_un (by omega)]
    exact H1 w1 hb
/-- one cell more in a row or square that is there -/
theorem xc_k2 {s k : Nat} {F : Nat → Int32 → Int32 → Int32} {p r : Nat} {v : Int32} (hp : p < 16) (hr : r < 14) (hv : v = F k (nI p - 4) (nI r - 4)) (hR : ps_RK s F way kep kKn few fKn fTg) (ht : fTg (4 * k + ps_sl (way k) p r) = ps_nm (way k) p r) : ps_RK s F way kep kKn (upd few (64 * k + 16 * ps_sl (way k) p r + ps_pl (way k) p r) v) (upd fKn (4 * k + ps_sl (way k) p r) (fKn (4 * k + ps_sl (way k) p r) ||| ((1 : Int32) <<< (nI (ps_pl (way k) p r) &&& 31)))) fTg := by
  intro k' hk' p' r' hp' hr'
  obtain ⟨H1, H2⟩ := hR k' hk' p' r' hp' hr'
  refine ⟨H1, fun ht' hb => ?_⟩
  have l4 := xc_sl4 (way k) p r
  have l16 := xc_pl16 (way k) r hp
  have l4' := xc_sl4 (way k') p' r'
  have l16' := xc_pl16 (way k') r' hp'
  by_cases e : 4 * k' + ps_sl (way k') p' r' = 4 * k + ps_sl (way k) p r
  · have ek : k' = k := by omega
    subst ek
    have es : ps_sl (way k') p' r' = ps_sl (way k') p r := by omega
    rw [es] at ht' hb H2 ⊢
    rw [pk_us, xc_or _ (by omega) (by omega)] at hb
    by_cases ep : ps_pl (way k') p' r' = ps_pl (way k') p r
    · obtain ⟨e1, e2⟩ := xc_inj hp hr hp' hr' (ht'.symm.trans ht) ep
      subst e1 e2
      rw [pk_us]; exact hv
    · rw [pk_un (by omega)]
      rw [decide_eq_false ep, Bool.or_false] at hb
      exact H2 ht' hb
  · rw [pk_un e] at hb
    rw [pk_un (by omega)]
    exact H2 ht' hb
/-- a row or square is given up for another -/
theorem xc_k3 {s i : Nat} {F : Nat → Int32 → Int32 → Int32} {nm : Int32} (hR : ps_RK s F way kep kKn few fKn fTg) : ps_RK s F way kep kKn few (upd fKn i 0) (upd fTg i nm) := by
  intro k' hk' p' r' hp' hr'
  obtain ⟨H1, H2⟩ := hR k' hk' p' r' hp' hr'
  refine ⟨H1, fun ht hb => ?_⟩
  by_cases e : 4 * k' + ps_sl (way k') p' r' = i
  · rw [e, pk_us, b_0] at hb
    exact absurd hb (by decide)
  · rw [pk_un e] at hb ht
    exact H2 ht hb
theorem xc_keep {post : SX → Prop} {s k : Nat} {F : Nat → Int32 → Int32 → Int32} {x y v : Int32} (hs : s ≤ 5) (hk : k < s) (hv : v = F k x y) (hR : ps_RK s F way kep kKn few fKn fTg) (H : ∀ kep' kKn' few' fKn' fTg' : Nat → Int32, ps_RK s F way kep' kKn' few' fKn' fTg' → post (tN, dN, hN, sN, pN, pic, dO, dA, dB, dC, stk, spk, ren, len, op, aa, ab, ac, way, kep', kKn', few', fKn', fTg', gS, gX, gY, gA, val, spa)) : wpX_keep post (tN, dN, hN, sN, pN, pic, dO, dA, dB, dC, stk, spk, ren, len, op, aa, ab, ac, way, kep, kKn, few, fKn, fTg, gS, gX, gY, gA, val, spa) (nI k) x y v := by
  have vk : vp_in (nI k) 5 := vp_in_nI (by omega) (by decide)
  have ek : way (nI k).toNatClampNeg = way k := by rw [nI_clamp (by omega)]
  refine And.intro vk (nm_r ek ?_)
  by_cases w0 : way k = 0
  · exact br_t w0 (H kep kKn few fKn fTg hR)
  refine br_f w0 (xc_may (br_t rfl (H kep kKn few fKn fTg hR)) ?_)
  intro p r hp hr ex ey
  subst ex ey
  refine br_f (by decide) ?_
  by_cases w1 : way k = 1
  · refine br_t w1 ?_
    rw [xc_i1, xc_i2, xc_sc, nI_clamp (by omega), nI_clamp (by omega)]
    have v1 : vp_in (nI (14 * k + r)) 70 := vp_in_nI (by omega) (by decide)
    exact And.intro (vp_in_nI (by omega) (by decide)) (nm_e (And.intro v1 (And.intro v1 (nm_e (H _ _ _ _ _ (xc_k1 hp hr hv hR))))))
  · refine br_f w1 (xc_slot hp hr (xc_name hp hr (xc_place hp hr ?_)))
    have l4 := xc_sl4 (way k) p r
    have l16 := xc_pl16 (way k) r hp
    have e1 : 4 * nI k + nI (ps_sl (way k) p r) = nI (4 * k + ps_sl (way k) p r) := by rw [xc_m4, nI_add]
    have e2 : ((64 * nI k) + (16 * nI (ps_sl (way k) p r))) + nI (ps_pl (way k) p r) = nI (64 * k + 16 * ps_sl (way k) p r + ps_pl (way k) p r) := by rw [xc_m64, xc_m16, nI_add, nI_add]
    have v1 : vp_in (nI (4 * k + ps_sl (way k) p r)) 20 := vp_in_nI (by omega) (by decide)
    have v2 : vp_in (nI (64 * k + 16 * ps_sl (way k) p r + ps_pl (way k) p r)) 320 := vp_in_nI (by omega) (by decide)
    have c1 : (nI (4 * k + ps_sl (way k) p r)).toNatClampNeg = 4 * k + ps_sl (way k) p r := nI_clamp (by omega)
    have c2 : (nI (64 * k + 16 * ps_sl (way k) p r + ps_pl (way k) p r)).toNatClampNeg = 64 * k + 16 * ps_sl (way k) p r + ps_pl (way k) p r := nI_clamp (by omega)
    rw [e1, c1]
    refine And.intro v1 ?_
    by_cases ht : fTg (4 * k + ps_sl (way k) p r) = ps_nm (way k) p r
    · refine br_t ht ?_
      unfold wX_keep_141
      rw [e1, c1, e2, c2]
      exact And.intro v2 (nm_e (And.intro v1 (And.intro v1 (nm_e (H _ _ _ _ _ (xc_k2 hp hr hv hR ht))))))
    · refine br_f ht (And.intro v1 (nm_e (And.intro v1 (nm_e ?_))))
      unfold wX_keep_141
      rw [e1, c1, e2, c2]
      exact And.intro v2 (nm_e (And.intro v1 (And.intro v1 (nm_e (H _ _ _ _ _ (xc_k2 hp hr hv (xc_k3 hR) pk_us))))))
end XCA
/-! forgetting -/
def ps_fz (f : Nat → Int32) (b : Nat) : Nat → Nat → Int32
  | 0 => f
  | n + 1 => upd (ps_fz f b n) (b + n) 0
theorem xc_fz_in {f : Nat → Int32} {b i : Nat} : ∀ n, b ≤ i → i < b + n → ps_fz f b n i = 0 := by
  intro n
  induction n with
  | zero => intro h1 h2; omega
  | succ n ih =>
    intro h1 h2
    show upd _ (b + n) 0 i = 0
    by_cases e : i = b + n
    · rw [e, pk_us]
    · rw [pk_un e]; exact ih h1 (by omega)
theorem xc_fz_out {f : Nat → Int32} {b i : Nat} : ∀ n, i < b ∨ b + n ≤ i → ps_fz f b n i = f i := by
  intro n
  induction n with
  | zero => intro _; rfl
  | succ n ih =>
    intro h
    show upd _ (b + n) 0 i = _
    rw [pk_un (by omega)]; exact ih (by omega)
def ps_fa (f : Nat → Int32) (w : Nat) : Nat → Nat → Int32
  | 0 => f
  | n + 1 => ps_fz (ps_fa f w n) (w * n) w
theorem xc_fa_in {f : Nat → Int32} {w i : Nat} : ∀ n, i < w * n → ps_fa f w n i = 0 := by
  intro n
  induction n with
  | zero => intro h; rw [Nat.mul_zero] at h; omega
  | succ n ih =>
    intro h
    rw [Nat.mul_succ] at h
    show ps_fz _ (w * n) w i = 0
    by_cases e : i < w * n
    · rw [xc_fz_out w (Or.inl e)]; exact ih e
    · exact xc_fz_in w (by omega) h
theorem xc_RK_fa {s : Nat} {F : Nat → Int32 → Int32 → Int32} {way kep kKn few fKn fTg : Nat → Int32} (hs : s ≤ 5) : ps_RK s F way kep (ps_fa kKn 14 5) few (ps_fa fKn 4 5) fTg := by
  intro k hk p r hp hr
  have l4 := xc_sl4 (way k) p r
  constructor
  · intro _ hb
    rw [xc_fa_in 5 (by omega), b_0] at hb
    exact absurd hb (by decide)
  · intro _ hb
    rw [xc_fa_in 5 (by omega), b_0] at hb
    exact absurd hb (by decide)
/-- all stages but k keep what they kept; of k nothing is kept, whatever its way is now -/
theorem xc_RK_fz {s k : Nat} {F F' : Nat → Int32 → Int32 → Int32} {way way' kep kKn few fKn fTg : Nat → Int32} (hs : s ≤ 5) {s' : Nat} (hs' : ∀ j, j < s' → j ≠ k → j < s) (hF : ∀ j, j < s' → j ≠ k → ∀ x y, F' j x y = F j x y) (hw : ∀ j, j < s' → j ≠ k → way' j = way j) (hR : ps_RK s F way kep kKn few fKn fTg) : ps_RK s' F' way' kep (ps_fz kKn (14 * k) 14) few (ps_fz fKn (4 * k) 4) fTg := by
  intro j hj p r hp hr
  have l4 := xc_sl4 (way' j) p r
  by_cases e : j = k
  · subst e
    constructor
    · intro _ hb
      rw [xc_fz_in 14 (by omega) (by omega), b_0] at hb
      exact absurd hb (by decide)
    · intro _ hb
      rw [xc_fz_in 4 (by omega) (by omega), b_0] at hb
      exact absurd hb (by decide)
  · rw [xc_fz_out 14 (by omega), xc_fz_out 4 (by omega), hF j hj e, hw j hj e]
    exact hR j (hs' j hj e) p r hp hr
theorem xc_RK_cg {s s' : Nat} {F F' : Nat → Int32 → Int32 → Int32} {way way' kep kKn few fKn fTg : Nat → Int32} (hs' : s' ≤ s) (hF : ∀ j, j < s' → ∀ x y, F' j x y = F j x y) (hw : ∀ j, j < s' → way' j = way j) (hR : ps_RK s F way kep kKn few fKn fTg) : ps_RK s' F' way' kep kKn few fKn fTg := by
  intro j hj p r hp hr
  rw [hF j hj, hw j hj]
  exact hR j (by omega) p r hp hr
section XFO
variable {tN dN hN sN pN : Int32} {pic dO dA dB dC stk spk ren len op aa ab ac way kep kKn few fKn fTg gS gX gY gA val spa : Nat → Int32}
theorem xc_f28 {post : SX → Prop} {k : Nat} (hk : k < 5) (H : post (tN, dN, hN, sN, pN, pic, dO, dA, dB, dC, stk, spk, ren, len, op, aa, ab, ac, way, kep, kKn, few, ps_fz fKn (4 * k) 4, fTg, gS, gX, gY, gA, val, spa)) : ∀ m j : Nat, j + m = 4 → wX_forget_28 post (nI k) tN dN hN sN pN (m + 1) (nI j) pic dO dA dB dC stk spk ren len op aa ab ac way kep kKn few (ps_fz fKn (4 * k) j) fTg gS gX gY gA val spa := by
  intro m
  induction m with
  | zero =>
    intro j hj
    obtain rfl : j = 4 := by omega
    exact br_t (by decide) H
  | succ m ih =>
    intro j hj
    have e : 4 * nI k + nI j = nI (4 * k + j) := by rw [xc_m4, nI_add]
    have h4 : ¬ (4 : Int32) ≤ nI j := nI_ge (b := 4) (by omega) (by decide)
    refine br_f h4 ?_
    rw [e, nI_clamp (by omega)]
    exact And.intro (vp_in_nI (by omega) (by decide)) (nm_e (nm_r (nI_1 j) (ih (j + 1) (by omega))))
theorem xc_f2 {post : SX → Prop} {k : Nat} (hk : k < 5) (H : post (tN, dN, hN, sN, pN, pic, dO, dA, dB, dC, stk, spk, ren, len, op, aa, ab, ac, way, kep, ps_fz kKn (14 * k) 14, few, ps_fz fKn (4 * k) 4, fTg, gS, gX, gY, gA, val, spa)) : ∀ m j : Nat, j + m = 14 → wX_forget_2 post (nI k) tN dN hN sN pN (m + 1) (nI j) pic dO dA dB dC stk spk ren len op aa ab ac way kep (ps_fz kKn (14 * k) j) few fKn fTg gS gX gY gA val spa := by
  intro m
  induction m with
  | zero =>
    intro j hj
    obtain rfl : j = 14 := by omega
    exact br_t (by decide) ⟨5, xc_f28 hk H 4 0 rfl⟩
  | succ m ih =>
    intro j hj
    have e : 14 * nI k + nI j = nI (14 * k + j) := by rw [xc_m14, nI_add]
    have h4 : ¬ (14 : Int32) ≤ nI j := nI_ge (b := 14) (by omega) (by decide)
    refine br_f h4 ?_
    rw [e, nI_clamp (by omega)]
    exact And.intro (vp_in_nI (by omega) (by decide)) (nm_e (nm_r (nI_1 j) (ih (j + 1) (by omega))))
theorem xc_forget {post : SX → Prop} {k : Nat} (hk : k < 5) (H : post (tN, dN, hN, sN, pN, pic, dO, dA, dB, dC, stk, spk, ren, len, op, aa, ab, ac, way, kep, ps_fz kKn (14 * k) 14, few, ps_fz fKn (4 * k) 4, fTg, gS, gX, gY, gA, val, spa)) : wpX_forget post (tN, dN, hN, sN, pN, pic, dO, dA, dB, dC, stk, spk, ren, len, op, aa, ab, ac, way, kep, kKn, few, fKn, fTg, gS, gX, gY, gA, val, spa) (nI k) := ⟨15, xc_f2 hk H 14 0 rfl⟩
theorem xc_fA {post : SX → Prop} (H : post (tN, dN, hN, sN, pN, pic, dO, dA, dB, dC, stk, spk, ren, len, op, aa, ab, ac, way, kep, ps_fa kKn 14 5, few, ps_fa fKn 4 5, fTg, gS, gX, gY, gA, val, spa)) : ∀ m j : Nat, j + m = 5 → wX_forgetAll_2 post (m + 1) (nI j) tN dN hN sN pN pic dO dA dB dC stk spk ren len op aa ab ac way kep (ps_fa kKn 14 j) few (ps_fa fKn 4 j) fTg gS gX gY gA val spa := by
  intro m
  induction m with
  | zero =>
    intro j hj
    obtain rfl : j = 5 := by omega
    exact br_t (by decide) H
  | succ m ih =>
    intro j hj
    have h4 : ¬ (5 : Int32) ≤ nI j := nI_ge (b := 5) (by omega) (by decide)
    exact br_f h4 (xc_forget (by omega) (nm_r (nI_1 j) (ih (j + 1) (by omega))))
theorem xc_forgetAll {post : SX → Prop} (H : post (tN, dN, hN, sN, pN, pic, dO, dA, dB, dC, stk, spk, ren, len, op, aa, ab, ac, way, kep, ps_fa kKn 14 5, few, ps_fa fKn 4 5, fTg, gS, gX, gY, gA, val, spa)) : wpX_forgetAll post (tN, dN, hN, sN, pN, pic, dO, dA, dB, dC, stk, spk, ren, len, op, aa, ab, ac, way, kep, kKn, few, fKn, fTg, gS, gX, gY, gA, val, spa) := ⟨6, xc_fA H 5 0 rfl⟩
end XFO
end
section
/-! the machine: one value -/
theorem xm_worked {post : Int32 → Prop} {o x y : Int32} (h : post (ps_cb o x y)) : wpX_worked post o x y := by
  unfold ps_cb at h
  have L : ¬ o = 5 → ¬ o = 6 → ¬ o = 7 → ¬ o = 8 → ¬ o = 9 → ((y ≤ x → post 0) ∧ (¬ y ≤ x → post 1)) := by
    intro a b c d e
    rw [if_neg a, if_neg b, if_neg c, if_neg d, if_neg e] at h
    exact br_c (fun z => by rw [if_pos z] at h; exact h) (fun z => by rw [if_neg z] at h; exact h)
  by_cases a : o < 5
  · exact br_t a (L (fun z => by rw [z] at a; exact absurd a (by decide)) (fun z => by rw [z] at a; exact absurd a (by decide)) (fun z => by rw [z] at a; exact absurd a (by decide)) (fun z => by rw [z] at a; exact absurd a (by decide)) (fun z => by rw [z] at a; exact absurd a (by decide)))
  refine br_f a ?_
  by_cases b : 9 < o
  · exact br_t b (L (fun z => by rw [z] at b; exact absurd b (by decide)) (fun z => by rw [z] at b; exact absurd b (by decide)) (fun z => by rw [z] at b; exact absurd b (by decide)) (fun z => by rw [z] at b; exact absurd b (by decide)) (fun z => by rw [z] at b; exact absurd b (by decide)))
  refine br_f b ?_
  by_cases e5 : o = 5
  · rw [if_pos e5] at h; exact br_t e5 h
  rw [if_neg e5] at h
  refine br_f e5 ?_
  by_cases e6 : o = 6
  · rw [if_pos e6] at h; exact br_t e6 h
  rw [if_neg e6] at h
  refine br_f e6 ?_
  by_cases e7 : o = 7
  · rw [if_pos e7] at h; exact br_t e7 h
  rw [if_neg e7] at h
  refine br_f e7 ?_
  by_cases e8 : o = 8
  · rw [if_pos e8] at h
    exact br_t e8 (br_c (fun z => by rw [if_pos z] at h; exact h) (fun z => by rw [if_neg z] at h; exact h))
  rw [if_neg e8] at h
  refine br_f e8 ?_
  by_cases e9 : o = 9
  · rw [if_pos e9] at h
    exact br_t e9 (br_c (fun z => by rw [if_pos z] at h; exact h) (fun z => by rw [if_neg z] at h; exact h))
  exact br_f e9 trivial
theorem xm_within {post : Int32 → Prop} {n m : Int32} (h : post (ps_wi n m)) : wpX_within post n m := by
  unfold ps_wi at h
  by_cases a : 0 ≤ n
  · rw [if_pos a] at h
    exact br_t a (br_c (fun z => by rw [if_pos z] at h; exact h) (fun z => by rw [if_neg z] at h; exact h))
  · rw [if_neg a] at h
    exact br_f a h
theorem ps_wi_n (x : Int32) {m : Int32} (M : Nat) (hm : m = nI M) (hM : M < 100) : ∃ j : Nat, j ≤ M ∧ ps_wi x m = nI j := by
  unfold ps_wi
  by_cases a : 0 ≤ x
  · rw [if_pos a]
    obtain ⟨j, hj, rfl⟩ := nI_of (x := x) (Int32.not_lt.mpr a)
    by_cases b : nI j ≤ m
    · rw [if_pos b]
      rw [hm, nI_leI hj (by omega)] at b
      exact ⟨j, b, rfl⟩
    · rw [if_neg b]
      exact ⟨M, Nat.le_refl _, hm⟩
  · rw [if_neg a]
    exact ⟨0, Nat.zero_le _, rfl⟩
theorem ps_wi_in (x y : Int32) : vp_in ((8 * ps_wi y 5) + ps_wi x 7) 48 := by
  obtain ⟨a, ha, ea⟩ := ps_wi_n x (m := 7) 7 rfl (by decide)
  obtain ⟨b, hb, eb⟩ := ps_wi_n y (m := 5) 5 rfl (by decide)
  rw [ea, eb, xc_m8, nI_add]
  exact vp_in_nI (by omega) (by decide)
def ps_hA : Nat → (Nat → Int32) → Nat → Int32
  | 0, g => g
  | f + 1, g => upd g f (g f + 1)
def ps_hV : Nat → (Nat → Int32) → (Nat → Int32) → Int32 → Nat → Int32
  | 0, _, v, _ => v
  | f + 1, g, v, z => upd v (14 * f + (g f).toNatClampNeg) z
section XMA
variable {tN dN hN sN pN : Int32} {pic dO dA dB dC stk spk ren len op aa ab ac way kep kKn few fKn fTg gS gX gY gA val spa : Nat → Int32}
theorem xm_cellAt {post : Int32 → Prop} {x y : Int32} (h : post (ps_nr pic x y)) : wpX_cellAt post (tN, dN, hN, sN, pN, pic, dO, dA, dB, dC, stk, spk, ren, len, op, aa, ab, ac, way, kep, kKn, few, fKn, fTg, gS, gX, gY, gA, val, spa) x y := by
  unfold wpX_cellAt
  dsimp only
  exact xm_within (xm_within (And.intro (ps_wi_in x y) h))
theorem xm_v198 {post : Int32 → Prop} {f i ra rb : Nat} (hf : f < 6) (hi : i < 70) (hra : ra < 14) (hrb : rb < 14) (ea : aa i = nI ra) (eb : ab i = nI rb) (h : post (ps_cb (op i) (val (14 * f + ra)) (val (14 * f + rb)))) : wX_valueOf_198 post (nI i) (nI (14 * f)) tN dN hN sN pN pic dO dA dB dC stk spk ren len op aa ab ac way kep kKn few fKn fTg gS gX gY gA val spa := by
  have vi : vp_in (nI i) 70 := vp_in_nI hi (by decide)
  unfold wX_valueOf_198
  rw [nI_clamp (n := i) (by omega), ea, eb, nI_add, nI_add, nI_clamp (by omega), nI_clamp (by omega)]
  exact And.intro vi (And.intro vi (And.intro (vp_in_nI (by omega) (by decide)) (And.intro vi (And.intro (vp_in_nI (by omega) (by decide)) (xm_worked h)))))
theorem xm_valueOf {post : Int32 → Prop} {f i q : Nat} {F : Nat → Int32 → Int32 → Int32} (hf : f < 6) (hi : i < 70) (hq : q ≤ 12) (h4 : q ≠ 4) (eo : op i = nI q) (h3 : q = 3 → ∃ r : Nat, r ≤ 8 ∧ aa i = nI r) (hA : 5 ≤ q → ∃ r : Nat, r < 14 ∧ aa i = nI r) (hB : 5 ≤ q → q ≠ 10 → ∃ r : Nat, r < 14 ∧ ab i = nI r) (hC : q = 12 → ∃ r : Nat, r < 14 ∧ ac i = nI r) (h : post (ps_xs (ps_lv pic F (gX f) (gY f)) (op i) (aa i) (ab i) (ac i) (ps_sh val (14 * f)))) : wpX_valueOf post (tN, dN, hN, sN, pN, pic, dO, dA, dB, dC, stk, spk, ren, len, op, aa, ab, ac, way, kep, kKn, few, fKn, fTg, gS, gX, gY, gA, val, spa) (nI f) (nI i) := by
  have vi : vp_in (nI i) 70 := vp_in_nI hi (by decide)
  have vf : vp_in (nI f) 6 := vp_in_nI hf (by decide)
  have ci : (nI i).toNatClampNeg = i := nI_clamp (by omega)
  have cf : (nI f).toNatClampNeg = f := nI_clamp (by omega)
  have E : op (nI i).toNatClampNeg = nI q := by rw [ci]; exact eo
  rw [eo] at h
  refine nm_r (xc_m14 f) (And.intro vi (nm_r E ?_))
  have two : 5 ≤ q → q ≠ 10 → q ≠ 12 → wX_valueOf_198 post (nI i) (nI (14 * f)) tN dN hN sN pN pic dO dA dB dC stk spk ren len op aa ab ac way kep kKn few fKn fTg gS gX gY gA val spa := by
    intro a b c
    obtain ⟨ra, hra, ea⟩ := hA a
    obtain ⟨rb, hrb, eb⟩ := hB a b
    rw [ps_xs_2 hq a b c, ea, eb, nI_clamp (by omega), nI_clamp (by omega)] at h
    exact xm_v198 hf hi hra hrb ea eb (by rw [eo]; exact h)
  rcases ps_q hq with rfl | rfl | rfl | rfl | rfl | rfl | rfl | rfl | rfl | rfl | rfl | rfl | rfl
  · rw [ps_xs_l (by decide), ps_lv0] at h
    exact br_f (by decide) (br_f (by decide) (br_t (by decide) (And.intro vi (by rw [ci]; exact h))))
  · rw [ps_xs_l (by decide), ps_lv1] at h
    exact br_f (by decide) (br_f (by decide) (br_f (by decide) (br_t (by decide) (And.intro vf (by rw [cf]; exact h)))))
  · rw [ps_xs_l (by decide), ps_lv2] at h
    exact br_f (by decide) (br_f (by decide) (br_f (by decide) (br_f (by decide) (br_t (by decide) (And.intro vf (by rw [cf]; exact h))))))
  · obtain ⟨r, hr, ea⟩ := h3 rfl
    rw [ps_xs_l (by decide), ps_lv3, ea, ps_ox_n (by omega), ps_oy_n (by omega), Nat.mod_eq_of_lt (show r < 9 by omega)] at h
    refine br_f (by decide) (br_f (by decide) (br_f (by decide) (br_f (by decide) (br_f (by decide) (br_t (by decide) ?_)))))
    refine And.intro vf (And.intro vi (And.intro (by decide) (And.intro vf (And.intro vi (And.intro (by decide) ?_)))))
    rw [ci, cf, ea, ps_m3 (by omega), ps_d3 (by omega)]
    exact xm_cellAt h
  · exact absurd rfl h4
  · exact br_f (by decide) (br_f (by decide) (br_f (by decide) (br_f (by decide) (br_f (by decide) (br_f (by decide) (br_f (by decide) (br_t (by decide) (two (by decide) (by decide) (by decide)))))))))
  · exact br_f (by decide) (br_f (by decide) (br_f (by decide) (br_f (by decide) (br_f (by decide) (br_f (by decide) (br_f (by decide) (br_f (by decide) (br_t (by decide) (two (by decide) (by decide) (by decide))))))))))
  · exact br_f (by decide) (br_f (by decide) (br_f (by decide) (br_f (by decide) (br_f (by decide) (br_f (by decide) (br_f (by decide) (br_f (by decide) (br_f (by decide) (br_t (by decide) (two (by decide) (by decide) (by decide)))))))))))
  · exact br_f (by decide) (br_f (by decide) (br_f (by decide) (br_f (by decide) (br_f (by decide) (br_f (by decide) (br_f (by decide) (br_f (by decide) (br_f (by decide) (br_f (by decide) (br_t (by decide) (two (by decide) (by decide) (by decide))))))))))))
  · exact br_f (by decide) (br_f (by decide) (br_f (by decide) (br_f (by decide) (br_f (by decide) (br_f (by decide) (br_f (by decide) (br_f (by decide) (br_f (by decide) (br_f (by decide) (br_f (by decide) (br_t (by decide) (two (by decide) (by decide) (by decide)))))))))))))
  · obtain ⟨ra, hra, ea⟩ := hA (by decide)
    rw [ps_xs_10, ea, nI_clamp (by omega)] at h
    refine br_f (by decide) (br_f (by decide) (br_f (by decide) (br_f (by decide) (br_f (by decide) (br_f (by decide) (br_f (by decide) (br_f (by decide) (br_f (by decide) (br_f (by decide) (br_f (by decide) (br_f (by decide) (br_t (by decide) ?_))))))))))))
    rw [ci, ea, nI_add, nI_clamp (by omega)]
    exact And.intro vi (And.intro (vp_in_nI (by omega) (by decide)) h)
  · exact br_f (by decide) (br_f (by decide) (br_f (by decide) (br_f (by decide) (br_f (by decide) (br_f (by decide) (br_f (by decide) (br_f (by decide) (br_f (by decide) (br_f (by decide) (br_f (by decide) (br_f (by decide) (br_f (by decide) (br_t (by decide) (two (by decide) (by decide) (by decide)))))))))))))))
  · obtain ⟨ra, hra, ea⟩ := hA (by decide)
    obtain ⟨rb, hrb, eb⟩ := hB (by decide) (by decide)
    obtain ⟨rc, hrc, ec⟩ := hC rfl
    rw [ps_xs_12, ea, eb, ec, nI_clamp (by omega), nI_clamp (by omega), nI_clamp (by omega)] at h
    refine br_f (by decide) (br_f (by decide) (br_f (by decide) (br_f (by decide) (br_f (by decide) (br_f (by decide) (br_f (by decide) (br_f (by decide) (br_f (by decide) (br_f (by decide) (br_f (by decide) (br_f (by decide) (br_f (by decide) (br_f (by decide) (br_t (by decide) ?_))))))))))))))
    rw [ci, ea, eb, ec, nI_add, nI_add, nI_add, nI_clamp (by omega), nI_clamp (by omega), nI_clamp (by omega)]
    refine And.intro vi (And.intro (vp_in_nI (by omega) (by decide)) ?_)
    by_cases z : val (14 * f + ra) ≤ 0
    · exact br_t z (And.intro vi (And.intro (vp_in_nI (by omega) (by decide)) (by rw [if_pos (show ps_sh val (14 * f) ra ≤ 0 from z)] at h; exact h)))
    · exact br_f z (And.intro vi (And.intro (vp_in_nI (by omega) (by decide)) (by rw [if_neg (show ¬ ps_sh val (14 * f) ra ≤ 0 from z)] at h; exact h)))
/-! .. one step -/
theorem xm_adv_v {post : SX → Prop} {f i j q : Nat} {F : Nat → Int32 → Int32 → Int32} (hf : f < 6) (hi : i < 70) (hj : j < 14) (ej : gA f = nI j) (hq : q ≤ 12) (h4 : q ≠ 4) (eo : op i = nI q) (h3 : q = 3 → ∃ r : Nat, r ≤ 8 ∧ aa i = nI r) (hA : 5 ≤ q → ∃ r : Nat, r < 14 ∧ aa i = nI r) (hB : 5 ≤ q → q ≠ 10 → ∃ r : Nat, r < 14 ∧ ab i = nI r) (hC : q = 12 → ∃ r : Nat, r < 14 ∧ ac i = nI r) (H : post (tN, dN, hN, sN, pN, pic, dO, dA, dB, dC, stk, spk, ren, len, op, aa, ab, ac, way, kep, kKn, few, fKn, fTg, gS, gX, gY, upd gA f (nI (j + 1)), upd val (14 * f + j) (ps_xs (ps_lv pic F (gX f) (gY f)) (op i) (aa i) (ab i) (ac i) (ps_sh val (14 * f))), spa)) : wpX_advance post (tN, dN, hN, sN, pN, pic, dO, dA, dB, dC, stk, spk, ren, len, op, aa, ab, ac, way, kep, kKn, few, fKn, fTg, gS, gX, gY, gA, val, spa) (nI f) (nI i) := by
  have vi : vp_in (nI i) 70 := vp_in_nI hi (by decide)
  have vf : vp_in (nI f) 6 := vp_in_nI hf (by decide)
  have ci : (nI i).toNatClampNeg = i := nI_clamp (by omega)
  have cf : (nI f).toNatClampNeg = f := nI_clamp (by omega)
  have n4 : ¬ op (nI i).toNatClampNeg = 4 := by rw [ci, eo]; exact fun z => h4 ((ps_e4 hq).mp z)
  refine And.intro vi (br_f n4 (And.intro vf (xm_valueOf (F := F) hf hi hq h4 eo h3 hA hB hC ?_)))
  rw [cf, ej, xc_m14, nI_add, nI_clamp (by omega), nI_1]
  exact And.intro (vp_in_nI (by omega) (by decide)) (nm_e (And.intro vf (And.intro vf (nm_e H))))
theorem xm_open {post : SX → Prop} {f : Nat} {k x y : Int32} (hf : f < 6) (H : post (tN, dN, hN, sN, nI (f + 1), pic, dO, dA, dB, dC, stk, spk, ren, len, op, aa, ab, ac, way, kep, kKn, few, fKn, fTg, upd gS f k, upd gX f x, upd gY f y, upd gA f 0, val, spa)) : wpX_open post (tN, dN, hN, sN, nI f, pic, dO, dA, dB, dC, stk, spk, ren, len, op, aa, ab, ac, way, kep, kKn, few, fKn, fTg, gS, gX, gY, gA, val, spa) k x y := by
  have vf : vp_in (nI f) 6 := vp_in_nI hf (by decide)
  have cf : (nI f).toNatClampNeg = f := nI_clamp (by omega)
  unfold wpX_open
  dsimp only
  rw [cf, nI_1]
  exact And.intro vf (nm_e (And.intro vf (nm_e (And.intro vf (nm_e (And.intro vf (nm_e (nm_e H))))))))
theorem xm_adv_s {post : SX → Prop} {f i j r s k : Nat} {F : Nat → Int32 → Int32 → Int32} (hf : f + 1 < 6) (hi : i < 70) (hj : j < 14) (ej : gA f = nI j) (eo : op i = nI 4) (ea : aa i = nI r) (hr : r < 9 * k) (hk : k < s) (hs : s ≤ 5) (hR : ps_RK s F way kep kKn few fKn fTg)
    (HK : post (tN, dN, hN, sN, nI (f + 1), pic, dO, dA, dB, dC, stk, spk, ren, len, op, aa, ab, ac, way, kep, kKn, few, fKn, fTg, gS, gX, gY, upd gA f (nI (j + 1)), upd val (14 * f + j) (F (r / 9) ((gX f + ps_ox (nI r)) - 1) ((gY f + ps_oy (nI r)) - 1)), spa))
    (HO : post (tN, dN, hN, sN, nI (f + 1 + 1), pic, dO, dA, dB, dC, stk, spk, ren, len, op, aa, ab, ac, way, kep, kKn, few, fKn, fTg, upd gS (f + 1) (nI (r / 9)), upd gX (f + 1) ((gX f + ps_ox (nI r)) - 1), upd gY (f + 1) ((gY f + ps_oy (nI r)) - 1), upd gA (f + 1) 0, val, spa)) : wpX_advance post (tN, dN, hN, sN, nI (f + 1), pic, dO, dA, dB, dC, stk, spk, ren, len, op, aa, ab, ac, way, kep, kKn, few, fKn, fTg, gS, gX, gY, gA, val, spa) (nI f) (nI i) := by
  have vi : vp_in (nI i) 70 := vp_in_nI hi (by decide)
  have vf : vp_in (nI f) 6 := vp_in_nI (by omega) (by decide)
  have ci : (nI i).toNatClampNeg = i := nI_clamp (by omega)
  have cf : (nI f).toNatClampNeg = f := nI_clamp (by omega)
  have p4 : op (nI i).toNatClampNeg = 4 := by rw [ci, eo]; rfl
  have e1 : aa (nI i).toNatClampNeg / 9 = nI (r / 9) := by rw [ci, ea, ps_d9 (by omega)]
  have e2 : (gX (nI f).toNatClampNeg + (aa (nI i).toNatClampNeg - aa (nI i).toNatClampNeg / 9 * 9) / 3) - 1 = (gX f + ps_ox (nI r)) - 1 := by rw [ci, cf, ea]; rfl
  have e3 : (gY (nI f).toNatClampNeg + (aa (nI i).toNatClampNeg - aa (nI i).toNatClampNeg / 3 * 3)) - 1 = (gY f + ps_oy (nI r)) - 1 := by
    rw [ci, cf, ea, ps_m3 (by omega), ps_oy_n (by omega)]
    rw [show r % 9 % 3 = r % 3 by omega]
  refine And.intro vi (br_t p4 (And.intro vi (And.intro (by decide) (nm_r e1 (And.intro vf (And.intro vi (And.intro (by decide) (And.intro (by decide) (nm_r e2 (And.intro vf (And.intro vi (And.intro (by decide) (nm_r e3 ?_))))))))))))) 
  refine xc_known hs (show r / 9 < s by omega) hR ?_ ?_
  · exact br_t rfl (xm_open hf HO)
  · intro hv
    refine br_f (by decide) (And.intro vf (hv _ ?_))
    rw [cf, ej, xc_m14, nI_add, nI_clamp (by omega), nI_1]
    exact And.intro (vp_in_nI (by omega) (by decide)) (nm_e (And.intro vf (And.intro vf (nm_e HK))))
theorem xm_hand {post : SX → Prop} {f : Nat} {v : Int32} (hf : f < 6) (hA : ∀ g, g + 1 = f → ∃ j : Nat, j < 14 ∧ gA g = nI j) (H : post (tN, dN, hN, sN, nI f, pic, dO, dA, dB, dC, stk, spk, ren, len, op, aa, ab, ac, way, kep, kKn, few, fKn, fTg, gS, gX, gY, ps_hA f gA, ps_hV f gA val v, spa)) : wpX_hand post (tN, dN, hN, sN, nI f, pic, dO, dA, dB, dC, stk, spk, ren, len, op, aa, ab, ac, way, kep, kKn, few, fKn, fTg, gS, gX, gY, gA, val, spa) v := by
  cases f with
  | zero => exact br_t (by decide) H
  | succ g =>
    obtain ⟨j, hj, ej⟩ := hA g rfl
    have vg : vp_in (nI g) 6 := vp_in_nI (by omega) (by decide)
    have cg : (nI g).toNatClampNeg = g := nI_clamp (by omega)
    have e1 : (14 * nI g) + gA (nI g).toNatClampNeg = nI (14 * g + j) := by rw [cg, ej, xc_m14, nI_add]
    have e2 : upd val ((14 * nI g) + gA (nI g).toNatClampNeg).toNatClampNeg v = ps_hV (g + 1) gA val v := by
      rw [e1, nI_clamp (by omega)]
      show _ = upd val (14 * g + (gA g).toNatClampNeg) v
      rw [ej, nI_clamp (by omega)]
    have e3 : upd gA (nI g).toNatClampNeg (gA (nI g).toNatClampNeg + 1) = ps_hA (g + 1) gA := by rw [cg]; rfl
    have v1 : vp_in ((14 * nI g) + gA (nI g).toNatClampNeg) 84 := by rw [e1]; exact vp_in_nI (by omega) (by decide)
    exact br_f (nI_nle (by omega) (by omega)) (nm_r (nI_pred g) (And.intro vg (And.intro v1 (nm_r e2 (And.intro vg (And.intro vg (nm_r e3 H)))))))
end XMA
end
section
/-! the machine's run: a frame costs at most ps_c steps -/
def ps_c : Nat → Nat
  | 0 => 0
  | k + 1 => 15 + 9 * ps_c k
theorem ps_c_s (k : Nat) : ps_c (k + 1) = 15 + 9 * ps_c k := rfl
theorem ps_c_le {a : Nat} : ∀ b, a ≤ b → ps_c a ≤ ps_c b := by
  intro b
  induction b with
  | zero => intro h; rw [show a = 0 by omega]; exact Nat.le_refl _
  | succ b ih =>
    intro h
    rcases Nat.lt_or_ge b a with h2 | h2
    · rw [show a = b + 1 by omega]; exact Nat.le_refl _
    · have := ih h2
      rw [ps_c_s]; omega
theorem ps_c_5 : ps_c 5 = 110715 := by decide
def ps_MR (k : Nat) (P : Nat → Int32) (F : Nat → Int32 → Int32 → Int32) (ln op a b c : Nat → Int32) : Prop := ∃ L : Nat, 1 ≤ L ∧ L ≤ 14 ∧ ln k = nI L ∧ ps_CK k (ps_sh op (14 * k)) (ps_sh a (14 * k)) (ps_sh b (14 * k)) (ps_sh c (14 * k)) L ∧ ps_cn (ps_sh op (14 * k)) L ≤ 9 ∧ ∀ x y, ps_xa (ps_lv P F x y) (ps_sh op (14 * k)) (ps_sh a (14 * k)) (ps_sh b (14 * k)) (ps_sh c (14 * k)) L (L - 1) = F k x y
theorem ps_SR_MR {k : Nat} {P sz ks ag ln op a b c : Nat → Int32} (hk : k ≤ 5) (h : ps_SR k sz ks ag ln op a b c) : ps_MR k P (ps_F P sz ks ag) ln op a b c := by
  obtain ⟨n, L, _, n14, l1, l14, ez, el, ht, hc, h9, hx⟩ := h
  exact ⟨L, l1, l14, el, hc, h9, fun x y => (hx _ ps_lv_LF).trans (ps_F_eq hk ez n14 ht).symm⟩
def ps_ag (f : Nat) (gS gX gY gA val gS' gX' gY' gA' val' : Nat → Int32) : Prop := (∀ g, g < f → gS' g = gS g ∧ gX' g = gX g ∧ gY' g = gY g ∧ gA' g = gA g) ∧ ∀ t, t < 14 * f → val' t = val t
theorem ps_ag_r {f : Nat} {gS gX gY gA val : Nat → Int32} : ps_ag f gS gX gY gA val gS gX gY gA val := ⟨fun _ _ => ⟨rfl, rfl, rfl, rfl⟩, fun _ _ => rfl⟩
section XRU
variable {tN dN hN sN pN : Int32} {pic dO dA dB dC stk spk ren len op aa ab ac way kep kKn few fKn fTg gS gX gY gA val spa : Nat → Int32}
theorem xm_run {post : Int32 → SX → Prop} {s : Nat} {F : Nat → Int32 → Int32 → Int32} (hs : s ≤ 5) (hM : ∀ k, k < s → ps_MR k pic F len op aa ab ac) : ∀ k, k < s → ∀ (f i0 : Nat) (x5 : Int32) (kep kKn few fKn fTg gS gX gY gA val : Nat → Int32), f + k ≤ 4 → i0 + ps_c (k + 1) < 120000 → ps_RK s F way kep kKn few fKn fTg → gS f = nI k → gA f = nI 0 → (∀ g, g + 1 = f → ∃ j : Nat, j < 14 ∧ gA g = nI j) →
    (∀ (i' : Nat) (kep' kKn' few' fKn' fTg' gS' gX' gY' gA' val' : Nat → Int32), i' ≤ i0 + ps_c (k + 1) → ps_RK s F way kep' kKn' few' fKn' fTg' → ps_ag f gS gX gY gA val gS' gX' gY' gA' val' → wX_cellOf_40 post (120001 - i') (F k (gX f) (gY f)) (nI i') tN dN hN sN (nI f) pic dO dA dB dC stk spk ren len op aa ab ac way kep' kKn' few' fKn' fTg' gS' gX' gY' (ps_hA f gA') (ps_hV f gA' val' (F k (gX f) (gY f))) spa) →
    wX_cellOf_40 post (120001 - i0) x5 (nI i0) tN dN hN sN (nI (f + 1)) pic dO dA dB dC stk spk ren len op aa ab ac way kep kKn few fKn fTg gS gX gY gA val spa := by
  intro k
  induction k using Nat.strongRecOn with
  | ind k IH =>
    intro hk f i0 x5 kep kKn few fKn fTg gS gX gY gA val hf hi0 hR eS eA hG K
    obtain ⟨L, hL1, hL14, eL, hC, hn9, hX⟩ := hM k hk
    have vf : vp_in (nI f) 6 := vp_in_nI (by omega) (by decide)
    have vk : vp_in (nI k) 5 := vp_in_nI (by omega) (by decide)
    have cf : (nI f).toNatClampNeg = f := nI_clamp (by omega)
    have ck : (nI k).toNatClampNeg = k := nI_clamp (by omega)
    have hck := ps_c_s k
    have inner : ∀ d j : Nat, j + d = L → ∀ (i : Nat) (x5 : Int32) (kep kKn few fKn fTg gS' gX' gY' gA' val' : Nat → Int32), ps_RK s F way kep kKn few fKn fTg → ps_ag f gS gX gY gA val gS' gX' gY' gA' val' → gS' f = nI k → gX' f = gX f → gY' f = gY f → gA' f = nI j → (∀ t, t < j → val' (14 * f + t) = ps_xa (ps_lv pic F (gX f) (gY f)) (ps_sh op (14 * k)) (ps_sh aa (14 * k)) (ps_sh ab (14 * k)) (ps_sh ac (14 * k)) j t) → i + d + 1 + ps_c k * (ps_cn (ps_sh op (14 * k)) L - ps_cn (ps_sh op (14 * k)) j) ≤ i0 + ps_c (k + 1) → wX_cellOf_40 post (120001 - i) x5 (nI i) tN dN hN sN (nI (f + 1)) pic dO dA dB dC stk spk ren len op aa ab ac way kep kKn few fKn fTg gS' gX' gY' gA' val' spa := by
      intro d
      induction d with
      | zero =>
        intro j hj i x5 kep kKn few fKn fTg gS' gX' gY' gA' val' hR hag eS' eX' eY' eA' hv hb
        obtain rfl : j = L := by omega
        obtain ⟨m, hm⟩ : ∃ m, 120001 - i = m + 1 := ⟨120000 - i, by omega⟩
        have hm' : 120001 - (i + 1) = m := by omega
        have h1 : ¬ (120000 : Int32) ≤ nI i := nI_ge (b := 120000) (by omega) (by decide)
        have h2 : ¬ nI (f + 1) ≤ 0 := nI_nle (by omega) (by omega)
        have e8 : gS' (nI f).toNatClampNeg = nI k := by rw [cf]; exact eS'
        have el : len (nI k).toNatClampNeg = nI j := by rw [ck]; exact eL
        have hle : len (nI k).toNatClampNeg ≤ gA' (nI f).toNatClampNeg := by rw [el, cf, eA']; exact Int32.le_refl _
        have e9 : ((14 * nI f) + len (nI k).toNatClampNeg) - 1 = nI (14 * f + (j - 1)) := by
          rw [el, xc_m14, nI_add]
          obtain ⟨t, rfl⟩ : ∃ t, j = t + 1 := ⟨j - 1, by omega⟩
          exact nI_pred (14 * f + t)
        have ev : val' (((14 * nI f) + len (nI k).toNatClampNeg) - 1).toNatClampNeg = F k (gX f) (gY f) := by
          rw [e9, nI_clamp (by omega), hv (j - 1) (by omega)]; exact hX _ _
        have v9 : vp_in (((14 * nI f) + len (nI k).toNatClampNeg) - 1) 84 := by rw [e9]; exact vp_in_nI (by omega) (by decide)
        have eFX : F k (gX f) (gY f) = F k (gX' (nI f).toNatClampNeg) (gY' (nI f).toNatClampNeg) := by rw [cf, eX', eY']
        rw [hm, wX_cellOf_40]
        refine br_f h1 (br_f h2 (nm_r (nI_pred f) (And.intro vf (nm_r e8 (And.intro vf (And.intro vk (br_t hle (And.intro vk (And.intro v9 (nm_r ev (And.intro vf (And.intro vf ?_))))))))))))
        refine xc_keep hs hk eFX hR (fun kep' kKn' few' fKn' fTg' hR' => nm_r (nI_pred f) (xm_hand (by omega) ?_ (nm_r (nI_1 i) ?_)))
        · intro g hg
          obtain ⟨t, ht, et⟩ := hG g hg
          exact ⟨t, ht, by rw [(hag.1 g (by omega)).2.2.2]; exact et⟩
        · have := K (i + 1) kep' kKn' few' fKn' fTg' gS' gX' gY' gA' val' (by omega) hR' hag
          rw [hm'] at this
          exact this
      | succ d ihd =>
        intro j hj i x5 kep kKn few fKn fTg gS' gX' gY' gA' val' hR hag eS' eX' eY' eA' hv hb
        obtain ⟨m, hm⟩ : ∃ m, 120001 - i = m + 1 := ⟨120000 - i, by omega⟩
        have hm' : 120001 - (i + 1) = m := by omega
        have h1 : ¬ (120000 : Int32) ≤ nI i := nI_ge (b := 120000) (by omega) (by decide)
        have h2 : ¬ nI (f + 1) ≤ 0 := nI_nle (by omega) (by omega)
        have e8 : gS' (nI f).toNatClampNeg = nI k := by rw [cf]; exact eS'
        have el : len (nI k).toNatClampNeg = nI L := by rw [ck]; exact eL
        have hle : ¬ len (nI k).toNatClampNeg ≤ gA' (nI f).toNatClampNeg := by rw [el, cf, eA']; exact nI_ge (by omega) (by omega)
        have ei : (14 * nI k) + gA' (nI f).toNatClampNeg = nI (14 * k + j) := by rw [cf, eA', xc_m14, nI_add]
        have hmono := ps_cn_mono (op := ps_sh op (14 * k)) L (show j + 1 ≤ L by omega)
        have hcs : ps_cn (ps_sh op (14 * k)) (j + 1) = ps_cn (ps_sh op (14 * k)) j + if ps_sh op (14 * k) j = 4 then 1 else 0 := rfl
        obtain ⟨q, hq, eo, h3, h4, hA, hB, hCC⟩ := hC j (by omega)
        have hxs : ∀ lf, ps_xs lf (op (14 * k + j)) (aa (14 * k + j)) (ab (14 * k + j)) (ac (14 * k + j)) (ps_sh val' (14 * f)) = ps_xs lf (op (14 * k + j)) (aa (14 * k + j)) (ab (14 * k + j)) (ac (14 * k + j)) (ps_sh val' (14 * f)) := fun _ => rfl
        -- the frame goes on with one value more
        have next : ∀ (i' : Nat) (x5 z : Int32) (kep kKn few fKn fTg gS'' gX'' gY'' gA'' val'' : Nat → Int32), ps_RK s F way kep kKn few fKn fTg → ps_ag f gS' gX' gY' gA' val' gS'' gX'' gY'' gA'' val'' → gS'' f = nI k → gX'' f = gX f → gY'' f = gY f → (∀ t, t < j → val'' (14 * f + t) = val' (14 * f + t)) → z = ps_xa (ps_lv pic F (gX f) (gY f)) (ps_sh op (14 * k)) (ps_sh aa (14 * k)) (ps_sh ab (14 * k)) (ps_sh ac (14 * k)) (j + 1) j → i' + d + 1 + ps_c k * (ps_cn (ps_sh op (14 * k)) L - ps_cn (ps_sh op (14 * k)) (j + 1)) ≤ i0 + ps_c (k + 1) → wX_cellOf_40 post (120001 - i') x5 (nI i') tN dN hN sN (nI (f + 1)) pic dO dA dB dC stk spk ren len op aa ab ac way kep kKn few fKn fTg gS'' gX'' gY'' (upd gA'' f (nI (j + 1))) (upd val'' (14 * f + j) z) spa := by
          intro i' x5 z kep kKn few fKn fTg gS'' gX'' gY'' gA'' val'' hR' hag' a1 a2 a3 a4 a5 a6
          refine ihd (j + 1) (by omega) i' x5 kep kKn few fKn fTg gS'' gX'' gY'' (upd gA'' f (nI (j + 1))) (upd val'' (14 * f + j) z) hR' ?_ a1 a2 a3 pk_us ?_ a6
          · refine ⟨fun g hg => ?_, fun t ht => ?_⟩
            · obtain ⟨b1, b2, b3, b4⟩ := hag.1 g hg
              obtain ⟨c1, c2, c3, c4⟩ := hag'.1 g hg
              exact ⟨c1.trans b1, c2.trans b2, c3.trans b3, by rw [pk_un (by omega)]; exact c4.trans b4⟩
            · rw [pk_un (by omega)]; exact (hag'.2 t ht).trans (hag.2 t ht)
          · intro t ht
            by_cases e : t = j
            · subst e; rw [pk_us]; exact a5
            · rw [pk_un (by omega), a4 t (by omega), hv t (by omega), ps_xa_st (show t < j by omega) (j + 1) (by omega)]
        rw [hm, wX_cellOf_40]
        refine br_f h1 (br_f h2 (nm_r (nI_pred f) (And.intro vf (nm_r e8 (And.intro vf (And.intro vk (br_f hle (And.intro vf ?_))))))))
        rw [ei]
        by_cases q4 : q = 4
        · subst q4
          obtain ⟨r, hr, ea⟩ := h4 rfl
          have hcs4 : ps_cn (ps_sh op (14 * k)) (j + 1) = ps_cn (ps_sh op (14 * k)) j + 1 := by rw [hcs, if_pos (by rw [eo]; rfl)]
          obtain ⟨w, hw⟩ : ∃ w, ps_cn (ps_sh op (14 * k)) L - ps_cn (ps_sh op (14 * k)) j = w + 1 := ⟨ps_cn (ps_sh op (14 * k)) L - ps_cn (ps_sh op (14 * k)) (j + 1), by omega⟩
          have hw' : ps_cn (ps_sh op (14 * k)) L - ps_cn (ps_sh op (14 * k)) (j + 1) = w := by omega
          rw [hw, Nat.mul_succ] at hb
          rw [hw'] at next
          have ez : F (r / 9) ((gX' f + ps_ox (nI r)) - 1) ((gY' f + ps_oy (nI r)) - 1) = ps_xa (ps_lv pic F (gX f) (gY f)) (ps_sh op (14 * k)) (ps_sh aa (14 * k)) (ps_sh ab (14 * k)) (ps_sh ac (14 * k)) (j + 1) j := by
            rw [ps_xa_top, eo, ps_xs_l (by decide), ps_lv4, ea, ps_d9 (by omega), nI_clamp (by omega), eX', eY']
          have hkk : r / 9 < k := by omega
          have hcc := ps_c_le k (show r / 9 + 1 ≤ k by omega)
          refine xm_adv_s (by omega) (by omega) (by omega) eA' eo ea hr hk hs hR (nm_r (nI_1 i) ?_) (nm_r (nI_1 i) ?_)
          · have := next (i + 1) x5 _ kep kKn few fKn fTg gS' gX' gY' gA' val' hR ps_ag_r eS' eX' eY' (fun _ _ => rfl) ez (by omega)
            rw [hm'] at this
            exact this
          · have := IH (r / 9) hkk (by omega) (f + 1) (i + 1) x5 kep kKn few fKn fTg (upd gS' (f + 1) (nI (r / 9))) (upd gX' (f + 1) ((gX' f + ps_ox (nI r)) - 1)) (upd gY' (f + 1) ((gY' f + ps_oy (nI r)) - 1)) (upd gA' (f + 1) 0) val' (by omega) (by omega) hR pk_us pk_us (fun g hg => ⟨j, by omega, by rw [pk_un (by omega), show g = f by omega]; exact eA'⟩) ?_
            · rw [hm'] at this
              exact this
            · intro i' kep' kKn' few' fKn' fTg' gS'' gX'' gY'' gA'' val'' hi' hR' hag'
              rw [pk_us, pk_us]
              obtain ⟨b1, b2, b3, b4⟩ := hag'.1 f (by omega)
              rw [pk_un (by omega)] at b1 b2 b3 b4
              have n := next i' (F (r / 9) ((gX' f + ps_ox (nI r)) - 1) ((gY' f + ps_oy (nI r)) - 1)) _ kep' kKn' few' fKn' fTg' gS'' gX'' gY'' gA'' val'' hR' ⟨fun g hg => ?_, fun t ht => hag'.2 t (by omega)⟩ (b1.trans eS') (b2.trans eX') (b3.trans eY') (fun t ht => hag'.2 _ (by omega)) ez (by omega)
              · have e1 : upd gA'' f (nI (j + 1)) = ps_hA (f + 1) gA'' := by
                  show _ = upd gA'' f (gA'' f + 1)
                  rw [b4, eA', nI_1]
                have e2 : ∀ z, upd val'' (14 * f + j) z = ps_hV (f + 1) gA'' val'' z := by
                  intro z
                  show _ = upd val'' (14 * f + (gA'' f).toNatClampNeg) z
                  rw [b4, eA', nI_clamp (by omega)]
                rw [e1, e2] at n
                exact n
              · obtain ⟨c1, c2, c3, c4⟩ := hag'.1 g (by omega)
                rw [pk_un (by omega)] at c1 c2 c3 c4
                exact ⟨c1, c2, c3, c4⟩
        · have hcs0 : ps_cn (ps_sh op (14 * k)) (j + 1) = ps_cn (ps_sh op (14 * k)) j := by
            rw [hcs, if_neg (by rw [eo]; exact fun z => q4 ((ps_e4 hq).mp z))]; rfl
          rw [hcs0] at next
          refine xm_adv_v (q := q) (F := F) (by omega) (by omega) (by omega) eA' hq q4 eo h3 (fun z => ?_) (fun z z' => ?_) (fun z => ?_) (nm_r (nI_1 i) ?_)
          · obtain ⟨r, hr, e⟩ := hA z; exact ⟨r, by omega, e⟩
          · obtain ⟨r, hr, e⟩ := hB z z'; exact ⟨r, by omega, e⟩
          · obtain ⟨r, hr, e⟩ := hCC z; exact ⟨r, by omega, e⟩
          · have := next (i + 1) x5 (ps_xs (ps_lv pic F (gX' f) (gY' f)) (op (14 * k + j)) (aa (14 * k + j)) (ab (14 * k + j)) (ac (14 * k + j)) (ps_sh val' (14 * f))) kep kKn few fKn fTg gS' gX' gY' gA' val' hR ps_ag_r eS' eX' eY' (fun _ _ => rfl) ?_ (by omega)
            · rw [hm'] at this
              exact this
            · rw [eX', eY']
              exact (ps_xa_at hC (show j < L by omega) (by omega) (by omega) hv).symm
    refine inner L 0 (by omega) i0 x5 kep kKn few fKn fTg gS gX gY gA val hR ps_ag_r eS rfl rfl eA (fun t ht => by omega) ?_
    have : ps_c k * (ps_cn (ps_sh op (14 * k)) L - ps_cn (ps_sh op (14 * k)) 0) ≤ ps_c k * 9 := Nat.mul_le_mul_left _ (by show ps_cn _ L - 0 ≤ 9; omega)
    omega
theorem xm_cellOf {post : Int32 → SX → Prop} {s k : Nat} {F : Nat → Int32 → Int32 → Int32} {x y : Int32} (hs : s ≤ 5) (hM : ∀ k, k < s → ps_MR k pic F len op aa ab ac) (hk : k < s) (hR : ps_RK s F way kep kKn few fKn fTg) (H : ∀ (pN' : Int32) (kep' kKn' few' fKn' fTg' gS' gX' gY' gA' val' : Nat → Int32), ps_RK s F way kep' kKn' few' fKn' fTg' → post (F k x y) (tN, dN, hN, sN, pN', pic, dO, dA, dB, dC, stk, spk, ren, len, op, aa, ab, ac, way, kep', kKn', few', fKn', fTg', gS', gX', gY', gA', val', spa)) : wpX_cellOf post (tN, dN, hN, sN, pN, pic, dO, dA, dB, dC, stk, spk, ren, len, op, aa, ab, ac, way, kep, kKn, few, fKn, fTg, gS, gX, gY, gA, val, spa) (nI k) x y := by
  unfold wpX_cellOf
  dsimp only
  refine xc_known hs hk hR ?_ ?_
  · refine br_t rfl (xm_open (f := 0) (by decide) ⟨120001, ?_⟩)
    have hc := ps_c_le 5 (show k + 1 ≤ 5 by omega)
    rw [ps_c_5] at hc
    refine xm_run hs hM k hk 0 0 0 kep kKn few fKn fTg (upd gS 0 (nI k)) (upd gX 0 x) (upd gY 0 y) (upd gA 0 0) val (by omega) (by omega) hR pk_us pk_us (fun g hg => by omega) ?_
    intro i' kep' kKn' few' fKn' fTg' gS' gX' gY' gA' val' hi' hR' _
    rw [pk_us, pk_us]
    obtain ⟨m, hm⟩ : ∃ m, 120001 - i' = m + 1 := ⟨120000 - i', by omega⟩
    have h1 : ¬ (120000 : Int32) ≤ nI i' := nI_ge (b := 120000) (by omega) (by decide)
    rw [hm, wX_cellOf_40]
    exact br_f h1 (br_t (by decide) (H _ _ _ _ _ _ _ _ _ _ _ hR'))
  · intro hv
    exact br_f (by decide) (hv _ (H pN kep kKn few fKn fTg gS gX gY gA val hR))
end XRU
end
section
/-! the reference: all stages on one picture each -/
theorem yw_m528 (k : Nat) : 528 * nI k = nI (528 * k) := pk_mul 528 k
theorem yw_m24 (k : Nat) : 24 * nI k = nI (24 * k) := pk_mul 24 k
theorem yw_i (j a b : Nat) : (((528 * nI j) + (24 * ((nI b - 8) + 8))) + (nI a - 8)) + 8 = nI (528 * j + 24 * b + a) := by
  rw [xc_sc, xc_r1, yw_m528, yw_m24, nI_add, nI_add]
theorem yw_g (A T : Int32) : ((A - 8) + T) - 1 = (A + T) - 1 - 8 := by grind
theorem yw_c {a t : Nat} (h : 1 ≤ a + t) : ((nI a - 8) + nI t) - 1 = nI (a + t - 1) - 8 := by
  rw [yw_g, nI_add]
  obtain ⟨m, hm⟩ : ∃ m, a + t = m + 1 := ⟨a + t - 1, by omega⟩
  rw [hm, nI_pred, Nat.add_sub_cancel]
def ps_PK (F : Nat → Int32 → Int32 → Int32) (ypi : Nat → Int32) (k c : Nat) : Prop := ∀ j a b : Nat, (j < k ∨ j = k ∧ 24 * b + a < c) → j ≤ a → a + j ≤ 23 → j ≤ b → b + j ≤ 21 → ypi (528 * j + 24 * b + a) = F j (nI a - 8) (nI b - 8)
theorem yw_lt {a k : Nat} (ha : a < 1000) (hk : k < 1000) : nI a - 8 < nI k - 8 ↔ a < k := by
  rw [Int32.lt_iff_toInt_lt, show (8 : Int32) = nI 8 from rfl, pk_sub_toInt (by omega) (by decide), pk_sub_toInt (by omega) (by decide)]; omega
theorem yw_gt {a k : Nat} (m : Nat) (ha : a < 1000) (hk : k < 1000) (hm : m < 1000) : nI m - nI k < nI a - 8 ↔ m + 8 < a + k := by
  rw [Int32.lt_iff_toInt_lt, show (8 : Int32) = nI 8 from rfl, pk_sub_toInt (by omega) (by omega), pk_sub_toInt (by omega) (by decide)]; omega
theorem yw_s {n d : Nat} (h : d ≤ n) : nI n - nI d = nI (n - d) := pk_sub h
theorem yw_m1 {n : Nat} (h : 1 ≤ n) : nI n + (-1) = nI (n - 1) := by
  obtain ⟨m, rfl⟩ : ∃ m, n = m + 1 := ⟨n - 1, by omega⟩
  exact pk_m1 m
theorem yw_up {prt S : Nat → Int32} {h p : Nat} {v v' : Int32} (hh : ∀ t, t < h → prt t = S t) (hp : p ≤ h) (hv : v = v') : ∀ t, t < p + 1 → upd prt p v t = upd S p v' t := by
  intro t ht
  by_cases e : t = p
  · rw [e, pk_us, pk_us]; exact hv
  · rw [pk_un e, pk_un e]; exact hh t (by omega)
section YWO
variable {ySt yHt : Int32} {src siz kin arg wys ypi prt : Nat → Int32}
theorem yw_near {post : Int32 → Prop} {x y : Int32} (h : post (ps_nr src x y)) : wpY_sourceNear post (ySt, yHt, src, siz, kin, arg, wys, ypi, prt) x y := by
  have L39 : ∀ z c : Int32, z = ps_wi y 5 → c = ps_wi x 7 → wY_sourceNear_39 post c z ySt yHt src siz kin arg wys ypi prt := by
    intro z c hz hc
    subst hz hc
    exact And.intro (ps_wi_in x y) h
  have L20 : ∀ c : Int32, c = ps_wi x 7 → wY_sourceNear_20 post y c ySt yHt src siz kin arg wys ypi prt := by
    intro c hc
    exact br_c (fun a => br_c (fun b => L39 y c (by unfold ps_wi; rw [if_pos a, if_pos b]) hc) (fun b => L39 5 c (by unfold ps_wi; rw [if_pos a, if_neg b]) hc)) (fun a => L39 0 c (by unfold ps_wi; rw [if_neg a]) hc)
  exact br_c (fun a => br_c (fun b => L20 x (by unfold ps_wi; rw [if_pos a, if_pos b])) (fun b => L20 7 (by unfold ps_wi; rw [if_pos a, if_neg b]))) (fun a => L20 0 (by unfold ps_wi; rw [if_neg a]))
theorem yw_at {post : Int32 → Prop} {j a b : Nat} (hj : j < 5) (ha : a < 24) (hb : b < 22) (h : post (ypi (528 * j + 24 * b + a))) : wpY_at post (ySt, yHt, src, siz, kin, arg, wys, ypi, prt) (nI j) (nI a - 8) (nI b - 8) := by
  unfold wpY_at
  dsimp only
  rw [yw_i, nI_clamp (by omega)]
  exact And.intro (vp_in_nI (by omega) (by decide)) h
theorem yw_comb {post : Int32 → Prop} {o x y : Int32} (h : post (ps_cb o x y)) : wpY_combined post (ySt, yHt, src, siz, kin, arg, wys, ypi, prt) o x y := by
  have := xm_worked h
  unfold wpX_worked at this
  exact this
theorem yw_simple {post : Int32 → Prop} {F : Nat → Int32 → Int32 → Int32} {k q a b : Nat} {A : Int32} (hk : k < 5) (hq : q < 5) (h4 : q = 4 → ∃ r : Nat, r < 9 * k ∧ A = nI r) (ha : k ≤ a) (ha' : a + k ≤ 23) (hb : k ≤ b) (hb' : b + k ≤ 21) (hP : ps_PK F ypi k 0) (h : post (ps_lv src F (nI a - 8) (nI b - 8) (nI q) A)) : wpY_simple post (ySt, yHt, src, siz, kin, arg, wys, ypi, prt) (nI q) A (nI a - 8) (nI b - 8) := by
  rcases (by omega : q = 0 ∨ q = 1 ∨ q = 2 ∨ q = 3 ∨ q = 4) with rfl | rfl | rfl | rfl | rfl
  · rw [ps_lv0] at h
    exact br_t (by decide) h
  · rw [ps_lv1] at h
    exact br_f (by decide) (br_t (by decide) h)
  · rw [ps_lv2] at h
    exact br_f (by decide) (br_f (by decide) (br_t (by decide) h))
  · rw [ps_lv3] at h
    exact br_f (by decide) (br_f (by decide) (br_f (by decide) (And.intro (by decide) (nm_e (And.intro (by decide) (nm_e (And.intro (by decide) (nm_e (br_t (by decide) (yw_near h))))))))))
  · rw [ps_lv4] at h
    obtain ⟨r, hr, eA⟩ := h4 rfl
    refine br_f (by decide) (br_f (by decide) (br_f (by decide) (And.intro (by decide) (nm_e (And.intro (by decide) (nm_e (And.intro (by decide) (nm_e (br_f (by decide) (And.intro (by decide) ?_))))))))))
    subst eA
    have e1 : ((nI a - 8) + (nI r - nI r / 9 * 9) / 3) - 1 = nI (a + r % 9 / 3 - 1) - 8 := (congrArg (fun t => ((nI a - 8) + t) - 1) (ps_ox_n (r := r) (by omega))).trans (yw_c (by omega))
    have e2 : ((nI b - 8) + ((nI r - nI r / 9 * 9) - (nI r - nI r / 9 * 9) / 3 * 3)) - 1 = nI (b + r % 9 % 3 - 1) - 8 := (congrArg (fun t => ((nI b - 8) + t) - 1) (ps_oy_n (r := r) (by omega))).trans (yw_c (by omega))
    rw [e1, e2, ps_d9 (by omega)]
    refine yw_at (by omega) (by omega) (by omega) ?_
    rw [hP (r / 9) (a + r % 9 / 3 - 1) (b + r % 9 % 3 - 1) (Or.inl (by omega)) (by omega) (by omega) (by omega) (by omega)]
    have e1' : ((nI a - 8) + ps_ox (nI r)) - 1 = nI (a + r % 9 / 3 - 1) - 8 := e1
    have e2' : ((nI b - 8) + ps_oy (nI r)) - 1 = nI (b + r % 9 % 3 - 1) - 8 := e2
    rw [e1', e2', ps_d9 (by omega), nI_clamp (by omega)] at h
    exact h
theorem yw_form {post : Int32 → SY → Prop} {F : Nat → Int32 → Int32 → Int32} {k n a b : Nat} (hk : k < 5) (hn1 : 1 ≤ n) (hn : n ≤ 14) (hz : siz k = nI n) (ht : ps_TK k (ps_sh kin (14 * k)) (ps_sh arg (14 * k)) n) (ha : k ≤ a) (ha' : a + k ≤ 23) (hb : k ≤ b) (hb' : b + k ≤ 21) (hP : ps_PK F ypi k 0) (H : ∀ prt' : Nat → Int32, post (ps_sk (ps_lv src F (nI a - 8) (nI b - 8)) (ps_sh kin (14 * k)) (ps_sh arg (14 * k)) n 0) (ySt, yHt, src, siz, kin, arg, wys, ypi, prt')) : ∀ m i : Nat, i + m = n → ∀ prt : Nat → Int32, (∀ t, t < ps_ht (ps_sh kin (14 * k)) i → prt t = ps_sk (ps_lv src F (nI a - 8) (nI b - 8)) (ps_sh kin (14 * k)) (ps_sh arg (14 * k)) i t) → wY_formula_6 post (nI k) (nI a - 8) (nI b - 8) ySt yHt (m + 1) (nI (ps_ht (ps_sh kin (14 * k)) i)) (nI i) src siz kin arg wys ypi prt := by
  have vk : vp_in (nI k) 6 := vp_in_nI (by omega) (by decide)
  have ck : (nI k).toNatClampNeg = k := nI_clamp (by omega)
  have ez : siz (nI k).toNatClampNeg = nI n := by rw [ck]; exact hz
  intro m
  induction m with
  | zero =>
    intro i hi prt hv
    obtain rfl : i = n := by omega
    have h0 : 0 < ps_ht (ps_sh kin (14 * k)) i := by
      obtain ⟨t, rfl⟩ : ∃ t, i = t + 1 := ⟨i - 1, by omega⟩
      exact Nat.succ_pos _
    refine And.intro vk (br_t (by rw [ez]; exact Int32.le_refl _) ?_)
    rw [hv 0 h0]
    exact H prt
  | succ m ih =>
    intro i hi prt hv
    have hlt : ¬ siz (nI k).toNatClampNeg ≤ nI i := by rw [ez]; exact nI_ge (by omega) (by omega)
    have ei : (14 * nI k) + nI i = nI (14 * k + i) := by rw [xc_m14, nI_add]
    have ci : (nI (14 * k + i)).toNatClampNeg = 14 * k + i := nI_clamp (by omega)
    obtain ⟨q, hq, eq, h3, h4, hle, h6⟩ := ht i (by omega)
    have vi : vp_in ((14 * nI k) + nI i) 84 := by rw [ei]; exact vp_in_nI (by omega) (by decide)
    have e6 : kin ((14 * nI k) + nI i).toNatClampNeg = nI q := by rw [ei, ci]; exact eq
    have nx : ∀ prt : Nat → Int32, (∀ t, t < ps_ht (ps_sh kin (14 * k)) (i + 1) → prt t = ps_sk (ps_lv src F (nI a - 8) (nI b - 8)) (ps_sh kin (14 * k)) (ps_sh arg (14 * k)) (i + 1) t) → wY_formula_6 post (nI k) (nI a - 8) (nI b - 8) ySt yHt (m + 1) (nI (ps_ht (ps_sh kin (14 * k)) (i + 1))) (nI (i + 1)) src siz kin arg wys ypi prt := fun prt => ih (i + 1) (by omega) prt
    have hs1 : ps_ht (ps_sh kin (14 * k)) (i + 1) = ps_ht (ps_sh kin (14 * k)) i - ps_tk (ps_sh kin (14 * k) i) + 1 := rfl
    have hs2 : ps_sk (ps_lv src F (nI a - 8) (nI b - 8)) (ps_sh kin (14 * k)) (ps_sh arg (14 * k)) (i + 1) = upd (ps_sk (ps_lv src F (nI a - 8) (nI b - 8)) (ps_sh kin (14 * k)) (ps_sh arg (14 * k)) i) (ps_ht (ps_sh kin (14 * k)) i - ps_tk (ps_sh kin (14 * k) i)) (ps_sv (ps_lv src F (nI a - 8) (nI b - 8)) (ps_sh kin (14 * k) i) (ps_sh arg (14 * k) i) (ps_sk (ps_lv src F (nI a - 8) (nI b - 8)) (ps_sh kin (14 * k)) (ps_sh arg (14 * k)) i) (ps_ht (ps_sh kin (14 * k)) i - ps_tk (ps_sh kin (14 * k) i))) := rfl
    rw [hs1] at nx h6
    rw [hs2] at nx
    rw [eq] at nx hle h6
    generalize ps_sk (ps_lv src F (nI a - 8) (nI b - 8)) (ps_sh kin (14 * k)) (ps_sh arg (14 * k)) i = S at nx hv
    generalize ps_ht (ps_sh kin (14 * k)) i = h at nx hv hle h6 ⊢
    rw [wY_formula_6]
    refine And.intro vk (br_f hlt (And.intro vi (nm_r e6 ?_)))
    rcases Nat.lt_or_ge q 5 with q5 | q5
    · rw [ps_tk_lt q5] at nx hle h6
      rw [ps_sv_l q5] at nx
      refine br_f (nI_ge (b := 5) q5 (by decide)) (And.intro vi ?_)
      have ea : arg ((14 * nI k) + nI i).toNatClampNeg = ps_sh arg (14 * k) i := by rw [ei, ci]; rfl
      rw [ea]
      refine yw_simple hk q5 h4 ha ha' hb hb' hP ?_
      refine And.intro (vp_in_nI (by omega) (by decide)) (nm_e (nm_r (nI_1 h) (nm_r (nI_1 i) ?_)))
      rw [nI_clamp (by omega)]
      exact nx _ (yw_up hv (by omega) rfl)
    · refine br_t (nI_le (a := 5) q5 (by omega)) ?_
      by_cases q10 : q = 10
      · subst q10
        rw [ps_tk_10] at nx hle h6
        rw [ps_sv_10] at nx
        have e1 : nI h - 1 = nI (h - 1) := yw_s (d := 1) hle
        refine br_t (by decide) ?_
        rw [e1, nI_clamp (by omega)]
        refine And.intro (vp_in_nI (by omega) (by decide)) (And.intro (vp_in_nI (by omega) (by decide)) (nm_e (nm_r (nI_1 i) ?_)))
        have := nx (upd prt (h - 1) (prt (h - 1) >>> ((1 : Int32) &&& 31))) (yw_up hv (by omega) (by rw [hv (h - 1) (by omega)]))
        rw [show h - 1 + 1 = h by omega] at this
        exact this
      · refine br_f (fun z => q10 ((ps_e10 hq).mp z)) ?_
        by_cases q12 : q = 12
        · subst q12
          rw [ps_tk_12] at nx hle h6
          rw [ps_sv_12] at nx
          have e1 : nI h - 1 = nI (h - 1) := yw_s (d := 1) (by omega)
          have e2 : nI h - 2 = nI (h - 2) := yw_s (d := 2) (by omega)
          have e3 : nI h - 3 = nI (h - 3) := yw_s (d := 3) hle
          have en : h - 3 + 1 = h - 2 := by omega
          have v3 : vp_in (nI (h - 3)) 14 := vp_in_nI (by omega) (by decide)
          rw [en] at nx
          have s2 : S (h - 3 + 2) = prt (h - 1) := by rw [hv (h - 1) (by omega), show h - 3 + 2 = h - 1 by omega]
          have s1 : S (h - 3 + 1) = prt (h - 2) := by rw [hv (h - 2) (by omega), show h - 3 + 1 = h - 2 by omega]
          have s0 : S (h - 3) = prt (h - 3) := (hv (h - 3) (by omega)).symm
          have fin : ∀ z : Int32, z = (if S (h - 3) ≤ 0 then S (h - 3 + 2) else S (h - 3 + 1)) → wY_formula_152 post (wY_formula_6 post (nI k) (nI a - 8) (nI b - 8) ySt yHt (m + 1)) (nI k) (nI a - 8) (nI b - 8) (nI h) (nI i) z (nI (h - 3)) ySt yHt src siz kin arg wys ypi prt := by
            intro z hz
            refine And.intro v3 (nm_e (nm_r e2 (nm_r (nI_1 i) ?_)))
            rw [nI_clamp (by omega)]
            refine nx _ ?_
            rw [← en]
            exact yw_up hv (by omega) hz
          refine br_t (by decide) ?_
          rw [e1, e2, e3, nI_clamp (by omega), nI_clamp (by omega), nI_clamp (by omega)]
          refine And.intro v3 ?_
          by_cases z : prt (h - 3) ≤ 0
          · exact br_t z (And.intro (vp_in_nI (by omega) (by decide)) (fin _ (by rw [s0, if_pos z, s2])))
          · exact br_f z (And.intro (vp_in_nI (by omega) (by decide)) (fin _ (by rw [s0, if_neg z, s1])))
        · rw [ps_tk_2 hq q5 q10 q12] at nx hle h6
          rw [ps_sv_2 hq q5 q10 q12] at nx
          have e1 : nI h - 1 = nI (h - 1) := yw_s (d := 1) (by omega)
          have e2 : nI h - 2 = nI (h - 2) := yw_s (d := 2) hle
          have en : h - 2 + 1 = h - 1 := by omega
          have v2 : vp_in (nI (h - 2)) 14 := vp_in_nI (by omega) (by decide)
          rw [en] at nx
          refine br_f (fun z => q12 ((ps_e12 hq).mp z)) ?_
          rw [e1, e2, nI_clamp (by omega), nI_clamp (by omega)]
          refine And.intro v2 (And.intro (vp_in_nI (by omega) (by decide)) (yw_comb (And.intro v2 (nm_e (nm_r (yw_m1 (by omega)) (nm_r (nI_1 i) ?_))))))
          refine nx _ ?_
          rw [← en]
          exact yw_up hv (by omega) (by rw [en, hv (h - 2) (by omega), hv (h - 1) (by omega)])
theorem yw_formula {post : Int32 → SY → Prop} {k n a b : Nat} (hk : k < 5) (hn1 : 1 ≤ n) (hn : n ≤ 14) (hz : siz k = nI n) (ht : ps_TK k (ps_sh kin (14 * k)) (ps_sh arg (14 * k)) n) (ha : k ≤ a) (ha' : a + k ≤ 23) (hb : k ≤ b) (hb' : b + k ≤ 21) (hP : ps_PK (ps_F src siz kin arg) ypi k 0) (H : ∀ prt' : Nat → Int32, post (ps_F src siz kin arg k (nI a - 8) (nI b - 8)) (ySt, yHt, src, siz, kin, arg, wys, ypi, prt')) : wpY_formula post (ySt, yHt, src, siz, kin, arg, wys, ypi, prt) (nI k) (nI a - 8) (nI b - 8) := by
  refine ⟨n + 1, yw_form hk hn1 hn hz ht ha ha' hb hb' hP ?_ n 0 (by omega) prt (fun t ht => absurd ht (Nat.not_lt_zero t))⟩
  rw [← ps_F_eq (by omega) hz hn ht]
  exact H
theorem yw_w12 {post : SY → Prop} {J2 : Int32 → Int32 → Int32 → (Nat → Int32) → (Nat → Int32) → (Nat → Int32) → (Nat → Int32) → (Nat → Int32) → (Nat → Int32) → (Nat → Int32) → Prop} {k n : Nat} (hk : k < 5) (hn1 : 1 ≤ n) (hn : n ≤ 14) (hz : siz k = nI n) (ht : ps_TK k (ps_sh kin (14 * k)) (ps_sh arg (14 * k)) n) (H : ∀ ypi' prt' : Nat → Int32, ps_PK (ps_F src siz kin arg) ypi' (k + 1) 0 → J2 (nI (k + 1)) ySt yHt src siz kin arg wys ypi' prt') : ∀ m c : Nat, c + m = 528 → ∀ ypi prt : Nat → Int32, ps_PK (ps_F src siz kin arg) ypi k c → wY_work_12 post J2 (nI k) (m + 1) (nI c) ySt yHt src siz kin arg wys ypi prt := by
  intro m
  induction m with
  | zero =>
    intro c hc ypi prt hP
    obtain rfl : c = 528 := by omega
    refine br_t (by decide) (nm_r (nI_1 k) (H ypi prt ?_))
    intro j a b h h1 h2 h3 h4
    exact hP j a b (by omega) h1 h2 h3 h4
  | succ m ih =>
    intro c hc ypi prt hP
    have h1 : ¬ (528 : Int32) ≤ nI c := nI_ge (b := 528) (by omega) (by decide)
    have e1 : (nI c - nI c / 24 * 24) - 8 = nI (c % 24) - 8 := by
      rw [show nI c - nI c / 24 * 24 = nI (c % 24) from pk_rem (d := 24) (by omega) (by decide) (by decide)]
    have e2 : nI c / 24 - 8 = nI (c / 24) - 8 := by
      rw [show nI c / 24 = nI (c / 24) from pk_div (d := 24) (by omega) (by decide) (by decide)]
    have skip : (c % 24 < k ∨ 23 < c % 24 + k ∨ c / 24 < k ∨ 21 < c / 24 + k) → wY_work_12 post J2 (nI k) (m + 1) (nI (c + 1)) ySt yHt src siz kin arg wys ypi prt := by
      intro ho
      refine ih (c + 1) (by omega) ypi prt ?_
      intro j a b h g1 g2 g3 g4
      refine hP j a b ?_ g1 g2 g3 g4
      omega
    refine br_f h1 (And.intro (by decide) (nm_r e1 (And.intro (by decide) (nm_r e2 ?_))))
    by_cases o1 : c % 24 < k
    · exact br_t ((yw_lt (by omega) (by omega)).mpr o1) (nm_r (nI_1 c) (skip (Or.inl o1)))
    refine br_f (fun z => o1 ((yw_lt (by omega) (by omega)).mp z)) ?_
    by_cases o2 : 23 < c % 24 + k
    · exact br_t ((yw_gt 15 (by omega) (by omega) (by decide)).mpr (by omega)) (nm_r (nI_1 c) (skip (Or.inr (Or.inl o2))))
    refine br_f (fun z => by have := (yw_gt 15 (by omega) (by omega) (by decide)).mp z; omega) ?_
    by_cases o3 : c / 24 < k
    · exact br_t ((yw_lt (by omega) (by omega)).mpr o3) (nm_r (nI_1 c) (skip (Or.inr (Or.inr (Or.inl o3)))))
    refine br_f (fun z => o3 ((yw_lt (by omega) (by omega)).mp z)) ?_
    by_cases o4 : 21 < c / 24 + k
    · exact br_t ((yw_gt 13 (by omega) (by omega) (by decide)).mpr (by omega)) (nm_r (nI_1 c) (skip (Or.inr (Or.inr (Or.inr o4)))))
    refine br_f (fun z => by have := (yw_gt 13 (by omega) (by omega) (by decide)).mp z; omega) ?_
    refine yw_formula hk hn1 hn hz ht (by omega) (by omega) (by omega) (by omega) (fun j a b h => hP j a b (by omega)) (fun prt' => ?_)
    have e3 : (528 * nI k) + nI c = nI (528 * k + c) := by rw [yw_m528, nI_add]
    show vp_in ((528 * nI k) + nI c) 2640 ∧ _
    rw [e3, nI_clamp (by omega)]
    refine And.intro (vp_in_nI (by omega) (by decide)) (nm_e (nm_r (nI_1 c) (ih (c + 1) (by omega) _ prt' ?_)))
    intro j a b h g1 g2 g3 g4
    by_cases e : j = k ∧ 24 * b + a = c
    · obtain ⟨rfl, e⟩ := e
      rw [show 528 * j + 24 * b + a = 528 * j + c by omega, pk_us, show c % 24 = a by omega, show c / 24 = b by omega]
    · rw [pk_un (by omega)]
      exact hP j a b (by omega) g1 g2 g3 g4
theorem yw_work {post : SY → Prop} {s : Nat} (hs : s ≤ 5) (hT : ∀ k, k < s → ∃ n : Nat, 1 ≤ n ∧ n ≤ 14 ∧ siz k = nI n ∧ ps_TK k (ps_sh kin (14 * k)) (ps_sh arg (14 * k)) n) (H : ∀ ypi' prt' : Nat → Int32, ps_PK (ps_F src siz kin arg) ypi' s 0 → post (nI s, yHt, src, siz, kin, arg, wys, ypi', prt')) : wpY_work post (nI s, yHt, src, siz, kin, arg, wys, ypi, prt) := by
  have main : ∀ m k : Nat, k + m = s → ∀ ypi prt : Nat → Int32, ps_PK (ps_F src siz kin arg) ypi k 0 → wY_work_2 post (m + 1) (nI k) (nI s) yHt src siz kin arg wys ypi prt := by
    intro m
    induction m with
    | zero =>
      intro k hk ypi prt hP
      obtain rfl : k = s := by omega
      exact br_t (Int32.le_refl _) (H ypi prt hP)
    | succ m ih =>
      intro k hk ypi prt hP
      obtain ⟨n, h1, h14, hz, ht⟩ := hT k (by omega)
      refine br_f (nI_ge (by omega) (by omega)) ⟨529, ?_⟩
      exact yw_w12 (by omega) h1 h14 hz ht (fun ypi' prt' hP' => ih (k + 1) (by omega) ypi' prt' hP') 528 0 (by omega) ypi prt hP
  refine ⟨s + 1, main s 0 (by omega) ypi prt ?_⟩
  intro j a b h
  omega
end YWO
end
section
/-! the relation -/
def ps_DR (s n h d : Nat) (ks ag dO dA dB dC stk spk : Nat → Int32) : Prop :=
  n ≤ 14 ∧ d ≤ n ∧ h ≤ 6 ∧ ps_ht ks n = h ∧ ps_TK s ks ag n ∧ ps_CK s dO dA dB dC d ∧ 3 * ps_cn dO d ≤ 2 * n + h ∧ (∀ i, i < d → dO i = 4 → ∃ j, j < n ∧ ks j = 4 ∧ ag j = dA i) ∧ (∀ t, t < h → ∃ q, q < d ∧ stk t = nI q ∧ ∀ lf, ps_LF lf → ps_xa lf dO dA dB dC d q = ps_sk lf ks ag n t) ∧ (∀ k, k < 5 → (spk k = 0 ↔ ¬ ∃ j, j < n ∧ ks j = 4 ∧ ag j / 9 = nI k))
def ps_Rel (s n h d : Nat) (pic dO dA dB dC stk spk len op aa ab ac way kep kKn few fKn fTg siz kin arg wys : Nat → Int32) : Prop :=
  s ≤ 5 ∧ siz 5 = nI n ∧ (∀ k, k < s → ps_SR k siz kin arg len op aa ab ac) ∧ ps_DR s n h d (ps_sh kin 70) (ps_sh arg 70) dO dA dB dC stk spk ∧ (∀ k, k < s → wys k = way k) ∧ ps_RK s (ps_F pic siz kin arg) way kep kKn few fKn fTg
def i_Rel (k : Nat) (u : SX) (v : SY) : Prop := match u with
  | (tN, dN, hN, sN, pN, pic, dO, dA, dB, dC, stk, spk, ren, len, op, aa, ab, ac, way, kep, kKn, few, fKn, fTg, gS, gX, gY, gA, val, spa) => match v with
    | (ySt, yHt, src, siz, kin, arg, wys, ypi, prt) => ∃ s n h d : Nat, tN = nI n ∧ dN = nI d ∧ hN = nI h ∧ sN = nI s ∧ ySt = nI s ∧ yHt = nI h ∧ src = pic ∧ ps_Rel s n h d pic dO dA dB dC stk spk len op aa ab ac way kep kKn few fKn fTg siz kin arg wys
theorem i_up {k : Nat} {u : SX} {v : SY} (h : i_Rel k u v) : i_Rel (k + 4) u v := h
theorem zz_el {k : Nat} {u : SX} {v : SY} {P : SX → SY → Prop} (I : i_Rel k u v) (H : ∀ (s n h d : Nat) (pN : Int32) (pic dO dA dB dC stk spk ren len op aa ab ac way kep kKn few fKn fTg gS gX gY gA val spa siz kin arg wys ypi prt : Nat → Int32), ps_Rel s n h d pic dO dA dB dC stk spk len op aa ab ac way kep kKn few fKn fTg siz kin arg wys → P (nI n, nI d, nI h, nI s, pN, pic, dO, dA, dB, dC, stk, spk, ren, len, op, aa, ab, ac, way, kep, kKn, few, fKn, fTg, gS, gX, gY, gA, val, spa) (nI s, nI h, pic, siz, kin, arg, wys, ypi, prt)) : P u v := by
  obtain ⟨tN, dN, hN, sN, pN, pic, dO, dA, dB, dC, stk, spk, ren, len, op, aa, ab, ac, way, kep, kKn, few, fKn, fTg, gS, gX, gY, gA, val, spa⟩ := u
  obtain ⟨ySt, yHt, src, siz, kin, arg, wys, ypi, prt⟩ := v
  obtain ⟨s, n, h, d, e1, e2, e3, e4, e5, e6, e7, hR⟩ := I
  subst e1 e2 e3 e4 e5 e6 e7
  exact H s n h d pN src dO dA dB dC stk spk ren len op aa ab ac way kep kKn few fKn fTg gS gX gY gA val spa siz kin arg wys ypi prt hR
section ZIN
variable {tN dN hN sN pN : Int32} {pic dO dA dB dC stk spk ren len op aa ab ac way kep kKn few fKn fTg gS gX gY gA val spa : Nat → Int32} {siz kin arg wys ypi prt : Nat → Int32}
theorem zz_in {k s n h d : Nat} (hR : ps_Rel s n h d pic dO dA dB dC stk spk len op aa ab ac way kep kKn few fKn fTg siz kin arg wys) : i_Rel k (nI n, nI d, nI h, nI s, pN, pic, dO, dA, dB, dC, stk, spk, ren, len, op, aa, ab, ac, way, kep, kKn, few, fKn, fTg, gS, gX, gY, gA, val, spa) (nI s, nI h, pic, siz, kin, arg, wys, ypi, prt) := ⟨s, n, h, d, rfl, rfl, rfl, rfl, rfl, rfl, rfl, hR⟩
end ZIN
theorem zz_DR0 {s : Nat} {ks ag dO dA dB dC stk spk : Nat → Int32} (h : ∀ k, k < 5 → spk k = 0) : ps_DR s 0 0 0 ks ag dO dA dB dC stk spk :=
  ⟨by omega, by omega, by omega, rfl, fun i hi => absurd hi (Nat.not_lt_zero i), fun i hi => absurd hi (Nat.not_lt_zero i), by show 3 * 0 ≤ _; omega, fun i hi => absurd hi (Nat.not_lt_zero i), fun i hi => absurd hi (Nat.not_lt_zero i), fun k hk => ⟨fun _ ⟨j, hj, _⟩ => absurd hj (Nat.not_lt_zero j), fun _ => h k hk⟩⟩
theorem i_vc0 : wpX_init (fun u => wpY_init (fun v => i_Rel 0 u v)) := by
  unfold wpX_init wpY_init
  dsimp only
  exact zz_in (s := 0) (n := 0) (h := 0) (d := 0) ⟨by omega, rfl, fun k hk => absurd hk (Nat.not_lt_zero k), zz_DR0 (fun _ _ => rfl), fun k hk => absurd hk (Nat.not_lt_zero k), fun k hk => absurd hk (Nat.not_lt_zero k)⟩
theorem zz_M {s n h d : Nat} {pic dO dA dB dC stk spk len op aa ab ac way kep kKn few fKn fTg siz kin arg wys : Nat → Int32} (hR : ps_Rel s n h d pic dO dA dB dC stk spk len op aa ab ac way kep kKn few fKn fTg siz kin arg wys) : ∀ k, k < s → ps_MR k pic (ps_F pic siz kin arg) len op aa ab ac :=
  fun k hk => ps_SR_MR (by have := hR.1; omega) (hR.2.2.1 k hk)
theorem zz_T {s n h d : Nat} {pic dO dA dB dC stk spk len op aa ab ac way kep kKn few fKn fTg siz kin arg wys : Nat → Int32} (hR : ps_Rel s n h d pic dO dA dB dC stk spk len op aa ab ac way kep kKn few fKn fTg siz kin arg wys) : ∀ k, k < s → ∃ n : Nat, 1 ≤ n ∧ n ≤ 14 ∧ siz k = nI n ∧ ps_TK k (ps_sh kin (14 * k)) (ps_sh arg (14 * k)) n := by
  intro k hk
  obtain ⟨n, L, h1, h14, _, _, ez, _, ht, _⟩ := hR.2.2.1 k hk
  exact ⟨n, h1, h14, ez, ht⟩
/-- the machine's part may be any other that keeps what is kept right -/
theorem zz_K {s n h d : Nat} {pic dO dA dB dC stk spk len op aa ab ac way kep kKn few fKn fTg siz kin arg wys kep' kKn' few' fKn' fTg' : Nat → Int32} (hR : ps_Rel s n h d pic dO dA dB dC stk spk len op aa ab ac way kep kKn few fKn fTg siz kin arg wys) (hK : ps_RK s (ps_F pic siz kin arg) way kep' kKn' few' fKn' fTg') : ps_Rel s n h d pic dO dA dB dC stk spk len op aa ab ac way kep' kKn' few' fKn' fTg' siz kin arg wys :=
  ⟨hR.1, hR.2.1, hR.2.2.1, hR.2.2.2.1, hR.2.2.2.2.1, hK⟩
/-- another picture, nothing kept -/
theorem zz_P {s n h d : Nat} {pic pic' dO dA dB dC stk spk len op aa ab ac way kep kKn few fKn fTg siz kin arg wys kep' kKn' few' fKn' fTg' : Nat → Int32} (hR : ps_Rel s n h d pic dO dA dB dC stk spk len op aa ab ac way kep kKn few fKn fTg siz kin arg wys) : ps_Rel s n h d pic' dO dA dB dC stk spk len op aa ab ac way kep' (ps_fa kKn' 14 5) few' (ps_fa fKn' 4 5) fTg' siz kin arg wys :=
  ⟨hR.1, hR.2.1, hR.2.2.1, hR.2.2.2.1, hR.2.2.2.2.1, xc_RK_fa hR.1⟩
end
section
/-! questions: pure folds over the 48 cells -/
def ps_fo (g : Nat → Int32 → Int32) : Nat → Int32
  | 0 => 0
  | i + 1 => g i (ps_fo g i)
theorem ps_fo_s (g : Nat → Int32 → Int32) (i : Nat) : ps_fo g (i + 1) = g i (ps_fo g i) := rfl
def ps_V (F : Nat → Int32 → Int32 → Int32) (k i : Nat) : Int32 := F k (nI (i % 8)) (nI (i / 8))
def ps_bs (V : Nat → Int32) : Nat → Nat
  | 0 => 0
  | i + 1 => if V (i + 1) ≤ V (ps_bs V i) then ps_bs V i else i + 1
theorem ps_bs_le (V : Nat → Int32) : ∀ i, ps_bs V i ≤ i := by
  intro i
  induction i with
  | zero => exact Nat.le_refl _
  | succ i ih =>
    show (if V (i + 1) ≤ V (ps_bs V i) then ps_bs V i else i + 1) ≤ i + 1
    split <;> omega
def ps_wr (f V : Nat → Int32) : Nat → Nat → Int32
  | 0 => f
  | i + 1 => upd (ps_wr f V i) i (V i)
theorem ps_wr_in {f V : Nat → Int32} {i : Nat} : ∀ n, i < n → ps_wr f V n i = V i := by
  intro n
  induction n with
  | zero => intro h; omega
  | succ n ih =>
    intro h
    show upd _ n _ i = _
    by_cases e : i = n
    · rw [e, pk_us]
    · rw [pk_un e]; exact ih (by omega)
def ps_gT (V : Nat → Int32) : Nat → Int32 → Int32 := fun i a => a + V i
def ps_gL (V : Nat → Int32) (v : Int32) : Nat → Int32 → Int32 := fun i a => if V i < v then a else a + 1
def ps_gD (V U : Nat → Int32) : Nat → Int32 → Int32 := fun i a => if V i = U i then a else a + 1
theorem qq_8 {c : Nat} (h : c < 2 ^ 31) : nI c - nI c / 8 * 8 = nI (c % 8) := pk_rem (d := 8) h (by decide) (by decide)
theorem qq_8d {c : Nat} (h : c < 2 ^ 31) : nI c / 8 = nI (c / 8) := pk_div (d := 8) h (by decide) (by decide)
theorem qq_0 (a : Int32) : a + 0 = a := Int32.add_zero a
section QX
variable {tN dN hN sN pN : Int32} {pic dO dA dB dC stk spk ren len op aa ab ac way kep kKn few fKn fTg gS gX gY gA val spa : Nat → Int32}
theorem qx_no {post : Int32 → Prop} {v : Int32} (h : v < 0 ∨ sN ≤ v) (hp : post 0) : wpX_isStage post (tN, dN, hN, sN, pN, pic, dO, dA, dB, dC, stk, spk, ren, len, op, aa, ab, ac, way, kep, kKn, few, fKn, fTg, gS, gX, gY, gA, val, spa) v := by
  by_cases a : v < 0
  · exact br_t a hp
  · exact br_f a (br_t (h.resolve_left a) hp)
theorem qx_yes {post : Int32 → Prop} {s k : Nat} (hs : s ≤ 5) (hk : k < s) (hp : post 1) : wpX_isStage post (tN, dN, hN, nI s, pN, pic, dO, dA, dB, dC, stk, spk, ren, len, op, aa, ab, ac, way, kep, kKn, few, fKn, fTg, gS, gX, gY, gA, val, spa) (nI k) :=
  br_f (nI_pos (by omega)) (br_f (nI_ge hk (by omega)) hp)
/-- one cell of a question -/
theorem qx_cell {post : Int32 → SX → Prop} {s k c : Nat} {F : Nat → Int32 → Int32 → Int32} (hs : s ≤ 5) (hM : ∀ k, k < s → ps_MR k pic F len op aa ab ac) (hk : k < s) (hc : c < 48) (hR : ps_RK s F way kep kKn few fKn fTg) (H : ∀ (pN' : Int32) (kep' kKn' few' fKn' fTg' gS' gX' gY' gA' val' : Nat → Int32), ps_RK s F way kep' kKn' few' fKn' fTg' → post (ps_V F k c) (tN, dN, hN, sN, pN', pic, dO, dA, dB, dC, stk, spk, ren, len, op, aa, ab, ac, way, kep', kKn', few', fKn', fTg', gS', gX', gY', gA', val', spa)) : wpX_cellOf post (tN, dN, hN, sN, pN, pic, dO, dA, dB, dC, stk, spk, ren, len, op, aa, ab, ac, way, kep, kKn, few, fKn, fTg, gS, gX, gY, gA, val, spa) (nI k) (nI c - nI c / 8 * 8) (nI c / 8) := by
  rw [qq_8 (by omega), qq_8d (by omega)]
  exact xm_cellOf hs hM hk hR H
theorem qx_total {post : Int32 → SX → Prop} {s k : Nat} {F : Nat → Int32 → Int32 → Int32} (hs : s ≤ 5) (hM : ∀ k, k < s → ps_MR k pic F len op aa ab ac) (hk : k < s) (hR : ps_RK s F way kep kKn few fKn fTg) (H : ∀ (pN' : Int32) (kep' kKn' few' fKn' fTg' gS' gX' gY' gA' val' : Nat → Int32), ps_RK s F way kep' kKn' few' fKn' fTg' → post (ps_fo (ps_gT (ps_V F k)) 48) (tN, dN, hN, nI s, pN', pic, dO, dA, dB, dC, stk, spk, ren, len, op, aa, ab, ac, way, kep', kKn', few', fKn', fTg', gS', gX', gY', gA', val', spa)) : wpX_total post (tN, dN, hN, nI s, pN, pic, dO, dA, dB, dC, stk, spk, ren, len, op, aa, ab, ac, way, kep, kKn, few, fKn, fTg, gS, gX, gY, gA, val, spa) (nI k) := by
  have L : ∀ m j : Nat, j + m = 48 → ∀ (pN : Int32) (kep kKn few fKn fTg gS gX gY gA val : Nat → Int32), ps_RK s F way kep kKn few fKn fTg → wX_total_14 post (nI k) (m + 1) (ps_fo (ps_gT (ps_V F k)) j) (nI j) tN dN hN (nI s) pN pic dO dA dB dC stk spk ren len op aa ab ac way kep kKn few fKn fTg gS gX gY gA val spa := by
    intro m
    induction m with
    | zero =>
      intro j hj pN kep kKn few fKn fTg gS gX gY gA val hR
      obtain rfl : j = 48 := by omega
      exact br_t (by decide) (H _ _ _ _ _ _ _ _ _ _ _ hR)
    | succ m ih =>
      intro j hj pN kep kKn few fKn fTg gS gX gY gA val hR
      rw [wX_total_14]
      exact br_f (nI_ge (b := 48) (by omega) (by decide)) (And.intro (by decide) (And.intro (by decide) (qx_cell hs hM hk (by omega) hR (fun pN' kep' kKn' few' fKn' fTg' gS' gX' gY' gA' val' hR' => nm_r (ps_fo_s (ps_gT (ps_V F k)) j).symm (nm_r (nI_1 j) (ih (j + 1) (by omega) pN' kep' kKn' few' fKn' fTg' gS' gX' gY' gA' val' hR'))))))
  unfold wpX_total
  dsimp only
  exact qx_yes hs hk (br_f (by decide) ⟨49, L 48 0 rfl pN kep kKn few fKn fTg gS gX gY gA val hR⟩)
theorem qx_atLeast {post : Int32 → SX → Prop} {s k : Nat} {v : Int32} {F : Nat → Int32 → Int32 → Int32} (hs : s ≤ 5) (hM : ∀ k, k < s → ps_MR k pic F len op aa ab ac) (hk : k < s) (hR : ps_RK s F way kep kKn few fKn fTg) (H : ∀ (pN' : Int32) (kep' kKn' few' fKn' fTg' gS' gX' gY' gA' val' : Nat → Int32), ps_RK s F way kep' kKn' few' fKn' fTg' → post (ps_fo (ps_gL (ps_V F k) v) 48) (tN, dN, hN, nI s, pN', pic, dO, dA, dB, dC, stk, spk, ren, len, op, aa, ab, ac, way, kep', kKn', few', fKn', fTg', gS', gX', gY', gA', val', spa)) : wpX_atLeast post (tN, dN, hN, nI s, pN, pic, dO, dA, dB, dC, stk, spk, ren, len, op, aa, ab, ac, way, kep, kKn, few, fKn, fTg, gS, gX, gY, gA, val, spa) (nI k) v := by
  have L : ∀ m j : Nat, j + m = 48 → ∀ (pN : Int32) (kep kKn few fKn fTg gS gX gY gA val : Nat → Int32), ps_RK s F way kep kKn few fKn fTg → wX_atLeast_15 post (nI k) v (m + 1) (ps_fo (ps_gL (ps_V F k) v) j) (nI j) tN dN hN (nI s) pN pic dO dA dB dC stk spk ren len op aa ab ac way kep kKn few fKn fTg gS gX gY gA val spa := by
    intro m
    induction m with
    | zero =>
      intro j hj pN kep kKn few fKn fTg gS gX gY gA val hR
      obtain rfl : j = 48 := by omega
      exact br_t (by decide) (H _ _ _ _ _ _ _ _ _ _ _ hR)
    | succ m ih =>
      intro j hj pN kep kKn few fKn fTg gS gX gY gA val hR
      rw [wX_atLeast_15]
      refine br_f (nI_ge (b := 48) (by omega) (by decide)) (And.intro (by decide) (And.intro (by decide) (qx_cell hs hM hk (by omega) hR (fun pN' kep' kKn' few' fKn' fTg' gS' gX' gY' gA' val' hR' => ?_))))
      have n := ih (j + 1) (by omega) pN' kep' kKn' few' fKn' fTg' gS' gX' gY' gA' val' hR'
      rw [ps_fo_s] at n
      unfold ps_gL at n
      by_cases z : ps_V F k j < v
      · rw [if_pos z] at n
        exact br_t z (nm_r (qq_0 _) (nm_r (nI_1 j) n))
      · rw [if_neg z] at n
        exact br_f z (nm_e (nm_r (nI_1 j) n))
  unfold wpX_atLeast
  dsimp only
  exact qx_yes hs hk (br_f (by decide) ⟨49, L 48 0 rfl pN kep kKn few fKn fTg gS gX gY gA val hR⟩)
theorem qx_differ {post : Int32 → SX → Prop} {s k l : Nat} {F : Nat → Int32 → Int32 → Int32} (hs : s ≤ 5) (hM : ∀ k, k < s → ps_MR k pic F len op aa ab ac) (hk : k < s) (hl : l < s) (hR : ps_RK s F way kep kKn few fKn fTg) (H : ∀ (pN' : Int32) (kep' kKn' few' fKn' fTg' gS' gX' gY' gA' val' : Nat → Int32), ps_RK s F way kep' kKn' few' fKn' fTg' → post (ps_fo (ps_gD (ps_V F k) (ps_V F l)) 48) (tN, dN, hN, nI s, pN', pic, dO, dA, dB, dC, stk, spk, ren, len, op, aa, ab, ac, way, kep', kKn', few', fKn', fTg', gS', gX', gY', gA', val', spa)) : wpX_differ post (tN, dN, hN, nI s, pN, pic, dO, dA, dB, dC, stk, spk, ren, len, op, aa, ab, ac, way, kep, kKn, few, fKn, fTg, gS, gX, gY, gA, val, spa) (nI k) (nI l) := by
  have L : ∀ m j : Nat, j + m = 48 → ∀ (pN : Int32) (kep kKn few fKn fTg gS gX gY gA val : Nat → Int32), ps_RK s F way kep kKn few fKn fTg → wX_differ_23 post (nI k) (nI l) (m + 1) (ps_fo (ps_gD (ps_V F k) (ps_V F l)) j) (nI j) tN dN hN (nI s) pN pic dO dA dB dC stk spk ren len op aa ab ac way kep kKn few fKn fTg gS gX gY gA val spa := by
    intro m
    induction m with
    | zero =>
      intro j hj pN kep kKn few fKn fTg gS gX gY gA val hR
      obtain rfl : j = 48 := by omega
      exact br_t (by decide) (H _ _ _ _ _ _ _ _ _ _ _ hR)
    | succ m ih =>
      intro j hj pN kep kKn few fKn fTg gS gX gY gA val hR
      rw [wX_differ_23]
      refine br_f (nI_ge (b := 48) (by omega) (by decide)) (And.intro (by decide) (And.intro (by decide) (qx_cell hs hM hk (by omega) hR (fun pN'' kep'' kKn'' few'' fKn'' fTg'' gS'' gX'' gY'' gA'' val'' hR'' => ?_))))
      refine And.intro (by decide) (And.intro (by decide) (qx_cell hs hM hl (by omega) hR'' (fun pN' kep' kKn' few' fKn' fTg' gS' gX' gY' gA' val' hR' => ?_)))
      have n := ih (j + 1) (by omega) pN' kep' kKn' few' fKn' fTg' gS' gX' gY' gA' val' hR'
      rw [ps_fo_s] at n
      unfold ps_gD at n
      by_cases z : ps_V F k j = ps_V F l j
      · rw [if_pos z] at n
        exact br_t z (nm_r (qq_0 _) (nm_r (nI_1 j) n))
      · rw [if_neg z] at n
        exact br_f z (nm_e (nm_r (nI_1 j) n))
  unfold wpX_differ
  dsimp only
  exact qx_yes hs hk (br_f (by decide) (qx_yes hs hl (br_f (by decide) ⟨49, L 48 0 rfl pN kep kKn few fKn fTg gS gX gY gA val hR⟩)))
theorem qx_changed {post : Int32 → SX → Prop} {s k : Nat} {F : Nat → Int32 → Int32 → Int32} (hs : s ≤ 5) (hM : ∀ k, k < s → ps_MR k pic F len op aa ab ac) (hk : k < s) (hR : ps_RK s F way kep kKn few fKn fTg) (H : ∀ (pN' : Int32) (kep' kKn' few' fKn' fTg' gS' gX' gY' gA' val' : Nat → Int32), ps_RK s F way kep' kKn' few' fKn' fTg' → post (ps_fo (ps_gD (ps_V F k) pic) 48) (tN, dN, hN, nI s, pN', pic, dO, dA, dB, dC, stk, spk, ren, len, op, aa, ab, ac, way, kep', kKn', few', fKn', fTg', gS', gX', gY', gA', val', spa)) : wpX_changed post (tN, dN, hN, nI s, pN, pic, dO, dA, dB, dC, stk, spk, ren, len, op, aa, ab, ac, way, kep, kKn, few, fKn, fTg, gS, gX, gY, gA, val, spa) (nI k) := by
  have L : ∀ m j : Nat, j + m = 48 → ∀ (pN : Int32) (kep kKn few fKn fTg gS gX gY gA val : Nat → Int32), ps_RK s F way kep kKn few fKn fTg → wX_changed_14 post (nI k) (m + 1) (ps_fo (ps_gD (ps_V F k) pic) j) (nI j) tN dN hN (nI s) pN pic dO dA dB dC stk spk ren len op aa ab ac way kep kKn few fKn fTg gS gX gY gA val spa := by
    intro m
    induction m with
    | zero =>
      intro j hj pN kep kKn few fKn fTg gS gX gY gA val hR
      obtain rfl : j = 48 := by omega
      exact br_t (by decide) (H _ _ _ _ _ _ _ _ _ _ _ hR)
    | succ m ih =>
      intro j hj pN kep kKn few fKn fTg gS gX gY gA val hR
      rw [wX_changed_14]
      refine br_f (nI_ge (b := 48) (by omega) (by decide)) (And.intro (by decide) (And.intro (by decide) (qx_cell hs hM hk (by omega) hR (fun pN' kep' kKn' few' fKn' fTg' gS' gX' gY' gA' val' hR' => ?_))))
      have n := ih (j + 1) (by omega) pN' kep' kKn' few' fKn' fTg' gS' gX' gY' gA' val' hR'
      rw [ps_fo_s] at n
      unfold ps_gD at n
      have cj : (nI j).toNatClampNeg = j := nI_clamp (by omega)
      dsimp only
      rw [cj]
      refine And.intro (vp_in_nI (by omega) (by decide)) ?_
      by_cases z : ps_V F k j = pic j
      · rw [if_pos z] at n
        exact br_t z (nm_r (qq_0 _) (nm_r (nI_1 j) n))
      · rw [if_neg z] at n
        exact br_f z (nm_e (nm_r (nI_1 j) n))
  unfold wpX_changed
  dsimp only
  exact qx_yes hs hk (br_f (by decide) ⟨49, L 48 0 rfl pN kep kKn few fKn fTg gS gX gY gA val hR⟩)
theorem qx_peak {post : Int32 → SX → Prop} {s k : Nat} {F : Nat → Int32 → Int32 → Int32} (hs : s ≤ 5) (hM : ∀ k, k < s → ps_MR k pic F len op aa ab ac) (hk : k < s) (hR : ps_RK s F way kep kKn few fKn fTg) (H : ∀ (pN' : Int32) (kep' kKn' few' fKn' fTg' gS' gX' gY' gA' val' : Nat → Int32), ps_RK s F way kep' kKn' few' fKn' fTg' → post (nI (ps_bs (ps_V F k) 47)) (tN, dN, hN, nI s, pN', pic, dO, dA, dB, dC, stk, spk, ren, len, op, aa, ab, ac, way, kep', kKn', few', fKn', fTg', gS', gX', gY', gA', val', spa)) : wpX_peak post (tN, dN, hN, nI s, pN, pic, dO, dA, dB, dC, stk, spk, ren, len, op, aa, ab, ac, way, kep, kKn, few, fKn, fTg, gS, gX, gY, gA, val, spa) (nI k) := by
  have L : ∀ m j : Nat, j + m = 47 → ∀ (pN : Int32) (kep kKn few fKn fTg gS gX gY gA val : Nat → Int32), ps_RK s F way kep kKn few fKn fTg → wX_peak_23 post (nI k) (m + 1) (nI (ps_bs (ps_V F k) j)) (ps_V F k (ps_bs (ps_V F k) j)) (nI (j + 1)) tN dN hN (nI s) pN pic dO dA dB dC stk spk ren len op aa ab ac way kep kKn few fKn fTg gS gX gY gA val spa := by
    intro m
    induction m with
    | zero =>
      intro j hj pN kep kKn few fKn fTg gS gX gY gA val hR
      obtain rfl : j = 47 := by omega
      exact br_t (by decide) (H _ _ _ _ _ _ _ _ _ _ _ hR)
    | succ m ih =>
      intro j hj pN kep kKn few fKn fTg gS gX gY gA val hR
      rw [wX_peak_23]
      refine br_f (nI_ge (b := 48) (by omega) (by decide)) (And.intro (by decide) (And.intro (by decide) (qx_cell hs hM hk (by omega) hR (fun pN' kep' kKn' few' fKn' fTg' gS' gX' gY' gA' val' hR' => ?_))))
      have n := ih (j + 1) (by omega) pN' kep' kKn' few' fKn' fTg' gS' gX' gY' gA' val' hR'
      have e : ps_bs (ps_V F k) (j + 1) = if ps_V F k (j + 1) ≤ ps_V F k (ps_bs (ps_V F k) j) then ps_bs (ps_V F k) j else j + 1 := rfl
      rw [e] at n
      by_cases z : ps_V F k (j + 1) ≤ ps_V F k (ps_bs (ps_V F k) j)
      · rw [if_pos z] at n
        exact br_t z (nm_r (nI_1 (j + 1)) n)
      · rw [if_neg z] at n
        exact br_f z (nm_r (nI_1 (j + 1)) n)
  unfold wpX_peak
  dsimp only
  refine qx_yes hs hk (br_f (by decide) (xm_cellOf (F := F) hs hM hk hR (fun pN' kep' kKn' few' fKn' fTg' gS' gX' gY' gA' val' hR' => ⟨48, ?_⟩)))
  have e0 : ps_V F k (ps_bs (ps_V F k) 0) = F k 0 0 := by
    show F k (nI (0 % 8)) (nI (0 / 8)) = F k 0 0
    rw [show (0 : Nat) % 8 = 0 from rfl, show (0 : Nat) / 8 = 0 from rfl, nI_0]
  have n := L 47 0 rfl pN' kep' kKn' few' fKn' fTg' gS' gX' gY' gA' val' hR'
  rw [e0] at n
  exact n
theorem qx_apply {post : Int32 → SX → Prop} {s k : Nat} {F : Nat → Int32 → Int32 → Int32} (hs : s ≤ 5) (hM : ∀ k, k < s → ps_MR k pic F len op aa ab ac) (hk : k < s) (hR : ps_RK s F way kep kKn few fKn fTg) (H : ∀ (pN' : Int32) (kep' kKn' few' fKn' fTg' gS' gX' gY' gA' val' spa' : Nat → Int32), post (ps_fo (ps_gD (ps_V F k) pic) 48) (tN, dN, hN, nI s, pN', ps_wr pic (ps_V F k) 48, dO, dA, dB, dC, stk, spk, ren, len, op, aa, ab, ac, way, kep', ps_fa kKn' 14 5, few', ps_fa fKn' 4 5, fTg', gS', gX', gY', gA', val', spa')) : wpX_apply post (tN, dN, hN, nI s, pN, pic, dO, dA, dB, dC, stk, spk, ren, len, op, aa, ab, ac, way, kep, kKn, few, fKn, fTg, gS, gX, gY, gA, val, spa) (nI k) := by
  have out : ∀ n i : Nat, n ≤ i → ps_wr pic (ps_V F k) n i = pic i := by
    intro n i
    induction n with
    | zero => intro _; rfl
    | succ n ih => intro h; show upd _ n _ i = _; rw [pk_un (by omega)]; exact ih (by omega)
  have L2 : ∀ (pN : Int32) (kep kKn few fKn fTg gS gX gY gA val : Nat → Int32) (spa : Nat → Int32), (∀ i, i < 48 → spa i = ps_V F k i) → ∀ m j : Nat, j + m = 48 → wX_apply_47 post tN dN hN (nI s) pN (m + 1) (ps_fo (ps_gD (ps_V F k) pic) j) (nI j) (ps_wr pic (ps_V F k) j) dO dA dB dC stk spk ren len op aa ab ac way kep kKn few fKn fTg gS gX gY gA val spa := by
    intro pN kep kKn few fKn fTg gS gX gY gA val spa hsp m
    induction m with
    | zero =>
      intro j hj
      obtain rfl : j = 48 := by omega
      exact br_t (by decide) (xc_forgetAll (H _ _ _ _ _ _ _ _ _ _ _ _))
    | succ m ih =>
      intro j hj
      have n := ih (j + 1) (by omega)
      rw [ps_fo_s] at n
      unfold ps_gD at n
      have cj : (nI j).toNatClampNeg = j := nI_clamp (by omega)
      have vj : vp_in (nI j) 48 := vp_in_nI (by omega) (by decide)
      have ep : upd (ps_wr pic (ps_V F k) j) (nI j).toNatClampNeg (spa (nI j).toNatClampNeg) = ps_wr pic (ps_V F k) (j + 1) := by
        rw [cj, hsp j (by omega)]; rfl
      have eo : ps_wr pic (ps_V F k) j (nI j).toNatClampNeg = pic j := by rw [cj]; exact out j j (Nat.le_refl _)
      have es : spa (nI j).toNatClampNeg = ps_V F k j := by rw [cj]; exact hsp j (by omega)
      rw [wX_apply_47]
      refine br_f (nI_ge (b := 48) (by omega) (by decide)) (And.intro vj (And.intro vj ?_))
      by_cases z : ps_V F k j = pic j
      · rw [if_pos z] at n
        refine br_t (by rw [eo, es]; exact z.symm) ?_
        exact nm_r (qq_0 _) (And.intro vj (And.intro vj (nm_r ep (nm_r (nI_1 j) n))))
      · rw [if_neg z] at n
        refine br_f (by rw [eo, es]; exact fun h => z h.symm) ?_
        exact nm_e (And.intro vj (And.intro vj (nm_r ep (nm_r (nI_1 j) n))))
  have L1 : ∀ m j : Nat, j + m = 48 → ∀ (pN : Int32) (kep kKn few fKn fTg gS gX gY gA val : Nat → Int32), ps_RK s F way kep kKn few fKn fTg → wX_apply_12 post (nI k) (m + 1) (nI j) tN dN hN (nI s) pN pic dO dA dB dC stk spk ren len op aa ab ac way kep kKn few fKn fTg gS gX gY gA val (ps_wr spa (ps_V F k) j) := by
    intro m
    induction m with
    | zero =>
      intro j hj pN kep kKn few fKn fTg gS gX gY gA val hR
      obtain rfl : j = 48 := by omega
      exact br_t (by decide) ⟨49, L2 pN kep kKn few fKn fTg gS gX gY gA val _ (fun i hi => ps_wr_in 48 hi) 48 0 rfl⟩
    | succ m ih =>
      intro j hj pN kep kKn few fKn fTg gS gX gY gA val hR
      have cj : (nI j).toNatClampNeg = j := nI_clamp (by omega)
      have vj : vp_in (nI j) 48 := vp_in_nI (by omega) (by decide)
      rw [wX_apply_12]
      refine br_f (nI_ge (b := 48) (by omega) (by decide)) (And.intro (by decide) (And.intro (by decide) (qx_cell hs hM hk (by omega) hR (fun pN' kep' kKn' few' fKn' fTg' gS' gX' gY' gA' val' hR' => And.intro vj (nm_r (e' := ps_wr spa (ps_V F k) (j + 1)) (by rw [cj]; rfl) (nm_r (nI_1 j) (ih (j + 1) (by omega) pN' kep' kKn' few' fKn' fTg' gS' gX' gY' gA' val' hR')))))))
  unfold wpX_apply
  dsimp only
  exact qx_yes hs hk (br_f (by decide) ⟨49, L1 48 0 rfl pN kep kKn few fKn fTg gS gX gY gA val hR⟩)
end QX
end
section
/-! questions: the reference -/
section QY
variable {ySt yHt : Int32} {src siz kin arg wys ypi prt : Nat → Int32}
theorem qy_no {post : Int32 → Prop} {v : Int32} (h : v < 0 ∨ ySt ≤ v) (hp : post 0) : wpY_isStage post (ySt, yHt, src, siz, kin, arg, wys, ypi, prt) v := by
  by_cases a : v < 0
  · exact br_t a hp
  · exact br_f a (br_t (h.resolve_left a) hp)
theorem qy_yes {post : Int32 → Prop} {s k : Nat} (hs : s ≤ 5) (hk : k < s) (hp : post 1) : wpY_isStage post (nI s, yHt, src, siz, kin, arg, wys, ypi, prt) (nI k) :=
  br_f (nI_pos (by omega)) (br_f (nI_ge hk (by omega)) hp)
theorem qy_n8 (c : Nat) : nI c = nI (c + 8) - 8 := by
  rw [show (8 : Int32) = nI 8 from rfl, pk_sub (by omega), Nat.add_sub_cancel]
theorem qy_n4 (c : Nat) : nI c - 4 = nI (c + 4) - 8 := by
  have g : ∀ a : Int32, a - 4 = (a + 4) - 8 := by intro a; grind
  rw [g, show nI c + 4 = nI (c + 4) from nI_add c 4]
theorem qy_cell {post : Int32 → Prop} {s k c : Nat} {F : Nat → Int32 → Int32 → Int32} (hs : s ≤ 5) (hk : k < s) (hc : c < 48) (hP : ps_PK F ypi s 0) (H : post (ps_V F k c)) : wpY_at post (ySt, yHt, src, siz, kin, arg, wys, ypi, prt) (nI k) (nI c - nI c / 8 * 8) (nI c / 8) := by
  unfold ps_V at H
  rw [qq_8 (by omega), qq_8d (by omega)]
  rw [qy_n8 (c % 8), qy_n8 (c / 8)] at H ⊢
  refine yw_at (by omega) (by omega) (by omega) ?_
  rw [hP k (c % 8 + 8) (c / 8 + 8) (Or.inl hk) (by omega) (by omega) (by omega) (by omega)]
  exact H
theorem qy_total {post : Int32 → SY → Prop} {s k : Nat} (hs : s ≤ 5) (hT : ∀ k, k < s → ∃ n : Nat, 1 ≤ n ∧ n ≤ 14 ∧ siz k = nI n ∧ ps_TK k (ps_sh kin (14 * k)) (ps_sh arg (14 * k)) n) (hk : k < s) (H : ∀ ypi' prt' : Nat → Int32, post (ps_fo (ps_gT (ps_V (ps_F src siz kin arg) k)) 48) (nI s, yHt, src, siz, kin, arg, wys, ypi', prt')) : wpY_total post (nI s, yHt, src, siz, kin, arg, wys, ypi, prt) (nI k) := by
  unfold wpY_total
  dsimp only
  refine qy_yes hs hk (br_f (by decide) (yw_work hs hT (fun ypi prt hP => ⟨49, ?_⟩)))
  have L : ∀ m j : Nat, j + m = 48 → wY_total_18 post (nI k) (nI s) yHt src siz kin arg wys ypi prt (m + 1) (ps_fo (ps_gT (ps_V (ps_F src siz kin arg) k)) j) (nI j) := by
    intro m
    induction m with
    | zero =>
      intro j hj
      obtain rfl : j = 48 := by omega
      exact br_t (by decide) (H _ _)
    | succ m ih =>
      intro j hj
      rw [wY_total_18]
      exact br_f (nI_ge (b := 48) (by omega) (by decide)) (And.intro (by decide) (And.intro (by decide) (qy_cell hs hk (by omega) hP (nm_r (ps_fo_s (ps_gT (ps_V (ps_F src siz kin arg) k)) j).symm (nm_r (nI_1 j) (ih (j + 1) (by omega)))))))
  exact L 48 0 rfl
theorem qy_atLeast {post : Int32 → SY → Prop} {s k : Nat} {v : Int32} (hs : s ≤ 5) (hT : ∀ k, k < s → ∃ n : Nat, 1 ≤ n ∧ n ≤ 14 ∧ siz k = nI n ∧ ps_TK k (ps_sh kin (14 * k)) (ps_sh arg (14 * k)) n) (hk : k < s) (H : ∀ ypi' prt' : Nat → Int32, post (ps_fo (ps_gL (ps_V (ps_F src siz kin arg) k) v) 48) (nI s, yHt, src, siz, kin, arg, wys, ypi', prt')) : wpY_atLeast post (nI s, yHt, src, siz, kin, arg, wys, ypi, prt) (nI k) v := by
  unfold wpY_atLeast
  dsimp only
  refine qy_yes hs hk (br_f (by decide) (yw_work hs hT (fun ypi prt hP => ⟨49, ?_⟩)))
  have L : ∀ m j : Nat, j + m = 48 → wY_atLeast_19 post (nI k) v (nI s) yHt src siz kin arg wys ypi prt (m + 1) (ps_fo (ps_gL (ps_V (ps_F src siz kin arg) k) v) j) (nI j) := by
    intro m
    induction m with
    | zero =>
      intro j hj
      obtain rfl : j = 48 := by omega
      exact br_t (by decide) (H _ _)
    | succ m ih =>
      intro j hj
      have n := ih (j + 1) (by omega)
      rw [ps_fo_s] at n
      unfold ps_gL at n
      rw [wY_atLeast_19]
      refine br_f (nI_ge (b := 48) (by omega) (by decide)) (And.intro (by decide) (And.intro (by decide) (qy_cell hs hk (by omega) hP ?_)))
      by_cases z : ps_V (ps_F src siz kin arg) k j < v
      · rw [if_pos z] at n
        exact br_t z (nm_r (nI_1 j) n)
      · rw [if_neg z] at n
        exact br_f z (nm_e (nm_r (nI_1 j) n))
  exact L 48 0 rfl
theorem qy_differ {post : Int32 → SY → Prop} {s k l : Nat} (hs : s ≤ 5) (hT : ∀ k, k < s → ∃ n : Nat, 1 ≤ n ∧ n ≤ 14 ∧ siz k = nI n ∧ ps_TK k (ps_sh kin (14 * k)) (ps_sh arg (14 * k)) n) (hk : k < s) (hl : l < s) (H : ∀ ypi' prt' : Nat → Int32, post (ps_fo (ps_gD (ps_V (ps_F src siz kin arg) k) (ps_V (ps_F src siz kin arg) l)) 48) (nI s, yHt, src, siz, kin, arg, wys, ypi', prt')) : wpY_differ post (nI s, yHt, src, siz, kin, arg, wys, ypi, prt) (nI k) (nI l) := by
  unfold wpY_differ
  dsimp only
  refine qy_yes hs hk (br_f (by decide) (qy_yes hs hl (br_f (by decide) (yw_work hs hT (fun ypi prt hP => ⟨49, ?_⟩)))))
  have L : ∀ m j : Nat, j + m = 48 → wY_differ_27 post (nI k) (nI l) (nI s) yHt src siz kin arg wys ypi prt (m + 1) (ps_fo (ps_gD (ps_V (ps_F src siz kin arg) k) (ps_V (ps_F src siz kin arg) l)) j) (nI j) := by
    intro m
    induction m with
    | zero =>
      intro j hj
      obtain rfl : j = 48 := by omega
      exact br_t (by decide) (H _ _)
    | succ m ih =>
      intro j hj
      have n := ih (j + 1) (by omega)
      rw [ps_fo_s] at n
      unfold ps_gD at n
      rw [wY_differ_27]
      refine br_f (nI_ge (b := 48) (by omega) (by decide)) (And.intro (by decide) (And.intro (by decide) (qy_cell hs hk (by omega) hP (And.intro (by decide) (And.intro (by decide) (qy_cell hs hl (by omega) hP ?_))))))
      by_cases z : ps_V (ps_F src siz kin arg) k j = ps_V (ps_F src siz kin arg) l j
      · rw [if_pos z] at n
        exact br_t z (nm_r (nI_1 j) n)
      · rw [if_neg z] at n
        exact br_f z (nm_e (nm_r (nI_1 j) n))
  exact L 48 0 rfl
theorem qy_changed {post : Int32 → SY → Prop} {s k : Nat} (hs : s ≤ 5) (hT : ∀ k, k < s → ∃ n : Nat, 1 ≤ n ∧ n ≤ 14 ∧ siz k = nI n ∧ ps_TK k (ps_sh kin (14 * k)) (ps_sh arg (14 * k)) n) (hk : k < s) (H : ∀ ypi' prt' : Nat → Int32, post (ps_fo (ps_gD (ps_V (ps_F src siz kin arg) k) src) 48) (nI s, yHt, src, siz, kin, arg, wys, ypi', prt')) : wpY_changed post (nI s, yHt, src, siz, kin, arg, wys, ypi, prt) (nI k) := by
  unfold wpY_changed
  dsimp only
  refine qy_yes hs hk (br_f (by decide) (yw_work hs hT (fun ypi prt hP => ⟨49, ?_⟩)))
  have L : ∀ m j : Nat, j + m = 48 → wY_changed_18 post (nI k) (nI s) yHt src siz kin arg wys ypi prt (m + 1) (ps_fo (ps_gD (ps_V (ps_F src siz kin arg) k) src) j) (nI j) := by
    intro m
    induction m with
    | zero =>
      intro j hj
      obtain rfl : j = 48 := by omega
      exact br_t (by decide) (H _ _)
    | succ m ih =>
      intro j hj
      have n := ih (j + 1) (by omega)
      rw [ps_fo_s] at n
      unfold ps_gD at n
      have cj : (nI j).toNatClampNeg = j := nI_clamp (by omega)
      have vj : vp_in (nI j) 48 := vp_in_nI (by omega) (by decide)
      rw [wY_changed_18]
      refine br_f (nI_ge (b := 48) (by omega) (by decide)) (And.intro (by decide) (And.intro (by decide) (qy_cell hs hk (by omega) hP (And.intro vj ?_))))
      rw [cj]
      by_cases z : ps_V (ps_F src siz kin arg) k j = src j
      · rw [if_pos z] at n
        exact br_t z (nm_r (nI_1 j) n)
      · rw [if_neg z] at n
        exact br_f z (nm_e (nm_r (nI_1 j) n))
  exact L 48 0 rfl
theorem qy_peak {post : Int32 → SY → Prop} {s k : Nat} (hs : s ≤ 5) (hT : ∀ k, k < s → ∃ n : Nat, 1 ≤ n ∧ n ≤ 14 ∧ siz k = nI n ∧ ps_TK k (ps_sh kin (14 * k)) (ps_sh arg (14 * k)) n) (hk : k < s) (H : ∀ ypi' prt' : Nat → Int32, post (nI (ps_bs (ps_V (ps_F src siz kin arg) k) 47)) (nI s, yHt, src, siz, kin, arg, wys, ypi', prt')) : wpY_peak post (nI s, yHt, src, siz, kin, arg, wys, ypi, prt) (nI k) := by
  unfold wpY_peak
  dsimp only
  refine qy_yes hs hk (br_f (by decide) (yw_work hs hT (fun ypi prt hP => ⟨48, ?_⟩)))
  have L : ∀ m j : Nat, j + m = 47 → wY_peak_18 post (nI k) (nI s) yHt src siz kin arg wys ypi prt (m + 1) (nI (ps_bs (ps_V (ps_F src siz kin arg) k) j)) (nI (j + 1)) := by
    intro m
    induction m with
    | zero =>
      intro j hj
      obtain rfl : j = 47 := by omega
      exact br_t (by decide) (H _ _)
    | succ m ih =>
      intro j hj
      have n := ih (j + 1) (by omega)
      have e : ps_bs (ps_V (ps_F src siz kin arg) k) (j + 1) = if ps_V (ps_F src siz kin arg) k (j + 1) ≤ ps_V (ps_F src siz kin arg) k (ps_bs (ps_V (ps_F src siz kin arg) k) j) then ps_bs (ps_V (ps_F src siz kin arg) k) j else j + 1 := rfl
      have hb := ps_bs_le (ps_V (ps_F src siz kin arg) k) j
      rw [e] at n
      rw [wY_peak_18]
      refine br_f (nI_ge (b := 48) (by omega) (by decide)) (And.intro (by decide) (And.intro (by decide) (qy_cell hs hk (by omega) hP (And.intro (by decide) (And.intro (by decide) (qy_cell hs hk (by omega) hP ?_))))))
      by_cases z : ps_V (ps_F src siz kin arg) k (j + 1) ≤ ps_V (ps_F src siz kin arg) k (ps_bs (ps_V (ps_F src siz kin arg) k) j)
      · rw [if_pos z] at n
        exact br_t z (nm_r (nI_1 (j + 1)) n)
      · rw [if_neg z] at n
        exact br_f z (nm_r (nI_1 (j + 1)) n)
  exact L 47 0 rfl
theorem qy_apply {post : Int32 → SY → Prop} {s k : Nat} (hs : s ≤ 5) (hT : ∀ k, k < s → ∃ n : Nat, 1 ≤ n ∧ n ≤ 14 ∧ siz k = nI n ∧ ps_TK k (ps_sh kin (14 * k)) (ps_sh arg (14 * k)) n) (hk : k < s) (H : ∀ ypi' prt' : Nat → Int32, post (ps_fo (ps_gD (ps_V (ps_F src siz kin arg) k) src) 48) (nI s, yHt, ps_wr src (ps_V (ps_F src siz kin arg) k) 48, siz, kin, arg, wys, ypi', prt')) : wpY_apply post (nI s, yHt, src, siz, kin, arg, wys, ypi, prt) (nI k) := by
  unfold wpY_apply
  dsimp only
  refine qy_yes hs hk (br_f (by decide) (yw_work hs hT (fun ypi prt hP => ⟨49, ?_⟩)))
  have out : ∀ n i : Nat, n ≤ i → ps_wr src (ps_V (ps_F src siz kin arg) k) n i = src i := by
    intro n i
    induction n with
    | zero => intro _; rfl
    | succ n ih => intro h; show upd _ n _ i = _; rw [pk_un (by omega)]; exact ih (by omega)
  have L : ∀ m j : Nat, j + m = 48 → wY_apply_18 post (nI k) (nI s) yHt (m + 1) (ps_fo (ps_gD (ps_V (ps_F src siz kin arg) k) src) j) (nI j) (ps_wr src (ps_V (ps_F src siz kin arg) k) j) siz kin arg wys ypi prt := by
    intro m
    induction m with
    | zero =>
      intro j hj
      obtain rfl : j = 48 := by omega
      exact br_t (by decide) (H _ _)
    | succ m ih =>
      intro j hj
      have n := ih (j + 1) (by omega)
      rw [ps_fo_s] at n
      unfold ps_gD at n
      have cj : (nI j).toNatClampNeg = j := nI_clamp (by omega)
      have vj : vp_in (nI j) 48 := vp_in_nI (by omega) (by decide)
      have ep : upd (ps_wr src (ps_V (ps_F src siz kin arg) k) j) (nI j).toNatClampNeg (ps_V (ps_F src siz kin arg) k j) = ps_wr src (ps_V (ps_F src siz kin arg) k) (j + 1) := by rw [cj]; rfl
      have eo : ps_wr src (ps_V (ps_F src siz kin arg) k) j (nI j).toNatClampNeg = src j := by rw [cj]; exact out j j (Nat.le_refl _)
      rw [wY_apply_18]
      refine br_f (nI_ge (b := 48) (by omega) (by decide)) (And.intro (by decide) (And.intro (by decide) (qy_cell hs hk (by omega) hP (And.intro vj ?_))))
      by_cases z : ps_V (ps_F src siz kin arg) k j = src j
      · rw [if_pos z] at n
        exact br_t (by rw [eo]; exact z) (And.intro vj (nm_r ep (nm_r (nI_1 j) n)))
      · rw [if_neg z] at n
        exact br_f (by rw [eo]; exact z) (And.intro vj (nm_r ep (nm_r (nI_1 j) n)))
  exact L 48 0 rfl
end QY
end
section
/-! refused calls, and the questions' owed statements -/
section NX
variable {tN dN hN sN pN : Int32} {pic dO dA dB dC stk spk ren len op aa ab ac way kep kKn few fKn fTg gS gX gY gA val spa : Nat → Int32}
theorem nx_total {post : Int32 → SX → Prop} {v : Int32} (h : v < 0 ∨ sN ≤ v) (hp : post (-1) (tN, dN, hN, sN, pN, pic, dO, dA, dB, dC, stk, spk, ren, len, op, aa, ab, ac, way, kep, kKn, few, fKn, fTg, gS, gX, gY, gA, val, spa)) : wpX_total post (tN, dN, hN, sN, pN, pic, dO, dA, dB, dC, stk, spk, ren, len, op, aa, ab, ac, way, kep, kKn, few, fKn, fTg, gS, gX, gY, gA, val, spa) v := by
  unfold wpX_total
  dsimp only
  exact qx_no h (br_t rfl hp)
theorem nx_peak {post : Int32 → SX → Prop} {v : Int32} (h : v < 0 ∨ sN ≤ v) (hp : post (-1) (tN, dN, hN, sN, pN, pic, dO, dA, dB, dC, stk, spk, ren, len, op, aa, ab, ac, way, kep, kKn, few, fKn, fTg, gS, gX, gY, gA, val, spa)) : wpX_peak post (tN, dN, hN, sN, pN, pic, dO, dA, dB, dC, stk, spk, ren, len, op, aa, ab, ac, way, kep, kKn, few, fKn, fTg, gS, gX, gY, gA, val, spa) v := by
  unfold wpX_peak
  dsimp only
  exact qx_no h (br_t rfl hp)
theorem nx_changed {post : Int32 → SX → Prop} {v : Int32} (h : v < 0 ∨ sN ≤ v) (hp : post (-1) (tN, dN, hN, sN, pN, pic, dO, dA, dB, dC, stk, spk, ren, len, op, aa, ab, ac, way, kep, kKn, few, fKn, fTg, gS, gX, gY, gA, val, spa)) : wpX_changed post (tN, dN, hN, sN, pN, pic, dO, dA, dB, dC, stk, spk, ren, len, op, aa, ab, ac, way, kep, kKn, few, fKn, fTg, gS, gX, gY, gA, val, spa) v := by
  unfold wpX_changed
  dsimp only
  exact qx_no h (br_t rfl hp)
theorem nx_apply {post : Int32 → SX → Prop} {v : Int32} (h : v < 0 ∨ sN ≤ v) (hp : post (-1) (tN, dN, hN, sN, pN, pic, dO, dA, dB, dC, stk, spk, ren, len, op, aa, ab, ac, way, kep, kKn, few, fKn, fTg, gS, gX, gY, gA, val, spa)) : wpX_apply post (tN, dN, hN, sN, pN, pic, dO, dA, dB, dC, stk, spk, ren, len, op, aa, ab, ac, way, kep, kKn, few, fKn, fTg, gS, gX, gY, gA, val, spa) v := by
  unfold wpX_apply
  dsimp only
  exact qx_no h (br_t rfl hp)
theorem nx_atLeast {post : Int32 → SX → Prop} {v : Int32} {w : Int32} (h : v < 0 ∨ sN ≤ v) (hp : post (-1) (tN, dN, hN, sN, pN, pic, dO, dA, dB, dC, stk, spk, ren, len, op, aa, ab, ac, way, kep, kKn, few, fKn, fTg, gS, gX, gY, gA, val, spa)) : wpX_atLeast post (tN, dN, hN, sN, pN, pic, dO, dA, dB, dC, stk, spk, ren, len, op, aa, ab, ac, way, kep, kKn, few, fKn, fTg, gS, gX, gY, gA, val, spa) v w := by
  unfold wpX_atLeast
  dsimp only
  exact qx_no h (br_t rfl hp)
theorem nx_value {post : Int32 → SX → Prop} {v : Int32} {w : Int32} {z : Int32} (h : v < 0 ∨ sN ≤ v) (hp : post (-1) (tN, dN, hN, sN, pN, pic, dO, dA, dB, dC, stk, spk, ren, len, op, aa, ab, ac, way, kep, kKn, few, fKn, fTg, gS, gX, gY, gA, val, spa)) : wpX_value post (tN, dN, hN, sN, pN, pic, dO, dA, dB, dC, stk, spk, ren, len, op, aa, ab, ac, way, kep, kKn, few, fKn, fTg, gS, gX, gY, gA, val, spa) v w z := by
  unfold wpX_value
  dsimp only
  exact qx_no h (br_t rfl hp)
theorem nx_way {post : Int32 → SX → Prop} {v : Int32} {w : Int32} (h : v < 0 ∨ sN ≤ v) (hp : post (-1) (tN, dN, hN, sN, pN, pic, dO, dA, dB, dC, stk, spk, ren, len, op, aa, ab, ac, way, kep, kKn, few, fKn, fTg, gS, gX, gY, gA, val, spa)) : wpX_way post (tN, dN, hN, sN, pN, pic, dO, dA, dB, dC, stk, spk, ren, len, op, aa, ab, ac, way, kep, kKn, few, fKn, fTg, gS, gX, gY, gA, val, spa) v w := by
  unfold wpX_way
  dsimp only
  exact qx_no h (br_t rfl hp)
end NX
section NY
variable {ySt yHt : Int32} {src siz kin arg wys ypi prt : Nat → Int32}
theorem ny_total {post : Int32 → SY → Prop} {v : Int32} (h : v < 0 ∨ ySt ≤ v) (hp : post (-1) (ySt, yHt, src, siz, kin, arg, wys, ypi, prt)) : wpY_total post (ySt, yHt, src, siz, kin, arg, wys, ypi, prt) v := by
  unfold wpY_total
  dsimp only
  exact qy_no h (br_t rfl hp)
theorem ny_peak {post : Int32 → SY → Prop} {v : Int32} (h : v < 0 ∨ ySt ≤ v) (hp : post (-1) (ySt, yHt, src, siz, kin, arg, wys, ypi, prt)) : wpY_peak post (ySt, yHt, src, siz, kin, arg, wys, ypi, prt) v := by
  unfold wpY_peak
  dsimp only
  exact qy_no h (br_t rfl hp)
theorem ny_changed {post : Int32 → SY → Prop} {v : Int32} (h : v < 0 ∨ ySt ≤ v) (hp : post (-1) (ySt, yHt, src, siz, kin, arg, wys, ypi, prt)) : wpY_changed post (ySt, yHt, src, siz, kin, arg, wys, ypi, prt) v := by
  unfold wpY_changed
  dsimp only
  exact qy_no h (br_t rfl hp)
theorem ny_apply {post : Int32 → SY → Prop} {v : Int32} (h : v < 0 ∨ ySt ≤ v) (hp : post (-1) (ySt, yHt, src, siz, kin, arg, wys, ypi, prt)) : wpY_apply post (ySt, yHt, src, siz, kin, arg, wys, ypi, prt) v := by
  unfold wpY_apply
  dsimp only
  exact qy_no h (br_t rfl hp)
theorem ny_atLeast {post : Int32 → SY → Prop} {v : Int32} {w : Int32} (h : v < 0 ∨ ySt ≤ v) (hp : post (-1) (ySt, yHt, src, siz, kin, arg, wys, ypi, prt)) : wpY_atLeast post (ySt, yHt, src, siz, kin, arg, wys, ypi, prt) v w := by
  unfold wpY_atLeast
  dsimp only
  exact qy_no h (br_t rfl hp)
theorem ny_value {post : Int32 → SY → Prop} {v : Int32} {w : Int32} {z : Int32} (h : v < 0 ∨ ySt ≤ v) (hp : post (-1) (ySt, yHt, src, siz, kin, arg, wys, ypi, prt)) : wpY_value post (ySt, yHt, src, siz, kin, arg, wys, ypi, prt) v w z := by
  unfold wpY_value
  dsimp only
  exact qy_no h (br_t rfl hp)
theorem ny_way {post : Int32 → SY → Prop} {v : Int32} {w : Int32} (h : v < 0 ∨ ySt ≤ v) (hp : post (-1) (ySt, yHt, src, siz, kin, arg, wys, ypi, prt)) : wpY_way post (ySt, yHt, src, siz, kin, arg, wys, ypi, prt) v w := by
  unfold wpY_way
  dsimp only
  exact qy_no h (br_t rfl hp)
end NY
theorem i_vc_total {k : Nat} {u : SX} {v : SY} (I : i_Rel k u v) (hk : k + 4 ≤ 2048) (v1 : Int32) : wpX_total (fun r u' => wpY_total (fun r' v' => r' = r ∧ i_Rel (k + 4) u' v') v v1) u v1 := by
  refine zz_el (P := fun u v => wpX_total (fun r u' => wpY_total (fun r' v' => r' = r ∧ i_Rel (k + 4) u' v') v v1) u v1) I ?_
  intro s n h d pN pic dO dA dB dC stk spk ren len op aa ab ac way kep kKn few fKn fTg gS gX gY gA val spa siz kin arg wys ypi prt hR
  have hs := hR.1
  rcases pk_ix v1 (n := s) (by omega) with a | a | ⟨j, hj, rfl⟩
  · exact nx_total (Or.inl a) (ny_total (Or.inl a) ⟨rfl, zz_in hR⟩)
  · exact nx_total (Or.inr a) (ny_total (Or.inr a) ⟨rfl, zz_in hR⟩)
  · exact qx_total hs (zz_M hR) hj hR.2.2.2.2.2 (fun pN' kep' kKn' few' fKn' fTg' gS' gX' gY' gA' val' hR' => qy_total hs (zz_T hR) hj (fun ypi' prt' => ⟨rfl, zz_in (zz_K hR hR')⟩))
theorem i_vc_peak {k : Nat} {u : SX} {v : SY} (I : i_Rel k u v) (hk : k + 4 ≤ 2048) (v1 : Int32) : wpX_peak (fun r u' => wpY_peak (fun r' v' => r' = r ∧ i_Rel (k + 4) u' v') v v1) u v1 := by
  refine zz_el (P := fun u v => wpX_peak (fun r u' => wpY_peak (fun r' v' => r' = r ∧ i_Rel (k + 4) u' v') v v1) u v1) I ?_
  intro s n h d pN pic dO dA dB dC stk spk ren len op aa ab ac way kep kKn few fKn fTg gS gX gY gA val spa siz kin arg wys ypi prt hR
  have hs := hR.1
  rcases pk_ix v1 (n := s) (by omega) with a | a | ⟨j, hj, rfl⟩
  · exact nx_peak (Or.inl a) (ny_peak (Or.inl a) ⟨rfl, zz_in hR⟩)
  · exact nx_peak (Or.inr a) (ny_peak (Or.inr a) ⟨rfl, zz_in hR⟩)
  · exact qx_peak hs (zz_M hR) hj hR.2.2.2.2.2 (fun pN' kep' kKn' few' fKn' fTg' gS' gX' gY' gA' val' hR' => qy_peak hs (zz_T hR) hj (fun ypi' prt' => ⟨rfl, zz_in (zz_K hR hR')⟩))
theorem i_vc_changed {k : Nat} {u : SX} {v : SY} (I : i_Rel k u v) (hk : k + 4 ≤ 2048) (v1 : Int32) : wpX_changed (fun r u' => wpY_changed (fun r' v' => r' = r ∧ i_Rel (k + 4) u' v') v v1) u v1 := by
  refine zz_el (P := fun u v => wpX_changed (fun r u' => wpY_changed (fun r' v' => r' = r ∧ i_Rel (k + 4) u' v') v v1) u v1) I ?_
  intro s n h d pN pic dO dA dB dC stk spk ren len op aa ab ac way kep kKn few fKn fTg gS gX gY gA val spa siz kin arg wys ypi prt hR
  have hs := hR.1
  rcases pk_ix v1 (n := s) (by omega) with a | a | ⟨j, hj, rfl⟩
  · exact nx_changed (Or.inl a) (ny_changed (Or.inl a) ⟨rfl, zz_in hR⟩)
  · exact nx_changed (Or.inr a) (ny_changed (Or.inr a) ⟨rfl, zz_in hR⟩)
  · exact qx_changed hs (zz_M hR) hj hR.2.2.2.2.2 (fun pN' kep' kKn' few' fKn' fTg' gS' gX' gY' gA' val' hR' => qy_changed hs (zz_T hR) hj (fun ypi' prt' => ⟨rfl, zz_in (zz_K hR hR')⟩))
theorem i_vc_atLeast {k : Nat} {u : SX} {v : SY} (I : i_Rel k u v) (hk : k + 4 ≤ 2048) (v1 : Int32) (v2 : Int32) : wpX_atLeast (fun r u' => wpY_atLeast (fun r' v' => r' = r ∧ i_Rel (k + 4) u' v') v v1 v2) u v1 v2 := by
  refine zz_el (P := fun u v => wpX_atLeast (fun r u' => wpY_atLeast (fun r' v' => r' = r ∧ i_Rel (k + 4) u' v') v v1 v2) u v1 v2) I ?_
  intro s n h d pN pic dO dA dB dC stk spk ren len op aa ab ac way kep kKn few fKn fTg gS gX gY gA val spa siz kin arg wys ypi prt hR
  have hs := hR.1
  rcases pk_ix v1 (n := s) (by omega) with a | a | ⟨j, hj, rfl⟩
  · exact nx_atLeast (Or.inl a) (ny_atLeast (Or.inl a) ⟨rfl, zz_in hR⟩)
  · exact nx_atLeast (Or.inr a) (ny_atLeast (Or.inr a) ⟨rfl, zz_in hR⟩)
  · exact qx_atLeast hs (zz_M hR) hj hR.2.2.2.2.2 (fun pN' kep' kKn' few' fKn' fTg' gS' gX' gY' gA' val' hR' => qy_atLeast hs (zz_T hR) hj (fun ypi' prt' => ⟨rfl, zz_in (zz_K hR hR')⟩))
theorem i_vc_apply {k : Nat} {u : SX} {v : SY} (I : i_Rel k u v) (hk : k + 4 ≤ 2048) (v1 : Int32) : wpX_apply (fun r u' => wpY_apply (fun r' v' => r' = r ∧ i_Rel (k + 4) u' v') v v1) u v1 := by
  refine zz_el (P := fun u v => wpX_apply (fun r u' => wpY_apply (fun r' v' => r' = r ∧ i_Rel (k + 4) u' v') v v1) u v1) I ?_
  intro s n h d pN pic dO dA dB dC stk spk ren len op aa ab ac way kep kKn few fKn fTg gS gX gY gA val spa siz kin arg wys ypi prt hR
  have hs := hR.1
  rcases pk_ix v1 (n := s) (by omega) with a | a | ⟨j, hj, rfl⟩
  · exact nx_apply (Or.inl a) (ny_apply (Or.inl a) ⟨rfl, zz_in hR⟩)
  · exact nx_apply (Or.inr a) (ny_apply (Or.inr a) ⟨rfl, zz_in hR⟩)
  · exact qx_apply hs (zz_M hR) hj hR.2.2.2.2.2 (fun pN' kep' kKn' few' fKn' fTg' gS' gX' gY' gA' val' spa' => qy_apply hs (zz_T hR) hj (fun ypi' prt' => ⟨rfl, zz_in (zz_P hR)⟩))
section NX2
variable {tN dN hN sN pN : Int32} {pic dO dA dB dC stk spk ren len op aa ab ac way kep kKn few fKn fTg gS gX gY gA val spa : Nat → Int32}
theorem nx_differ {post : Int32 → SX → Prop} {v w : Int32} (h : (v < 0 ∨ sN ≤ v) ∨ (¬ v < 0 ∧ ¬ sN ≤ v) ∧ (w < 0 ∨ sN ≤ w)) (hp : post (-1) (tN, dN, hN, sN, pN, pic, dO, dA, dB, dC, stk, spk, ren, len, op, aa, ab, ac, way, kep, kKn, few, fKn, fTg, gS, gX, gY, gA, val, spa)) : wpX_differ post (tN, dN, hN, sN, pN, pic, dO, dA, dB, dC, stk, spk, ren, len, op, aa, ab, ac, way, kep, kKn, few, fKn, fTg, gS, gX, gY, gA, val, spa) v w := by
  unfold wpX_differ
  dsimp only
  rcases h with h | ⟨⟨h1, h2⟩, h⟩
  · exact qx_no h (br_t rfl hp)
  · exact br_f h1 (br_f h2 (br_f (by decide) (qx_no h (br_t rfl hp))))
end NX2
section NY2
variable {ySt yHt : Int32} {src siz kin arg wys ypi prt : Nat → Int32}
theorem ny_differ {post : Int32 → SY → Prop} {v w : Int32} (h : (v < 0 ∨ ySt ≤ v) ∨ (¬ v < 0 ∧ ¬ ySt ≤ v) ∧ (w < 0 ∨ ySt ≤ w)) (hp : post (-1) (ySt, yHt, src, siz, kin, arg, wys, ypi, prt)) : wpY_differ post (ySt, yHt, src, siz, kin, arg, wys, ypi, prt) v w := by
  unfold wpY_differ
  dsimp only
  rcases h with h | ⟨⟨h1, h2⟩, h⟩
  · exact qy_no h (br_t rfl hp)
  · exact br_f h1 (br_f h2 (br_f (by decide) (qy_no h (br_t rfl hp))))
theorem ny_vt : ∀ p, p < 16 → ¬ nI p - 4 < -4 ∧ ¬ 11 < nI p - 4 := by decide +kernel
theorem ny_vt' : ∀ r, r < 14 → ¬ nI r - 4 < -4 ∧ ¬ 9 < nI r - 4 := by decide +kernel
theorem qy_value {post : Int32 → SY → Prop} {s k p r : Nat} (hs : s ≤ 5) (hT : ∀ k, k < s → ∃ n : Nat, 1 ≤ n ∧ n ≤ 14 ∧ siz k = nI n ∧ ps_TK k (ps_sh kin (14 * k)) (ps_sh arg (14 * k)) n) (hk : k < s) (hp : p < 16) (hr : r < 14) (H : ∀ ypi' prt' : Nat → Int32, post (ps_F src siz kin arg k (nI p - 4) (nI r - 4)) (nI s, yHt, src, siz, kin, arg, wys, ypi', prt')) : wpY_value post (nI s, yHt, src, siz, kin, arg, wys, ypi, prt) (nI k) (nI p - 4) (nI r - 4) := by
  unfold wpY_value
  dsimp only
  obtain ⟨a1, a2⟩ := ny_vt p hp
  obtain ⟨b1, b2⟩ := ny_vt' r hr
  refine qy_yes hs hk (br_f (by decide) (yw_work hs hT (fun ypi prt hP => br_f a1 (br_f a2 (br_f b1 (br_f b2 ?_))))))
  have n := H ypi prt
  rw [qy_n4 p, qy_n4 r] at n ⊢
  refine yw_at (by omega) (by omega) (by omega) ?_
  dsimp only
  rw [hP k (p + 4) (r + 4) (Or.inl hk) (by omega) (by omega) (by omega) (by omega)]
  exact n
theorem qy_value0 {post : Int32 → SY → Prop} {s k : Nat} {x y : Int32} (hs : s ≤ 5) (hT : ∀ k, k < s → ∃ n : Nat, 1 ≤ n ∧ n ≤ 14 ∧ siz k = nI n ∧ ps_TK k (ps_sh kin (14 * k)) (ps_sh arg (14 * k)) n) (hk : k < s) (ho : x < -4 ∨ 12 ≤ x ∨ y < -4 ∨ 10 ≤ y) (H : ∀ ypi' prt' : Nat → Int32, post 0 (nI s, yHt, src, siz, kin, arg, wys, ypi', prt')) : wpY_value post (nI s, yHt, src, siz, kin, arg, wys, ypi, prt) (nI k) x y := by
  unfold wpY_value
  dsimp only
  refine qy_yes hs hk (br_f (by decide) (yw_work hs hT (fun ypi prt hP => ?_)))
  have n := H ypi prt
  have g1 : ∀ z : Int32, 12 ≤ z → 11 < z := by
    intro z hz
    rw [Int32.le_iff_toInt_le] at hz
    rw [Int32.lt_iff_toInt_lt]
    have : (12 : Int32).toInt = 12 := by decide
    have : (11 : Int32).toInt = 11 := by decide
    omega
  have g2 : ∀ z : Int32, 10 ≤ z → 9 < z := by
    intro z hz
    rw [Int32.le_iff_toInt_le] at hz
    rw [Int32.lt_iff_toInt_lt]
    have : (10 : Int32).toInt = 10 := by decide
    have : (9 : Int32).toInt = 9 := by decide
    omega
  refine br_c (fun _ => n) (fun a => br_c (fun _ => n) (fun b => br_c (fun _ => n) (fun c => br_c (fun _ => n) (fun e => ?_))))
  rcases ho with ho | ho | ho | ho
  · exact absurd ho a
  · exact absurd (g1 _ ho) b
  · exact absurd ho c
  · exact absurd (g2 _ ho) e
end NY2
section NX3
variable {tN dN hN sN pN : Int32} {pic dO dA dB dC stk spk ren len op aa ab ac way kep kKn few fKn fTg gS gX gY gA val spa : Nat → Int32}
theorem qx_value {post : Int32 → SX → Prop} {s k : Nat} {F : Nat → Int32 → Int32 → Int32} {x y : Int32} (hs : s ≤ 5) (hM : ∀ k, k < s → ps_MR k pic F len op aa ab ac) (hk : k < s) (hR : ps_RK s F way kep kKn few fKn fTg) (H0 : x < -4 ∨ 12 ≤ x ∨ y < -4 ∨ 10 ≤ y → post 0 (tN, dN, hN, nI s, pN, pic, dO, dA, dB, dC, stk, spk, ren, len, op, aa, ab, ac, way, kep, kKn, few, fKn, fTg, gS, gX, gY, gA, val, spa)) (H : ∀ p r : Nat, p < 16 → r < 14 → x = nI p - 4 → y = nI r - 4 → ∀ (pN' : Int32) (kep' kKn' few' fKn' fTg' gS' gX' gY' gA' val' : Nat → Int32), ps_RK s F way kep' kKn' few' fKn' fTg' → post (F k x y) (tN, dN, hN, nI s, pN', pic, dO, dA, dB, dC, stk, spk, ren, len, op, aa, ab, ac, way, kep', kKn', few', fKn', fTg', gS', gX', gY', gA', val', spa)) : wpX_value post (tN, dN, hN, nI s, pN, pic, dO, dA, dB, dC, stk, spk, ren, len, op, aa, ab, ac, way, kep, kKn, few, fKn, fTg, gS, gX, gY, gA, val, spa) (nI k) x y := by
  unfold wpX_value
  dsimp only
  refine qx_yes hs hk (br_f (by decide) ?_)
  refine br_c (fun a => br_t rfl (H0 (Or.inl a))) (fun a => br_c (fun b => br_t rfl (H0 (Or.inr (Or.inl b)))) (fun b => br_c (fun c => br_t rfl (H0 (Or.inr (Or.inr (Or.inl c))))) (fun c => br_c (fun e => br_t rfl (H0 (Or.inr (Or.inr (Or.inr e))))) (fun e => br_f (by decide) ?_))))
  obtain ⟨p, hp, ep⟩ := xc_off (N := 16) (by decide) (by decide) a b
  obtain ⟨r, hr, er⟩ := xc_off (N := 14) (by decide) (by decide) c e
  exact xm_cellOf hs hM hk hR (H p r hp hr ep er)
end NX3
theorem i_vc_value {k : Nat} {u : SX} {v : SY} (I : i_Rel k u v) (hk : k + 4 ≤ 2048) (v1 : Int32) (v2 : Int32) (v3 : Int32) : wpX_value (fun r u' => wpY_value (fun r' v' => r' = r ∧ i_Rel (k + 4) u' v') v v1 v2 v3) u v1 v2 v3 := by
  refine zz_el (P := fun u v => wpX_value (fun r u' => wpY_value (fun r' v' => r' = r ∧ i_Rel (k + 4) u' v') v v1 v2 v3) u v1 v2 v3) I ?_
  intro s n h d pN pic dO dA dB dC stk spk ren len op aa ab ac way kep kKn few fKn fTg gS gX gY gA val spa siz kin arg wys ypi prt hR
  have hs := hR.1
  rcases pk_ix v1 (n := s) (by omega) with a | a | ⟨j, hj, rfl⟩
  · exact nx_value (Or.inl a) (ny_value (Or.inl a) ⟨rfl, zz_in hR⟩)
  · exact nx_value (Or.inr a) (ny_value (Or.inr a) ⟨rfl, zz_in hR⟩)
  · refine qx_value hs (zz_M hR) hj hR.2.2.2.2.2 (fun ho => qy_value0 hs (zz_T hR) hj ho (fun ypi' prt' => ⟨rfl, zz_in hR⟩)) ?_
    intro p r hp hr ep er pN' kep' kKn' few' fKn' fTg' gS' gX' gY' gA' val' hR'
    subst ep er
    exact qy_value hs (zz_T hR) hj hp hr (fun ypi' prt' => ⟨rfl, zz_in (zz_K hR hR')⟩)
theorem i_vc_differ {k : Nat} {u : SX} {v : SY} (I : i_Rel k u v) (hk : k + 4 ≤ 2048) (v1 : Int32) (v2 : Int32) : wpX_differ (fun r u' => wpY_differ (fun r' v' => r' = r ∧ i_Rel (k + 4) u' v') v v1 v2) u v1 v2 := by
  refine zz_el (P := fun u v => wpX_differ (fun r u' => wpY_differ (fun r' v' => r' = r ∧ i_Rel (k + 4) u' v') v v1 v2) u v1 v2) I ?_
  intro s n h d pN pic dO dA dB dC stk spk ren len op aa ab ac way kep kKn few fKn fTg gS gX gY gA val spa siz kin arg wys ypi prt hR
  have hs := hR.1
  rcases pk_ix v1 (n := s) (by omega) with a | a | ⟨j, hj, rfl⟩
  · exact nx_differ (Or.inl (Or.inl a)) (ny_differ (Or.inl (Or.inl a)) ⟨rfl, zz_in hR⟩)
  · exact nx_differ (Or.inl (Or.inr a)) (ny_differ (Or.inl (Or.inr a)) ⟨rfl, zz_in hR⟩)
  · have b1 : ¬ nI j < 0 := nI_pos (by omega)
    have b2 : ¬ nI s ≤ nI j := nI_ge hj (by omega)
    rcases pk_ix v2 (n := s) (by omega) with a | a | ⟨l, hl, rfl⟩
    · exact nx_differ (Or.inr ⟨⟨b1, b2⟩, Or.inl a⟩) (ny_differ (Or.inr ⟨⟨b1, b2⟩, Or.inl a⟩) ⟨rfl, zz_in hR⟩)
    · exact nx_differ (Or.inr ⟨⟨b1, b2⟩, Or.inr a⟩) (ny_differ (Or.inr ⟨⟨b1, b2⟩, Or.inr a⟩) ⟨rfl, zz_in hR⟩)
    · exact qx_differ hs (zz_M hR) hj hl hR.2.2.2.2.2 (fun pN' kep' kKn' few' fKn' fTg' gS' gX' gY' gA' val' hR' => qy_differ hs (zz_T hR) hj hl (fun ypi' prt' => ⟨rfl, zz_in (zz_K hR hR')⟩))
end
section
/-! put, slope, way, stages, source, clearDraft, dropStage -/
theorem pl_7 {z : Int32} : 8 ≤ z ↔ 7 < z := by
  rw [Int32.le_iff_toInt_le, Int32.lt_iff_toInt_lt, show (8 : Int32).toInt = 8 by decide, show (7 : Int32).toInt = 7 by decide]; omega
theorem pl_5 {z : Int32} : 6 ≤ z ↔ 5 < z := by
  rw [Int32.le_iff_toInt_le, Int32.lt_iff_toInt_lt, show (6 : Int32).toInt = 6 by decide, show (5 : Int32).toInt = 5 by decide]; omega
theorem pl_i (a b : Nat) : (8 * nI b) + nI a = nI (8 * b + a) := by rw [xc_m8, nI_add]
section PLY
variable {ySt yHt : Int32} {src siz kin arg wys ypi prt : Nat → Int32}
theorem pl_cell (x y : Int32) : (∃ a b : Nat, a < 8 ∧ b < 6 ∧ x = nI a ∧ y = nI b ∧ (∀ post : Int32 → Prop, post 1 → wpX_isCell post x y) ∧ (∀ post : Int32 → Prop, post 1 → wpY_isCell post (ySt, yHt, src, siz, kin, arg, wys, ypi, prt) x y)) ∨ ((∀ post : Int32 → Prop, post 0 → wpX_isCell post x y) ∧ (∀ post : Int32 → Prop, post 0 → wpY_isCell post (ySt, yHt, src, siz, kin, arg, wys, ypi, prt) x y)) := by
  by_cases a : x < 0
  · exact Or.inr ⟨fun _ h => br_t a h, fun _ h => br_t a h⟩
  by_cases b : 8 ≤ x
  · exact Or.inr ⟨fun _ h => br_f a (br_t b h), fun _ h => br_f a (br_t (pl_7.mp b) h)⟩
  have b' : ¬ 7 < x := fun z => b (pl_7.mpr z)
  by_cases c : y < 0
  · exact Or.inr ⟨fun _ h => br_f a (br_f b (br_t c h)), fun _ h => br_f a (br_f b' (br_t c h))⟩
  by_cases d : 6 ≤ y
  · exact Or.inr ⟨fun _ h => br_f a (br_f b (br_f c (br_t d h))), fun _ h => br_f a (br_f b' (br_f c (br_t (pl_5.mp d) h)))⟩
  have d' : ¬ 5 < y := fun z => d (pl_5.mpr z)
  obtain ⟨p, hp, ep⟩ := nI_of a
  obtain ⟨r, hr, er⟩ := nI_of c
  refine Or.inl ⟨p, r, ?_, ?_, ep, er, fun _ h => br_f a (br_f b (br_f c (br_f d h))), fun _ h => br_f a (br_f b' (br_f c (br_f d' h)))⟩
  · rw [ep] at b
    exact Nat.lt_of_not_le (fun z => b (nI_le (a := 8) z hp))
  · rw [er] at d
    exact Nat.lt_of_not_le (fun z => d (nI_le (a := 6) z hr))
end PLY
theorem i_vc_put {k : Nat} {u : SX} {v : SY} (I : i_Rel k u v) (hk : k + 4 ≤ 2048) (v1 : Int32) (v2 : Int32) (v3 : Int32) : wpX_put (fun r u' => wpY_put (fun r' v' => r' = r ∧ i_Rel (k + 4) u' v') v v1 v2 v3) u v1 v2 v3 := by
  refine zz_el (P := fun u v => wpX_put (fun r u' => wpY_put (fun r' v' => r' = r ∧ i_Rel (k + 4) u' v') v v1 v2 v3) u v1 v2 v3) I ?_
  intro s n h d pN pic dO dA dB dC stk spk ren len op aa ab ac way kep kKn few fKn fTg gS gX gY gA val spa siz kin arg wys ypi prt hR
  have hs := hR.1
  unfold wpX_put
  dsimp only
  rcases pl_cell (ySt := nI s) (yHt := nI h) (src := pic) (siz := siz) (kin := kin) (arg := arg) (wys := wys) (ypi := ypi) (prt := prt) v1 v2 with ⟨a, b, ha, hb, rfl, rfl, hX, hY⟩ | ⟨hX, hY⟩
  · refine hX _ (br_f (by decide) ?_)
    rw [pl_i, nI_clamp (by omega)]
    refine And.intro (vp_in_nI (by omega) (by decide)) (nm_e (xc_forgetAll ?_))
    unfold wpY_put
    dsimp only
    refine hY _ (br_f (by decide) ?_)
    rw [pl_i, nI_clamp (by omega)]
    exact And.intro (vp_in_nI (by omega) (by decide)) (nm_e ⟨rfl, zz_in (zz_P hR)⟩)
  · refine hX _ (br_t rfl ?_)
    unfold wpY_put
    dsimp only
    exact hY _ (br_t rfl ⟨rfl, zz_in hR⟩)
theorem i_vc_source {k : Nat} {u : SX} {v : SY} (I : i_Rel k u v) (hk : k + 4 ≤ 2048) (v1 : Int32) (v2 : Int32) : wpX_source (fun r => wpY_source (fun r' => r' = r ∧ i_Rel (k + 4) u v) v v1 v2) u v1 v2 := by
  refine zz_el (P := fun u v => wpX_source (fun r => wpY_source (fun r' => r' = r ∧ i_Rel (k + 4) u v) v v1 v2) u v1 v2) I ?_
  intro s n h d pN pic dO dA dB dC stk spk ren len op aa ab ac way kep kKn few fKn fTg gS gX gY gA val spa siz kin arg wys ypi prt hR
  have hs := hR.1
  unfold wpX_source
  dsimp only
  rcases pl_cell (ySt := nI s) (yHt := nI h) (src := pic) (siz := siz) (kin := kin) (arg := arg) (wys := wys) (ypi := ypi) (prt := prt) v1 v2 with ⟨a, b, ha, hb, rfl, rfl, hX, hY⟩ | ⟨hX, hY⟩
  · refine hX _ (br_f (by decide) ?_)
    have vi : vp_in (8 * nI b + nI a) 48 := by rw [pl_i]; exact vp_in_nI (by omega) (by decide)
    refine And.intro vi ?_
    unfold wpY_source
    dsimp only
    exact hY _ (br_f (by decide) (And.intro vi ⟨rfl, zz_in hR⟩))
  · refine hX _ (br_t rfl ?_)
    unfold wpY_source
    dsimp only
    exact hY _ (br_t rfl ⟨rfl, zz_in hR⟩)
theorem i_vc_stages {k : Nat} {u : SX} {v : SY} (I : i_Rel k u v) (hk : k + 4 ≤ 2048) : wpX_stages (fun r => wpY_stages (fun r' => r' = r ∧ i_Rel (k + 4) u v) v) u := by
  refine zz_el (P := fun u v => wpX_stages (fun r => wpY_stages (fun r' => r' = r ∧ i_Rel (k + 4) u v) v) u) I ?_
  intro s n h d pN pic dO dA dB dC stk spk ren len op aa ab ac way kep kKn few fKn fTg gS gX gY gA val spa siz kin arg wys ypi prt hR
  have hs := hR.1
  exact ⟨rfl, zz_in hR⟩
def ps_sp (x y z : Int32) (j : Nat) : Int32 := (x + (y * (nI j - nI j / 8 * 8))) + (z * (nI j / 8))
section PLX
variable {tN dN hN sN pN : Int32} {pic dO dA dB dC stk spk ren len op aa ab ac way kep kKn few fKn fTg gS gX gY gA val spa : Nat → Int32}
theorem pl_slopeX {post : SX → Prop} {x y z : Int32} (H : post (tN, dN, hN, sN, pN, ps_wr pic (ps_sp x y z) 48, dO, dA, dB, dC, stk, spk, ren, len, op, aa, ab, ac, way, kep, ps_fa kKn 14 5, few, ps_fa fKn 4 5, fTg, gS, gX, gY, gA, val, spa)) : wpX_slope post (tN, dN, hN, sN, pN, pic, dO, dA, dB, dC, stk, spk, ren, len, op, aa, ab, ac, way, kep, kKn, few, fKn, fTg, gS, gX, gY, gA, val, spa) x y z := by
  have L : ∀ m j : Nat, j + m = 48 → wX_slope_3 post x y z tN dN hN sN pN (m + 1) (nI j) (ps_wr pic (ps_sp x y z) j) dO dA dB dC stk spk ren len op aa ab ac way kep kKn few fKn fTg gS gX gY gA val spa := by
    intro m
    induction m with
    | zero =>
      intro j hj
      obtain rfl : j = 48 := by omega
      exact br_t (by decide) (xc_forgetAll H)
    | succ m ih =>
      intro j hj
      have cj : (nI j).toNatClampNeg = j := nI_clamp (by omega)
      exact br_f (nI_ge (b := 48) (by omega) (by decide)) (And.intro (by decide) (And.intro (by decide) (And.intro (vp_in_nI (by omega) (by decide)) (nm_r (e' := ps_wr pic (ps_sp x y z) (j + 1)) (by rw [cj]; rfl) (nm_r (nI_1 j) (ih (j + 1) (by omega)))))))
  exact ⟨49, L 48 0 rfl⟩
theorem pl_clearX {post : Int32 → SX → Prop} (H : post hN (nI 0, nI 0, nI 0, sN, pN, pic, dO, dA, dB, dC, stk, ps_wr spk (fun _ => 0) 5, ren, len, op, aa, ab, ac, way, kep, kKn, few, fKn, fTg, gS, gX, gY, gA, val, spa)) : wpX_clearDraft post (tN, dN, hN, sN, pN, pic, dO, dA, dB, dC, stk, spk, ren, len, op, aa, ab, ac, way, kep, kKn, few, fKn, fTg, gS, gX, gY, gA, val, spa) := by
  have L : ∀ m j : Nat, j + m = 5 → wX_clearDraft_22 post hN 0 0 0 sN pN (m + 1) (nI j) pic dO dA dB dC stk (ps_wr spk (fun _ => 0) j) ren len op aa ab ac way kep kKn few fKn fTg gS gX gY gA val spa := by
    intro m
    induction m with
    | zero =>
      intro j hj
      obtain rfl : j = 5 := by omega
      exact br_t (by decide) H
    | succ m ih =>
      intro j hj
      have cj : (nI j).toNatClampNeg = j := nI_clamp (by omega)
      have eb : vp_nar .boolean 0 = 0 := by decide
      exact br_f (nI_ge (b := 5) (by omega) (by decide)) (And.intro (vp_in_nI (by omega) (by decide)) (nm_r (e' := ps_wr spk (fun _ => 0) (j + 1)) (by rw [cj, eb]; rfl) (nm_r (nI_1 j) (ih (j + 1) (by omega)))))
  exact ⟨6, L 5 0 rfl⟩
end PLX
section PLY2
variable {ySt yHt : Int32} {src siz kin arg wys ypi prt : Nat → Int32}
theorem pl_slopeY {post : SY → Prop} {x y z : Int32} (H : post (ySt, yHt, ps_wr src (ps_sp x y z) 48, siz, kin, arg, wys, ypi, prt)) : wpY_slope post (ySt, yHt, src, siz, kin, arg, wys, ypi, prt) x y z := by
  have L : ∀ m j : Nat, j + m = 48 → wY_slope_3 post x y z ySt yHt (m + 1) (nI j) (ps_wr src (ps_sp x y z) j) siz kin arg wys ypi prt := by
    intro m
    induction m with
    | zero =>
      intro j hj
      obtain rfl : j = 48 := by omega
      exact br_t (by decide) H
    | succ m ih =>
      intro j hj
      have cj : (nI j).toNatClampNeg = j := nI_clamp (by omega)
      exact br_f (nI_ge (b := 48) (by omega) (by decide)) (And.intro (by decide) (And.intro (by decide) (And.intro (vp_in_nI (by omega) (by decide)) (nm_r (e' := ps_wr src (ps_sp x y z) (j + 1)) (by rw [cj]; rfl) (nm_r (nI_1 j) (ih (j + 1) (by omega)))))))
  exact ⟨49, L 48 0 rfl⟩
theorem pl_clearY {post : Int32 → SY → Prop} (H : post yHt (ySt, nI 0, src, upd siz 5 0, kin, arg, wys, ypi, prt)) : wpY_clearDraft post (ySt, yHt, src, siz, kin, arg, wys, ypi, prt) := nm_e H
end PLY2
theorem i_vc_slope {k : Nat} {u : SX} {v : SY} (I : i_Rel k u v) (hk : k + 4 ≤ 2048) (v1 : Int32) (v2 : Int32) (v3 : Int32) : wpX_slope (fun u' => wpY_slope (fun v' => i_Rel (k + 4) u' v') v v1 v2 v3) u v1 v2 v3 := by
  refine zz_el (P := fun u v => wpX_slope (fun u' => wpY_slope (fun v' => i_Rel (k + 4) u' v') v v1 v2 v3) u v1 v2 v3) I ?_
  intro s n h d pN pic dO dA dB dC stk spk ren len op aa ab ac way kep kKn few fKn fTg gS gX gY gA val spa siz kin arg wys ypi prt hR
  have hs := hR.1
  exact pl_slopeX (pl_slopeY (zz_in (zz_P hR)))
/-! what the draft's changes leave alone -/
theorem pl_SR {k : Nat} {siz kin arg siz' kin' arg' len op aa ab ac : Nat → Int32} (hk : k < 5) (h1 : ∀ j, j < 5 → siz' j = siz j) (h2 : ∀ i, i < 70 → kin' i = kin i ∧ arg' i = arg i) (h : ps_SR k siz kin arg len op aa ab ac) : ps_SR k siz' kin' arg' len op aa ab ac := by
  obtain ⟨n, L, n1, n14, l1, l14, ez, el, ht, hc, h9, hx⟩ := h
  refine ⟨n, L, n1, n14, l1, l14, (h1 k hk).trans ez, el, ps_TK_cg ht (fun i hi => h2 (14 * k + i) (by omega)), hc, h9, fun lf hlf => ?_⟩
  rw [hx lf hlf]
  refine (congrFun (ps_sk_cg n (fun i hi => (h2 (14 * k + i) (by omega)).1) (fun i hi _ => ?_)).1 0).symm
  show lf _ (arg' (14 * k + i)) = lf _ (arg (14 * k + i))
  rw [(h2 (14 * k + i) (by omega)).2]
theorem pl_F {s : Nat} {P siz kin arg siz' kin' arg' len op aa ab ac : Nat → Int32} (hs : s ≤ 5) (hS : ∀ k, k < s → ps_SR k siz kin arg len op aa ab ac) (h1 : ∀ j, j < 5 → siz' j = siz j) (h2 : ∀ i, i < 70 → kin' i = kin i ∧ arg' i = arg i) : ∀ k, k < s → ∀ x y, ps_F P siz' kin' arg' k x y = ps_F P siz kin arg k x y := by
  intro k hk
  refine ps_F_cg k (fun j hj => ⟨h1 j (by omega), ?_⟩) (fun i hi => h2 i (by omega))
  obtain ⟨n, L, n1, n14, _, _, ez, _⟩ := hS j (by omega)
  rw [ez, nI_clamp (by omega)]
  exact n14
theorem zz_D {s n h d n' h' d' : Nat} {pic dO dA dB dC stk spk len op aa ab ac way kep kKn few fKn fTg siz kin arg wys dO' dA' dB' dC' stk' spk' siz' kin' arg' : Nat → Int32} (hR : ps_Rel s n h d pic dO dA dB dC stk spk len op aa ab ac way kep kKn few fKn fTg siz kin arg wys) (h1 : ∀ j, j < 5 → siz' j = siz j) (h2 : ∀ i, i < 70 → kin' i = kin i ∧ arg' i = arg i) (h5 : siz' 5 = nI n') (hD : ps_DR s n' h' d' (ps_sh kin' 70) (ps_sh arg' 70) dO' dA' dB' dC' stk' spk') : ps_Rel s n' h' d' pic dO' dA' dB' dC' stk' spk' len op aa ab ac way kep kKn few fKn fTg siz' kin' arg' wys := by
  obtain ⟨hs, _, hS, _, hw, hK⟩ := hR
  exact ⟨hs, h5, fun k hk => pl_SR (by omega) h1 h2 (hS k hk), hD, hw, xc_RK_cg (Nat.le_refl _) (pl_F hs hS h1 h2) (fun _ _ => rfl) hK⟩
theorem pl_sp5 {f : Nat → Int32} : ∀ k, k < 5 → ps_wr f (fun _ => 0) 5 k = 0 := fun _ hk => ps_wr_in 5 hk
theorem zz_C {s n h d : Nat} {pic dO dA dB dC stk spk len op aa ab ac way kep kKn few fKn fTg siz kin arg wys : Nat → Int32} (hR : ps_Rel s n h d pic dO dA dB dC stk spk len op aa ab ac way kep kKn few fKn fTg siz kin arg wys) : ps_Rel s 0 0 0 pic dO dA dB dC stk (ps_wr spk (fun _ => 0) 5) len op aa ab ac way kep kKn few fKn fTg (upd siz 5 0) kin arg wys :=
  zz_D hR (fun j hj => pk_un (by omega)) (fun _ _ => ⟨rfl, rfl⟩) pk_us (zz_DR0 pl_sp5)
/-- one stage fewer -/
theorem zz_S {s n h d : Nat} {pic dO dA dB dC stk spk len op aa ab ac way kep kKn few fKn fTg siz kin arg wys : Nat → Int32} (hR : ps_Rel (s + 1) n h d pic dO dA dB dC stk spk len op aa ab ac way kep kKn few fKn fTg siz kin arg wys) {n' h' d' : Nat} (h5 : siz 5 = nI n') (hD : ps_DR s n' h' d' (ps_sh kin 70) (ps_sh arg 70) dO dA dB dC stk spk) : ps_Rel s n' h' d' pic dO dA dB dC stk spk len op aa ab ac way kep kKn few fKn fTg siz kin arg wys := by
  obtain ⟨hs, _, hS, _, hw, hK⟩ := hR
  exact ⟨by omega, h5, fun k hk => hS k (by omega), hD, fun k hk => hw k (by omega), xc_RK_cg (by omega) (fun _ _ _ _ => rfl) (fun _ _ => rfl) hK⟩
theorem i_vc_clearDraft {k : Nat} {u : SX} {v : SY} (I : i_Rel k u v) (hk : k + 4 ≤ 2048) : wpX_clearDraft (fun r u' => wpY_clearDraft (fun r' v' => r' = r ∧ i_Rel (k + 4) u' v') v) u := by
  refine zz_el (P := fun u v => wpX_clearDraft (fun r u' => wpY_clearDraft (fun r' v' => r' = r ∧ i_Rel (k + 4) u' v') v) u) I ?_
  intro s n h d pN pic dO dA dB dC stk spk ren len op aa ab ac way kep kKn few fKn fTg gS gX gY gA val spa siz kin arg wys ypi prt hR
  have hs := hR.1
  exact pl_clearX (pl_clearY ⟨rfl, zz_in (zz_C hR)⟩)
theorem i_vc_way {k : Nat} {u : SX} {v : SY} (I : i_Rel k u v) (hk : k + 4 ≤ 2048) (v1 : Int32) (v2 : Int32) : wpX_way (fun r u' => wpY_way (fun r' v' => r' = r ∧ i_Rel (k + 4) u' v') v v1 v2) u v1 v2 := by
  refine zz_el (P := fun u v => wpX_way (fun r u' => wpY_way (fun r' v' => r' = r ∧ i_Rel (k + 4) u' v') v v1 v2) u v1 v2) I ?_
  intro s n h d pN pic dO dA dB dC stk spk ren len op aa ab ac way kep kKn few fKn fTg gS gX gY gA val spa siz kin arg wys ypi prt hR
  have hs := hR.1
  rcases pk_ix v1 (n := s) (by omega) with a | a | ⟨j, hj, rfl⟩
  · exact nx_way (Or.inl a) (ny_way (Or.inl a) ⟨rfl, zz_in hR⟩)
  · exact nx_way (Or.inr a) (ny_way (Or.inr a) ⟨rfl, zz_in hR⟩)
  · unfold wpX_way
    dsimp only
    refine qx_yes hs hj (br_f (by decide) ?_)
    by_cases b : v2 < 0
    · refine br_t b ?_
      unfold wpY_way
      dsimp only
      exact qy_yes hs hj (br_f (by decide) (br_t b ⟨rfl, zz_in hR⟩))
    refine br_f b ?_
    by_cases c : v2 ≤ 3
    · have vj : vp_in (nI j) 5 := vp_in_nI (by omega) (by decide)
      have cj : (nI j).toNatClampNeg = j := nI_clamp (by omega)
      refine br_t c (And.intro vj (nm_r (e' := way j) (by rw [cj]) (And.intro vj (nm_r (e' := upd way j v2) (by rw [cj]) (xc_forget (by omega) ?_)))))
      unfold wpY_way
      dsimp only
      have ew := hR.2.2.2.2.1 j hj
      refine qy_yes hs hj (br_f (by decide) (br_f b (br_t c (And.intro vj (nm_r (e' := way j) (by rw [cj]; exact ew) (And.intro vj (nm_r (e' := upd wys j v2) (by rw [cj]) ⟨rfl, zz_in ?_⟩)))))))
      refine ⟨hs, hR.2.1, hR.2.2.1, hR.2.2.2.1, fun i hi => ?_, xc_RK_fz hs (fun i hi _ => hi) (fun _ _ _ _ _ => rfl) (fun i hi ne => pk_un ne) hR.2.2.2.2.2⟩
      by_cases e : i = j
      · rw [e, pk_us, pk_us]
      · rw [pk_un e, pk_un e]; exact hR.2.2.2.2.1 i hi
    · refine br_f c ?_
      unfold wpY_way
      dsimp only
      exact qy_yes hs hj (br_f (by decide) (br_f b (br_f c ⟨rfl, zz_in hR⟩)))
section PLY3
variable {ySt yHt : Int32} {src siz kin arg wys ypi prt : Nat → Int32}
theorem pl_i70 (j : Nat) : 70 + nI j = nI (70 + j) := nI_add 70 j
theorem pl_drop1 {post : Int32 → SY → Prop} {n : Nat} (hn : n ≤ 14) (h5 : siz 5 = nI n) (H : post ySt (ySt, nI 0, src, upd siz 5 0, kin, arg, wys, ypi, prt)) : ∀ m j : Nat, j + m = n → wY_dropStage_23 post ySt yHt src siz kin arg wys ypi prt (m + 1) 1 (nI j) := by
  intro m
  induction m with
  | zero =>
    intro j hj
    obtain rfl : j = n := by omega
    exact br_t (by rw [h5]; exact Int32.le_refl _) (br_f (by decide) (pl_clearY H))
  | succ m ih =>
    intro j hj
    exact br_f (by rw [h5]; exact nI_ge (by omega) (by omega)) (br_f (by decide) (nm_r (nI_1 j) (ih (j + 1) (by omega))))
theorem pl_drop0 {post : Int32 → SY → Prop} {n : Nat} (hn : n ≤ 14) (h5 : siz 5 = nI n) (H1 : (∃ i, i < n ∧ ps_sh kin 70 i = 4 ∧ ps_sh arg 70 i / 9 = ySt) → post ySt (ySt, nI 0, src, upd siz 5 0, kin, arg, wys, ypi, prt)) (H0 : (¬ ∃ i, i < n ∧ ps_sh kin 70 i = 4 ∧ ps_sh arg 70 i / 9 = ySt) → post ySt (ySt, yHt, src, siz, kin, arg, wys, ypi, prt)) : ∀ m j : Nat, j + m = n → (∀ i, i < j → ¬ (ps_sh kin 70 i = 4 ∧ ps_sh arg 70 i / 9 = ySt)) → wY_dropStage_23 post ySt yHt src siz kin arg wys ypi prt (m + 1) 0 (nI j) := by
  intro m
  induction m with
  | zero =>
    intro j hj hno
    obtain rfl : j = n := by omega
    exact br_t (by rw [h5]; exact Int32.le_refl _) (br_t rfl (H0 (fun ⟨i, hi, a, b⟩ => hno i hi ⟨a, b⟩)))
  | succ m ih =>
    intro j hj hno
    have vj : vp_in (70 + nI j) 84 := by rw [pl_i70]; exact vp_in_nI (by omega) (by decide)
    have ek : kin (70 + nI j).toNatClampNeg = ps_sh kin 70 j := by rw [pl_i70, nI_clamp (by omega)]; rfl
    have ea : arg (70 + nI j).toNatClampNeg = ps_sh arg 70 j := by rw [pl_i70, nI_clamp (by omega)]; rfl
    refine br_f (by rw [h5]; exact nI_ge (by omega) (by omega)) (br_t rfl ?_)
    rw [ek, ea]
    refine And.intro vj ?_
    have ext : ¬ (ps_sh kin 70 j = 4 ∧ ps_sh arg 70 j / 9 = ySt) → wY_dropStage_23 post ySt yHt src siz kin arg wys ypi prt (m + 1) 0 (nI (j + 1)) := by
      intro hnj
      refine ih (j + 1) (by omega) (fun i hi => ?_)
      by_cases e : i = j
      · rw [e]; exact hnj
      · exact hno i (by omega)
    by_cases a : ps_sh kin 70 j = 4
    · refine br_t a (And.intro vj (And.intro (by decide) ?_))
      by_cases b : ps_sh arg 70 j / 9 = ySt
      · exact br_t b (nm_r (nI_1 j) (pl_drop1 hn h5 (H1 ⟨j, by omega, a, b⟩) m (j + 1) (by omega)))
      · exact br_f b (nm_r (nI_1 j) (ext (fun z => b z.2)))
    · exact br_f a (nm_r (nI_1 j) (ext (fun z => a z.1)))
end PLY3
theorem pl_DRs {s n h d : Nat} {ks ag dO dA dB dC stk spk : Nat → Int32} (hs : s ≤ 5) (hD : ps_DR (s + 1) n h d ks ag dO dA dB dC stk spk) (hno : ¬ ∃ i, i < n ∧ ks i = 4 ∧ ag i / 9 = nI s) : ps_DR s n h d ks ag dO dA dB dC stk spk := by
  obtain ⟨d1, d2, d3, d4, dT, dK, d7, d8, d9, d10⟩ := hD
  have key : ∀ i, i < n → ks i = 4 → ∀ r : Nat, r < 9 * (s + 1) → ag i = nI r → r < 9 * s := by
    intro i hi h4 r hr er
    refine Nat.lt_of_not_le (fun z => hno ⟨i, hi, h4, ?_⟩)
    rw [er, ps_d9 (by omega), show r / 9 = s by omega]
  refine ⟨d1, d2, d3, d4, ?_, ?_, d7, d8, d9, d10⟩
  · intro i hi
    obtain ⟨q, hq, e, a3, a4, a5⟩ := dT i hi
    refine ⟨q, hq, e, a3, fun z => ?_, a5⟩
    obtain ⟨r, hr, er⟩ := a4 z
    exact ⟨r, key i hi (by rw [e, z]; rfl) r hr er, er⟩
  · intro i hi
    obtain ⟨q, hq, e, a3, a4, a5⟩ := dK i hi
    refine ⟨q, hq, e, a3, fun z => ?_, a5⟩
    obtain ⟨r, hr, er⟩ := a4 z
    obtain ⟨j, hj, k4, ej⟩ := d8 i hi (by rw [e, z]; rfl)
    exact ⟨r, key j hj k4 r hr (ej.trans er), er⟩
theorem i_vc_dropStage {k : Nat} {u : SX} {v : SY} (I : i_Rel k u v) (hk : k + 4 ≤ 2048) : wpX_dropStage (fun r u' => wpY_dropStage (fun r' v' => r' = r ∧ i_Rel (k + 4) u' v') v) u := by
  refine zz_el (P := fun u v => wpX_dropStage (fun r u' => wpY_dropStage (fun r' v' => r' = r ∧ i_Rel (k + 4) u' v') v) u) I ?_
  intro s n h d pN pic dO dA dB dC stk spk ren len op aa ab ac way kep kKn few fKn fTg gS gX gY gA val spa siz kin arg wys ypi prt hR
  have hs := hR.1
  unfold wpX_dropStage
  dsimp only
  cases s with
  | zero =>
    refine br_t rfl ?_
    unfold wpY_dropStage
    dsimp only
    exact br_t rfl ⟨rfl, zz_in hR⟩
  | succ s =>
    have n0 : ¬ nI (s + 1) = 0 := nI_ne0 (by omega) (by omega)
    have vs : vp_in (nI s) 5 := vp_in_nI (by omega) (by decide)
    have cs : (nI s).toNatClampNeg = s := nI_clamp (by omega)
    have hD := hR.2.2.2.1
    have h5 := hR.2.1
    obtain ⟨d1, d2, d3, d4, dT, dK, d7, d8, d9, d10⟩ := id hD
    have sp := d10 s (by omega)
    refine br_f n0 (nm_r (nI_pred s) (And.intro vs ?_))
    rw [cs]
    by_cases z : spk s = 0
    · refine br_t z ?_
      unfold wpY_dropStage
      dsimp only
      refine br_f n0 (nm_r (nI_pred s) ⟨n + 1, pl_drop0 d1 h5 (fun y => absurd y (sp.mp z)) (fun hno => ?_) n 0 (by omega) (fun i hi => absurd hi (Nat.not_lt_zero i))⟩)
      exact ⟨rfl, zz_in (zz_S hR h5 (pl_DRs (by omega) hD hno))⟩
    · refine br_f z (pl_clearX ?_)
      unfold wpY_dropStage
      dsimp only
      refine br_f n0 (nm_r (nI_pred s) ⟨n + 1, pl_drop0 d1 h5 (fun _ => ?_) (fun y => absurd (sp.mpr y) z) n 0 (by omega) (fun i hi => absurd hi (Nat.not_lt_zero i))⟩)
      exact ⟨rfl, zz_in (zz_S (zz_C hR) pk_us (zz_DR0 pl_sp5))⟩
end
section
/-! the draft: a value, found or new -/
def ps_DX (s d z : Nat) (A : Int32) (dO dA dB dC : Nat → Int32) (d' : Nat) (dO' dA' dB' dC' : Nat → Int32) (e : Nat) (T : (Int32 → Int32 → Int32) → Int32) : Prop :=
  d ≤ d' ∧ d' ≤ d + 1 ∧ e < d' ∧ ps_CK s dO' dA' dB' dC' d' ∧ ps_cn dO' d' ≤ ps_cn dO d + z ∧ (∀ i, i < d' → dO' i = 4 → (∃ i', i' < d ∧ dO i' = 4 ∧ dA i' = dA' i) ∨ (z = 1 ∧ dA' i = A)) ∧ (∀ lf, ps_LF lf → (∀ i, i < d → ps_xa lf dO' dA' dB' dC' d' i = ps_xa lf dO dA dB dC d i) ∧ ps_xa lf dO' dA' dB' dC' d' e = T lf)
def ps_VK (s d z : Nat) (K A B C : Int32) : Prop := ∃ q : Nat, q ≤ 12 ∧ K = nI q ∧ (q = 3 → ∃ r : Nat, r ≤ 8 ∧ A = nI r) ∧ (q = 4 → z = 1 ∧ ∃ r : Nat, r < 9 * s ∧ A = nI r) ∧ (5 ≤ q → ∃ r : Nat, r < d ∧ A = nI r) ∧ (5 ≤ q → q ≠ 10 → ∃ r : Nat, r < d ∧ B = nI r) ∧ (q = 12 → ∃ r : Nat, r < d ∧ C = nI r)
theorem tv_T {s d z : Nat} {A : Int32} {dO dA dB dC : Nat → Int32} {d' : Nat} {dO' dA' dB' dC' : Nat → Int32} {e : Nat} {T T' : (Int32 → Int32 → Int32) → Int32} (h : ps_DX s d z A dO dA dB dC d' dO' dA' dB' dC' e T) (hT : ∀ lf, ps_LF lf → T lf = T' lf) : ps_DX s d z A dO dA dB dC d' dO' dA' dB' dC' e T' := by
  obtain ⟨h1, h2, h3, h4, h5, h6, h7⟩ := h
  exact ⟨h1, h2, h3, h4, h5, h6, fun lf hl => ⟨(h7 lf hl).1, (h7 lf hl).2.trans (hT lf hl)⟩⟩
theorem tv_A {s d : Nat} {A A' : Int32} {dO dA dB dC : Nat → Int32} {d' : Nat} {dO' dA' dB' dC' : Nat → Int32} {e : Nat} {T : (Int32 → Int32 → Int32) → Int32} (h : ps_DX s d 0 A dO dA dB dC d' dO' dA' dB' dC' e T) : ps_DX s d 0 A' dO dA dB dC d' dO' dA' dB' dC' e T := by
  obtain ⟨h1, h2, h3, h4, h5, h6, h7⟩ := h
  exact ⟨h1, h2, h3, h4, h5, fun i hi z => Or.inl ((h6 i hi z).resolve_right (fun y => absurd y.1 (by decide))), h7⟩
theorem tv_same {s d z : Nat} {A : Int32} {dO dA dB dC : Nat → Int32} {e : Nat} {T : (Int32 → Int32 → Int32) → Int32} (hK : ps_CK s dO dA dB dC d) (he : e < d) (hT : ∀ lf, ps_LF lf → ps_xa lf dO dA dB dC d e = T lf) : ps_DX s d z A dO dA dB dC d dO dA dB dC e T :=
  ⟨Nat.le_refl _, Nat.le_succ _, he, hK, Nat.le_add_right _ _, fun i hi h4 => Or.inl ⟨i, hi, h4, rfl⟩, fun lf hl => ⟨fun _ _ => rfl, hT lf hl⟩⟩
theorem tv_new {s d z : Nat} {K A B C : Int32} {dO dA dB dC : Nat → Int32} (hK : ps_CK s dO dA dB dC d) (hV : ps_VK s d z K A B C) : ps_DX s d z A dO dA dB dC (d + 1) (upd dO d K) (upd dA d A) (upd dB d B) (upd dC d C) d (fun lf => ps_xs lf K A B C (ps_xa lf dO dA dB dC d)) := by
  have un : ∀ (f : Nat → Int32) (v : Int32) (i : Nat), i < d → upd f d v i = f i := fun f v i hi => pk_un (by omega)
  have cg : ∀ lf, ps_xa lf (upd dO d K) (upd dA d A) (upd dB d B) (upd dC d C) d = ps_xa lf dO dA dB dC d := fun lf => ps_xa_cg d (fun i hi => ⟨un _ _ i hi, un _ _ i hi, un _ _ i hi, un _ _ i hi⟩)
  obtain ⟨q, hq, eK, a3, a4, aA, aB, aC⟩ := hV
  refine ⟨Nat.le_succ _, Nat.le_refl _, Nat.lt_succ_self _, ?_, ?_, ?_, ?_⟩
  · intro i hi
    rcases Nat.lt_or_ge i d with h | h
    · rw [un _ _ i h, un _ _ i h, un _ _ i h, un _ _ i h]
      exact hK i h
    · obtain rfl : i = d := by omega
      rw [pk_us, pk_us, pk_us, pk_us]
      exact ⟨q, hq, eK, a3, fun z => (a4 z).2, aA, aB, aC⟩
  · show ps_cn (upd dO d K) d + (if upd dO d K d = 4 then 1 else 0) ≤ _
    rw [ps_cn_cg d (fun i hi => un dO K i hi), pk_us]
    by_cases h4 : K = 4
    · rw [if_pos h4]
      have := (a4 ((ps_e4 hq).mp (eK ▸ h4))).1
      omega
    · rw [if_neg h4]; omega
  · intro i hi h4
    rcases Nat.lt_or_ge i d with h | h
    · rw [un _ _ i h] at h4
      exact Or.inl ⟨i, h, h4, (un _ _ i h).symm⟩
    · obtain rfl : i = d := by omega
      rw [pk_us] at h4
      refine Or.inr ⟨(a4 ((ps_e4 hq).mp (eK ▸ h4))).1, pk_us⟩
  · intro lf hl
    constructor
    · intro i hi
      rw [← cg lf]
      exact ps_xa_st hi (d + 1) (by omega)
    · rw [ps_xa_top, cg lf, pk_us, pk_us, pk_us, pk_us]
section TVX
variable {tN dN hN sN pN : Int32} {pic dO dA dB dC stk spk ren len op aa ab ac way kep kKn few fKn fTg gS gX gY gA val spa : Nat → Int32}
theorem tv_for {post : Int32 → SX → Prop} {s d z : Nat} {K A B C : Int32} (hd : d < 14) (hK : ps_CK s dO dA dB dC d) (hV : ps_VK s d z K A B C) (H : ∀ (e d' : Nat) (dO' dA' dB' dC' : Nat → Int32), ps_DX s d z A dO dA dB dC d' dO' dA' dB' dC' e (fun lf => ps_xs lf K A B C (ps_xa lf dO dA dB dC d)) → post (nI e) (tN, nI d', hN, sN, pN, pic, dO', dA', dB', dC', stk, spk, ren, len, op, aa, ab, ac, way, kep, kKn, few, fKn, fTg, gS, gX, gY, gA, val, spa)) : wpX_valueFor post (tN, nI d, hN, sN, pN, pic, dO, dA, dB, dC, stk, spk, ren, len, op, aa, ab, ac, way, kep, kKn, few, fKn, fTg, gS, gX, gY, gA, val, spa) K A B C := by
  have L : ∀ m j : Nat, j + m = d → wX_valueFor_3 post K A B C tN (nI d) hN sN pN pic dO dA dB dC stk spk ren len op aa ab ac way kep kKn few fKn fTg gS gX gY gA val spa (m + 1) (nI j) := by
    intro m
    induction m with
    | zero =>
      intro j hj
      obtain rfl : j = d := by omega
      have vd : vp_in (nI j) 14 := vp_in_nI hd (by decide)
      have cd : (nI j).toNatClampNeg = j := nI_clamp (by omega)
      refine br_t (Int32.le_refl _) ?_
      rw [cd, nI_1]
      refine And.intro vd (nm_e (And.intro vd (nm_e (And.intro vd (nm_e (And.intro vd (nm_e (nm_e ?_))))))))
      rw [nI_pred]
      exact H j (j + 1) _ _ _ _ (tv_new hK hV)
    | succ m ih =>
      intro j hj
      have vd : vp_in (nI j) 14 := vp_in_nI (by omega) (by decide)
      have cd : (nI j).toNatClampNeg = j := nI_clamp (by omega)
      have n := ih (j + 1) (by omega)
      rw [wX_valueFor_3]
      refine br_f (nI_ge (by omega) (by omega)) (And.intro vd ?_)
      rw [cd]
      refine br_c (fun e1 => And.intro vd (br_c (fun e2 => And.intro vd (br_c (fun e3 => And.intro vd (br_c (fun e4 => ?_) (fun _ => nm_r (nI_1 j) n))) (fun _ => nm_r (nI_1 j) n))) (fun _ => nm_r (nI_1 j) n))) (fun _ => nm_r (nI_1 j) n)
      refine H j d dO dA dB dC (tv_same hK (by omega) (fun lf hl => ?_))
      rw [ps_xa_at hK (show j < d by omega) (by omega) (show j < d by omega) (fun t ht => ps_xa_st (show t < j by omega) d (by omega)), e1, e2, e3, e4]
  exact ⟨d + 1, L d 0 (by omega)⟩
theorem tv_isNum {post : Int32 → Prop} {a : Nat} (ha : a < 14) (h1 : dO a = 0 → post 1) (h0 : ¬ dO a = 0 → post 0) : wpX_isNumber post (tN, dN, hN, sN, pN, pic, dO, dA, dB, dC, stk, spk, ren, len, op, aa, ab, ac, way, kep, kKn, few, fKn, fTg, gS, gX, gY, gA, val, spa) (nI a) := by
  have va : vp_in (nI a) 14 := vp_in_nI ha (by decide)
  have ca : (nI a).toNatClampNeg = a := nI_clamp (by omega)
  refine And.intro va ?_
  rw [ca]
  exact br_c h1 h0
theorem tv_this {post : Int32 → Prop} {a : Nat} {c : Int32} (ha : a < 14) (h1 : dO a = 0 → dA a = c → post 1) (h0 : post 0) : wpX_isThis post (tN, dN, hN, sN, pN, pic, dO, dA, dB, dC, stk, spk, ren, len, op, aa, ab, ac, way, kep, kKn, few, fKn, fTg, gS, gX, gY, gA, val, spa) (nI a) c := by
  have va : vp_in (nI a) 14 := vp_in_nI ha (by decide)
  have ca : (nI a).toNatClampNeg = a := nI_clamp (by omega)
  refine And.intro va ?_
  rw [ca]
  exact br_c (fun e => And.intro va (br_c (fun e' => h1 e e') (fun _ => h0))) (fun _ => h0)
end TVX
theorem tv_num {lf : Int32 → Int32 → Int32} {s d a : Nat} {dO dA dB dC : Nat → Int32} (hl : ps_LF lf) (hd : d ≤ 14) (hK : ps_CK s dO dA dB dC d) (ha : a < d) (e : dO a = 0) : ps_xa lf dO dA dB dC d a = dA a := by
  rw [ps_xa_at hK ha (by omega) ha (fun t ht => ps_xa_st (show t < a by omega) d (by omega)), e]
  exact (ps_xs_l (q := 0) (by decide)).trans (hl.1 _)
theorem tv_xs0 {lf : Int32 → Int32 → Int32} {A B C : Int32} {v : Nat → Int32} (hl : ps_LF lf) : ps_xs lf 0 A B C v = A := (ps_xs_l (q := 0) (by decide)).trans (hl.1 _)
theorem tv_V0 {s d : Nat} {A : Int32} : ps_VK s d 0 0 A 0 0 := ⟨0, by decide, rfl, fun z => absurd z (by decide), fun z => absurd z (by decide), fun z => absurd z (by decide), fun z => absurd z (by decide), fun z => absurd z (by decide)⟩
section TVY
variable {tN dN hN sN pN : Int32} {pic dO dA dB dC stk spk ren len op aa ab ac way kep kKn few fKn fTg gS gX gY gA val spa : Nat → Int32}
theorem tv_halved {post : Int32 → SX → Prop} {s d a : Nat} (hd : d < 14) (hK : ps_CK s dO dA dB dC d) (ha : a < d) (H : ∀ (e d' : Nat) (dO' dA' dB' dC' : Nat → Int32), ps_DX s d 0 0 dO dA dB dC d' dO' dA' dB' dC' e (fun lf => ps_xa lf dO dA dB dC d a >>> ((1 : Int32) &&& 31)) → post (nI e) (tN, nI d', hN, sN, pN, pic, dO', dA', dB', dC', stk, spk, ren, len, op, aa, ab, ac, way, kep, kKn, few, fKn, fTg, gS, gX, gY, gA, val, spa)) : wpX_halved post (tN, nI d, hN, sN, pN, pic, dO, dA, dB, dC, stk, spk, ren, len, op, aa, ab, ac, way, kep, kKn, few, fKn, fTg, gS, gX, gY, gA, val, spa) (nI a) := by
  have ca : (nI a).toNatClampNeg = a := nI_clamp (by omega)
  have va : vp_in (nI a) 14 := vp_in_nI (by omega) (by decide)
  unfold wpX_halved
  dsimp only
  refine tv_isNum (by omega) (fun e => br_f (by decide) (And.intro va ?_)) (fun e => br_t rfl ?_)
  · rw [ca]
    refine tv_for (z := 0) hd hK tv_V0 (fun e' d' dO' dA' dB' dC' hX => ?_)
    refine H e' d' dO' dA' dB' dC' ?_
    obtain ⟨x1, x2, x3, x4, x5, x6, x7⟩ := hX
    refine ⟨x1, x2, x3, x4, x5, fun i hi h4 => ?_, fun lf hl => ⟨(x7 lf hl).1, ?_⟩⟩
    · rcases x6 i hi h4 with h | h
      · exact Or.inl h
      · exact absurd h.1 (by decide)
    · rw [(x7 lf hl).2]
      dsimp only
      rw [tv_xs0 hl, tv_num hl (by omega) hK ha e]
  · refine tv_for (z := 0) hd hK ⟨10, by decide, rfl, fun z => absurd z (by decide), fun z => absurd z (by decide), fun _ => ⟨a, ha, rfl⟩, fun _ z => absurd rfl z, fun z => absurd z (by decide)⟩ (fun e' d' dO' dA' dB' dC' hX => ?_)
    refine H e' d' dO' dA' dB' dC' ?_
    obtain ⟨x1, x2, x3, x4, x5, x6, x7⟩ := hX
    refine ⟨x1, x2, x3, x4, x5, fun i hi h4 => ?_, fun lf hl => ⟨(x7 lf hl).1, ?_⟩⟩
    · rcases x6 i hi h4 with h | h
      · exact Or.inl h
      · exact absurd h.1 (by decide)
    · rw [(x7 lf hl).2]
      refine (ps_xs_10).trans ?_
      rw [ca]
theorem tv_picked {post : Int32 → SX → Prop} {s d a b c : Nat} (hd : d < 14) (hK : ps_CK s dO dA dB dC d) (ha : a < d) (hb : b < d) (hc : c < d) (H : ∀ (e d' : Nat) (dO' dA' dB' dC' : Nat → Int32), ps_DX s d 0 0 dO dA dB dC d' dO' dA' dB' dC' e (fun lf => if ps_xa lf dO dA dB dC d a ≤ 0 then ps_xa lf dO dA dB dC d c else ps_xa lf dO dA dB dC d b) → post (nI e) (tN, nI d', hN, sN, pN, pic, dO', dA', dB', dC', stk, spk, ren, len, op, aa, ab, ac, way, kep, kKn, few, fKn, fTg, gS, gX, gY, gA, val, spa)) : wpX_picked post (tN, nI d, hN, sN, pN, pic, dO, dA, dB, dC, stk, spk, ren, len, op, aa, ab, ac, way, kep, kKn, few, fKn, fTg, gS, gX, gY, gA, val, spa) (nI a) (nI b) (nI c) := by
  have ca : (nI a).toNatClampNeg = a := nI_clamp (by omega)
  have cb : (nI b).toNatClampNeg = b := nI_clamp (by omega)
  have cc : (nI c).toNatClampNeg = c := nI_clamp (by omega)
  have va : vp_in (nI a) 14 := vp_in_nI (by omega) (by decide)
  unfold wpX_picked
  dsimp only
  refine tv_isNum (by omega) (fun e => br_f (by decide) (And.intro va ?_)) (fun e => br_t rfl ?_)
  · rw [ca]
    refine br_c (fun z => H c d dO dA dB dC (tv_same hK hc (fun lf hl => ?_))) (fun z => H b d dO dA dB dC (tv_same hK hb (fun lf hl => ?_)))
    · rw [tv_num hl (by omega) hK ha e, if_pos z]
    · rw [tv_num hl (by omega) hK ha e, if_neg z]
  · refine br_c (fun z => H b d dO dA dB dC (tv_same hK hb (fun lf hl => ?_))) (fun z => ?_)
    · have : b = c := (nI_eq (by omega) (by omega)).mp z
      rw [this]; exact (ite_self _).symm
    · refine tv_for (z := 0) hd hK ⟨12, by decide, rfl, fun z => absurd z (by decide), fun z => absurd z (by decide), fun _ => ⟨a, ha, rfl⟩, fun _ _ => ⟨b, hb, rfl⟩, fun _ => ⟨c, hc, rfl⟩⟩ (fun e' d' dO' dA' dB' dC' hX => ?_)
      refine H e' d' dO' dA' dB' dC' ?_
      obtain ⟨x1, x2, x3, x4, x5, x6, x7⟩ := hX
      refine ⟨x1, x2, x3, x4, x5, fun i hi h4 => ?_, fun lf hl => ⟨(x7 lf hl).1, ?_⟩⟩
      · rcases x6 i hi h4 with h | h
        · exact Or.inl h
        · exact absurd h.1 (by decide)
      · rw [(x7 lf hl).2]
        refine (ps_xs_12).trans ?_
        rw [ca, cb, cc]
end TVY
/-! joining: rules of arithmetic -/
theorem tj_comm {q : Nat} (h : q = 5 ∨ q = 7 ∨ q = 8 ∨ q = 9) (x y : Int32) : ps_cb (nI q) x y = ps_cb (nI q) y x := by
  rcases h with rfl | rfl | rfl | rfl
  · show x + y = y + x; exact Int32.add_comm x y
  · show x * y = y * x; exact Int32.mul_comm x y
  · show (if y ≤ x then y else x) = (if x ≤ y then x else y)
    by_cases a : y ≤ x
    · by_cases b : x ≤ y
      · rw [if_pos a, if_pos b]; exact Int32.le_antisymm a b
      · rw [if_pos a, if_neg b]
    · have b : x ≤ y := by
        rw [Int32.le_iff_toInt_le] at a ⊢; omega
      rw [if_neg a, if_pos b]
  · show (if x ≤ y then y else x) = (if y ≤ x then x else y)
    by_cases a : y ≤ x
    · by_cases b : x ≤ y
      · rw [if_pos a, if_pos b]; exact Int32.le_antisymm a b
      · rw [if_pos a, if_neg b]
    · have b : x ≤ y := by
        rw [Int32.le_iff_toInt_le] at a ⊢; omega
      rw [if_neg a, if_pos b]
theorem tj_5r (x : Int32) : ps_cb (nI 5) x 0 = x := by show x + 0 = x; exact Int32.add_zero x
theorem tj_5l (x : Int32) : ps_cb (nI 5) 0 x = x := by show 0 + x = x; exact Int32.zero_add x
theorem tj_6r (x : Int32) : ps_cb (nI 6) x 0 = x := by show x - 0 = x; exact Int32.sub_zero x
theorem tj_6s (x : Int32) : ps_cb (nI 6) x x = 0 := by show x - x = 0; exact Int32.sub_self x
theorem tj_7r (x : Int32) : ps_cb (nI 7) x 1 = x := by show x * 1 = x; exact Int32.mul_one x
theorem tj_7l (x : Int32) : ps_cb (nI 7) 1 x = x := by show 1 * x = x; exact Int32.one_mul x
theorem tj_7z (x : Int32) : ps_cb (nI 7) 0 x = 0 := by show 0 * x = 0; exact Int32.zero_mul
theorem tj_7y (x : Int32) : ps_cb (nI 7) x 0 = 0 := by show x * 0 = 0; exact Int32.mul_zero
theorem tj_8s (x : Int32) : ps_cb (nI 8) x x = x := by show (if x ≤ x then x else x) = x; exact ite_self _
theorem tj_9s (x : Int32) : ps_cb (nI 9) x x = x := by show (if x ≤ x then x else x) = x; exact ite_self _
theorem tj_11s (x : Int32) : ps_cb (nI 11) x x = 0 := by show (if x ≤ x then (0 : Int32) else 1) = 0; exact if_pos (Int32.le_refl x)
end
section
/-! joining two values -/
section TJ
variable {tN dN hN sN pN : Int32} {pic dO dA dB dC stk spk ren len op aa ab ac way kep kKn few fKn fTg gS gX gY gA val spa : Nat → Int32}
/-- a number that the join is -/
theorem tj_n {post : Int32 → SX → Prop} {s d a b q : Nat} (hd : d < 14) (hK : ps_CK s dO dA dB dC d) (ha : a < d) (hb : b < d) (H : ∀ (e d' : Nat) (dO' dA' dB' dC' : Nat → Int32), ps_DX s d 0 0 dO dA dB dC d' dO' dA' dB' dC' e (fun lf => ps_cb (nI q) (ps_xa lf dO dA dB dC d a) (ps_xa lf dO dA dB dC d b)) → post (nI e) (tN, nI d', hN, sN, pN, pic, dO', dA', dB', dC', stk, spk, ren, len, op, aa, ab, ac, way, kep, kKn, few, fKn, fTg, gS, gX, gY, gA, val, spa)) {c : Int32} (hc : ∀ lf, ps_LF lf → ps_cb (nI q) (ps_xa lf dO dA dB dC d a) (ps_xa lf dO dA dB dC d b) = c) : wpX_valueFor post (tN, nI d, hN, sN, pN, pic, dO, dA, dB, dC, stk, spk, ren, len, op, aa, ab, ac, way, kep, kKn, few, fKn, fTg, gS, gX, gY, gA, val, spa) 0 c 0 0 := by
  refine tv_for (z := 0) hd hK tv_V0 (fun e' d' dO' dA' dB' dC' hX => H e' d' dO' dA' dB' dC' (tv_A (tv_T hX (fun lf hl => ?_))))
  rw [tv_xs0 hl]
  exact (hc lf hl).symm
theorem tj_a {post : Int32 → SX → Prop} {s d a b q : Nat} (hd : d < 14) (hK : ps_CK s dO dA dB dC d) (ha : a < d) (hb : b < d) (H : ∀ (e d' : Nat) (dO' dA' dB' dC' : Nat → Int32), ps_DX s d 0 0 dO dA dB dC d' dO' dA' dB' dC' e (fun lf => ps_cb (nI q) (ps_xa lf dO dA dB dC d a) (ps_xa lf dO dA dB dC d b)) → post (nI e) (tN, nI d', hN, sN, pN, pic, dO', dA', dB', dC', stk, spk, ren, len, op, aa, ab, ac, way, kep, kKn, few, fKn, fTg, gS, gX, gY, gA, val, spa)) (hc : ∀ lf, ps_LF lf → ps_cb (nI q) (ps_xa lf dO dA dB dC d a) (ps_xa lf dO dA dB dC d b) = ps_xa lf dO dA dB dC d a) : post (nI a) (tN, nI d, hN, sN, pN, pic, dO, dA, dB, dC, stk, spk, ren, len, op, aa, ab, ac, way, kep, kKn, few, fKn, fTg, gS, gX, gY, gA, val, spa) :=
  H a d dO dA dB dC (tv_same hK ha (fun lf hl => (hc lf hl).symm))
theorem tj_b {post : Int32 → SX → Prop} {s d a b q : Nat} (hd : d < 14) (hK : ps_CK s dO dA dB dC d) (ha : a < d) (hb : b < d) (H : ∀ (e d' : Nat) (dO' dA' dB' dC' : Nat → Int32), ps_DX s d 0 0 dO dA dB dC d' dO' dA' dB' dC' e (fun lf => ps_cb (nI q) (ps_xa lf dO dA dB dC d a) (ps_xa lf dO dA dB dC d b)) → post (nI e) (tN, nI d', hN, sN, pN, pic, dO', dA', dB', dC', stk, spk, ren, len, op, aa, ab, ac, way, kep, kKn, few, fKn, fTg, gS, gX, gY, gA, val, spa)) (hc : ∀ lf, ps_LF lf → ps_cb (nI q) (ps_xa lf dO dA dB dC d a) (ps_xa lf dO dA dB dC d b) = ps_xa lf dO dA dB dC d b) : post (nI b) (tN, nI d, hN, sN, pN, pic, dO, dA, dB, dC, stk, spk, ren, len, op, aa, ab, ac, way, kep, kKn, few, fKn, fTg, gS, gX, gY, gA, val, spa) :=
  H b d dO dA dB dC (tv_same hK hb (fun lf hl => (hc lf hl).symm))
theorem tj_v {post : Int32 → SX → Prop} {s d a b q : Nat} (hd : d < 14) (hK : ps_CK s dO dA dB dC d) (ha : a < d) (hb : b < d) (H : ∀ (e d' : Nat) (dO' dA' dB' dC' : Nat → Int32), ps_DX s d 0 0 dO dA dB dC d' dO' dA' dB' dC' e (fun lf => ps_cb (nI q) (ps_xa lf dO dA dB dC d a) (ps_xa lf dO dA dB dC d b)) → post (nI e) (tN, nI d', hN, sN, pN, pic, dO', dA', dB', dC', stk, spk, ren, len, op, aa, ab, ac, way, kep, kKn, few, fKn, fTg, gS, gX, gY, gA, val, spa)) (hq : q ≤ 12) (h5 : 5 ≤ q) (h10 : q ≠ 10) (h12 : q ≠ 12) : wpX_valueFor post (tN, nI d, hN, sN, pN, pic, dO, dA, dB, dC, stk, spk, ren, len, op, aa, ab, ac, way, kep, kKn, few, fKn, fTg, gS, gX, gY, gA, val, spa) (nI q) (nI a) (nI b) 0 := by
  refine tv_for (z := 0) hd hK ⟨q, hq, rfl, fun z => by omega, fun z => by omega, fun _ => ⟨a, ha, rfl⟩, fun _ _ => ⟨b, hb, rfl⟩, fun z => absurd z h12⟩ (fun e' d' dO' dA' dB' dC' hX => H e' d' dO' dA' dB' dC' (tv_A (tv_T hX (fun lf hl => ?_))))
  rw [ps_xs_2 hq h5 h10 h12, nI_clamp (by omega), nI_clamp (by omega)]
theorem tj_w {post : Int32 → SX → Prop} {s d a b q : Nat} (hd : d < 14) (hK : ps_CK s dO dA dB dC d) (ha : a < d) (hb : b < d) (H : ∀ (e d' : Nat) (dO' dA' dB' dC' : Nat → Int32), ps_DX s d 0 0 dO dA dB dC d' dO' dA' dB' dC' e (fun lf => ps_cb (nI q) (ps_xa lf dO dA dB dC d a) (ps_xa lf dO dA dB dC d b)) → post (nI e) (tN, nI d', hN, sN, pN, pic, dO', dA', dB', dC', stk, spk, ren, len, op, aa, ab, ac, way, kep, kKn, few, fKn, fTg, gS, gX, gY, gA, val, spa)) (hq : q = 5 ∨ q = 7 ∨ q = 8 ∨ q = 9) : wpX_valueFor post (tN, nI d, hN, sN, pN, pic, dO, dA, dB, dC, stk, spk, ren, len, op, aa, ab, ac, way, kep, kKn, few, fKn, fTg, gS, gX, gY, gA, val, spa) (nI q) (nI b) (nI a) 0 := by
  refine tj_v (q := q) hd hK hb ha (fun e' d' dO' dA' dB' dC' hX => H e' d' dO' dA' dB' dC' (tv_T hX (fun lf hl => ?_))) (by omega) (by omega) (by omega) (by omega)
  exact tj_comm hq _ _
theorem tj_185 {post : Int32 → SX → Prop} {s d a b q : Nat} (hd : d < 14) (hK : ps_CK s dO dA dB dC d) (ha : a < d) (hb : b < d) (H : ∀ (e d' : Nat) (dO' dA' dB' dC' : Nat → Int32), ps_DX s d 0 0 dO dA dB dC d' dO' dA' dB' dC' e (fun lf => ps_cb (nI q) (ps_xa lf dO dA dB dC d a) (ps_xa lf dO dA dB dC d b)) → post (nI e) (tN, nI d', hN, sN, pN, pic, dO', dA', dB', dC', stk, spk, ren, len, op, aa, ab, ac, way, kep, kKn, few, fKn, fTg, gS, gX, gY, gA, val, spa)) (hq : q = 5 ∨ q = 6 ∨ q = 7 ∨ q = 8 ∨ q = 9 ∨ q = 11) : wX_joined_185 post (nI q) (nI a) (nI b) tN (nI d) hN sN pN pic dO dA dB dC stk spk ren len op aa ab ac way kep kKn few fKn fTg gS gX gY gA val spa := by
  have V : wX_joined_202 post (nI q) (nI a) (nI b) tN (nI d) hN sN pN pic dO dA dB dC stk spk ren len op aa ab ac way kep kKn few fKn fTg gS gX gY gA val spa := br_f (by decide) (br_f (by decide) (tj_v hd hK ha hb H (by omega) (by omega) (by omega) (by omega)))
  by_cases h6 : nI q = 6
  · exact br_t h6 V
  refine br_f h6 ?_
  by_cases h11 : nI q = 11
  · exact br_t h11 V
  refine br_f h11 ?_
  by_cases hl : nI b < nI a
  · refine br_t hl (br_t rfl (br_t rfl (tj_w hd hK ha hb H ?_)))
    rcases hq with h | h | h | h | h | h
    · exact Or.inl h
    · rw [h] at h6; exact absurd (by decide) h6
    · exact Or.inr (Or.inl h)
    · exact Or.inr (Or.inr (Or.inl h))
    · exact Or.inr (Or.inr (Or.inr h))
    · rw [h] at h11; exact absurd (by decide) h11
  · exact br_f hl V
theorem tj_152 {post : Int32 → SX → Prop} {s d a b q : Nat} (hd : d < 14) (hK : ps_CK s dO dA dB dC d) (ha : a < d) (hb : b < d) (H : ∀ (e d' : Nat) (dO' dA' dB' dC' : Nat → Int32), ps_DX s d 0 0 dO dA dB dC d' dO' dA' dB' dC' e (fun lf => ps_cb (nI q) (ps_xa lf dO dA dB dC d a) (ps_xa lf dO dA dB dC d b)) → post (nI e) (tN, nI d', hN, sN, pN, pic, dO', dA', dB', dC', stk, spk, ren, len, op, aa, ab, ac, way, kep, kKn, few, fKn, fTg, gS, gX, gY, gA, val, spa)) (hq : q = 5 ∨ q = 6 ∨ q = 7 ∨ q = 8 ∨ q = 9 ∨ q = 11) : wX_joined_152 post (nI q) (nI a) (nI b) tN (nI d) hN sN pN pic dO dA dB dC stk spk ren len op aa ab ac way kep kKn few fKn fTg gS gX gY gA val spa := by
  have V := tj_185 hd hK ha hb H hq
  by_cases h7 : nI q = 7
  · obtain rfl : q = 7 := (nI_eq (b := 7) (by omega) (by decide)).mp h7
    refine br_t h7 (tv_this (by omega) (fun e1 e2 => br_f (by decide) (tj_n hd hK ha hb H (fun lf hl => ?_))) (br_t rfl (tv_this (by omega) (fun e1 e2 => br_f (by decide) (tj_n hd hK ha hb H (fun lf hl => ?_))) (br_t rfl V))))
    · rw [tv_num hl (by omega) hK ha e1, e2]; exact tj_7z _
    · rw [tv_num hl (by omega) hK hb e1, e2]; exact tj_7y _
  · exact br_f h7 V
theorem tj_135 {post : Int32 → SX → Prop} {s d a b q : Nat} (hd : d < 14) (hK : ps_CK s dO dA dB dC d) (ha : a < d) (hb : b < d) (H : ∀ (e d' : Nat) (dO' dA' dB' dC' : Nat → Int32), ps_DX s d 0 0 dO dA dB dC d' dO' dA' dB' dC' e (fun lf => ps_cb (nI q) (ps_xa lf dO dA dB dC d a) (ps_xa lf dO dA dB dC d b)) → post (nI e) (tN, nI d', hN, sN, pN, pic, dO', dA', dB', dC', stk, spk, ren, len, op, aa, ab, ac, way, kep, kKn, few, fKn, fTg, gS, gX, gY, gA, val, spa)) (hq : q = 5 ∨ q = 6 ∨ q = 7 ∨ q = 8 ∨ q = 9 ∨ q = 11) : wX_joined_135 post (nI q) (nI a) (nI b) tN (nI d) hN sN pN pic dO dA dB dC stk spk ren len op aa ab ac way kep kKn few fKn fTg gS gX gY gA val spa := by
  have V := tj_152 hd hK ha hb H hq
  by_cases h7 : nI q = 7
  · obtain rfl : q = 7 := (nI_eq (b := 7) (by omega) (by decide)).mp h7
    refine br_t h7 (tv_this (by omega) (fun e1 e2 => br_f (by decide) (tj_b hd hK ha hb H (fun lf hl => ?_))) (br_t rfl V))
    rw [tv_num hl (by omega) hK ha e1, e2]; exact tj_7l _
  · exact br_f h7 V
theorem tj_121 {post : Int32 → SX → Prop} {s d a b q : Nat} (hd : d < 14) (hK : ps_CK s dO dA dB dC d) (ha : a < d) (hb : b < d) (H : ∀ (e d' : Nat) (dO' dA' dB' dC' : Nat → Int32), ps_DX s d 0 0 dO dA dB dC d' dO' dA' dB' dC' e (fun lf => ps_cb (nI q) (ps_xa lf dO dA dB dC d a) (ps_xa lf dO dA dB dC d b)) → post (nI e) (tN, nI d', hN, sN, pN, pic, dO', dA', dB', dC', stk, spk, ren, len, op, aa, ab, ac, way, kep, kKn, few, fKn, fTg, gS, gX, gY, gA, val, spa)) (hq : q = 5 ∨ q = 6 ∨ q = 7 ∨ q = 8 ∨ q = 9 ∨ q = 11) : wX_joined_121 post (nI q) (nI a) (nI b) tN (nI d) hN sN pN pic dO dA dB dC stk spk ren len op aa ab ac way kep kKn few fKn fTg gS gX gY gA val spa := by
  have V := tj_135 hd hK ha hb H hq
  by_cases h5 : nI q = 5
  · obtain rfl : q = 5 := (nI_eq (b := 5) (by omega) (by decide)).mp h5
    refine br_t h5 (tv_this (by omega) (fun e1 e2 => br_f (by decide) (tj_b hd hK ha hb H (fun lf hl => ?_))) (br_t rfl V))
    rw [tv_num hl (by omega) hK ha e1, e2]; exact tj_5l _
  · exact br_f h5 V
theorem tj_104 {post : Int32 → SX → Prop} {s d a b q : Nat} (hd : d < 14) (hK : ps_CK s dO dA dB dC d) (ha : a < d) (hb : b < d) (H : ∀ (e d' : Nat) (dO' dA' dB' dC' : Nat → Int32), ps_DX s d 0 0 dO dA dB dC d' dO' dA' dB' dC' e (fun lf => ps_cb (nI q) (ps_xa lf dO dA dB dC d a) (ps_xa lf dO dA dB dC d b)) → post (nI e) (tN, nI d', hN, sN, pN, pic, dO', dA', dB', dC', stk, spk, ren, len, op, aa, ab, ac, way, kep, kKn, few, fKn, fTg, gS, gX, gY, gA, val, spa)) (hq : q = 5 ∨ q = 6 ∨ q = 7 ∨ q = 8 ∨ q = 9 ∨ q = 11) : wX_joined_104 post (nI q) (nI a) (nI b) tN (nI d) hN sN pN pic dO dA dB dC stk spk ren len op aa ab ac way kep kKn few fKn fTg gS gX gY gA val spa := by
  have V := tj_121 hd hK ha hb H hq
  by_cases h7 : nI q = 7
  · obtain rfl : q = 7 := (nI_eq (b := 7) (by omega) (by decide)).mp h7
    refine br_t h7 (tv_this (by omega) (fun e1 e2 => br_f (by decide) (tj_a hd hK ha hb H (fun lf hl => ?_))) (br_t rfl V))
    rw [tv_num hl (by omega) hK hb e1, e2]; exact tj_7r _
  · exact br_f h7 V
theorem tj_95 {post : Int32 → SX → Prop} {s d a b q : Nat} (hd : d < 14) (hK : ps_CK s dO dA dB dC d) (ha : a < d) (hb : b < d) (H : ∀ (e d' : Nat) (dO' dA' dB' dC' : Nat → Int32), ps_DX s d 0 0 dO dA dB dC d' dO' dA' dB' dC' e (fun lf => ps_cb (nI q) (ps_xa lf dO dA dB dC d a) (ps_xa lf dO dA dB dC d b)) → post (nI e) (tN, nI d', hN, sN, pN, pic, dO', dA', dB', dC', stk, spk, ren, len, op, aa, ab, ac, way, kep, kKn, few, fKn, fTg, gS, gX, gY, gA, val, spa)) (hq : q = 5 ∨ q = 6) : wX_joined_95 post (nI q) (nI a) (nI b) tN (nI d) hN sN pN pic dO dA dB dC stk spk ren len op aa ab ac way kep kKn few fKn fTg gS gX gY gA val spa := by
  have V := tj_104 hd hK ha hb H (by omega)
  unfold wX_joined_95
  refine tv_this (by omega) (fun e1 e2 => br_f (by decide) (tj_a hd hK ha hb H (fun lf hl => ?_))) (br_t rfl V)
  rw [tv_num hl (by omega) hK hb e1, e2]
  rcases hq with rfl | rfl
  · exact tj_5r _
  · exact tj_6r _
theorem tj_84 {post : Int32 → SX → Prop} {s d a b q : Nat} (hd : d < 14) (hK : ps_CK s dO dA dB dC d) (ha : a < d) (hb : b < d) (H : ∀ (e d' : Nat) (dO' dA' dB' dC' : Nat → Int32), ps_DX s d 0 0 dO dA dB dC d' dO' dA' dB' dC' e (fun lf => ps_cb (nI q) (ps_xa lf dO dA dB dC d a) (ps_xa lf dO dA dB dC d b)) → post (nI e) (tN, nI d', hN, sN, pN, pic, dO', dA', dB', dC', stk, spk, ren, len, op, aa, ab, ac, way, kep, kKn, few, fKn, fTg, gS, gX, gY, gA, val, spa)) (hq : q = 5 ∨ q = 6 ∨ q = 7 ∨ q = 8 ∨ q = 9 ∨ q = 11) : wX_joined_84 post (nI q) (nI a) (nI b) tN (nI d) hN sN pN pic dO dA dB dC stk spk ren len op aa ab ac way kep kKn few fKn fTg gS gX gY gA val spa := by
  have V := tj_104 hd hK ha hb H hq
  by_cases h5 : nI q = 5
  · obtain rfl : q = 5 := (nI_eq (b := 5) (by omega) (by decide)).mp h5
    exact br_t h5 (tj_95 hd hK ha hb H (Or.inl rfl))
  refine br_f h5 ?_
  by_cases h6 : nI q = 6
  · obtain rfl : q = 6 := (nI_eq (b := 6) (by omega) (by decide)).mp h6
    exact br_t h6 (tj_95 hd hK ha hb H (Or.inr rfl))
  exact br_f h6 V
theorem tj_44 {post : Int32 → SX → Prop} {s d a b q : Nat} (hd : d < 14) (hK : ps_CK s dO dA dB dC d) (ha : a < d) (hb : b < d) (H : ∀ (e d' : Nat) (dO' dA' dB' dC' : Nat → Int32), ps_DX s d 0 0 dO dA dB dC d' dO' dA' dB' dC' e (fun lf => ps_cb (nI q) (ps_xa lf dO dA dB dC d a) (ps_xa lf dO dA dB dC d b)) → post (nI e) (tN, nI d', hN, sN, pN, pic, dO', dA', dB', dC', stk, spk, ren, len, op, aa, ab, ac, way, kep, kKn, few, fKn, fTg, gS, gX, gY, gA, val, spa)) (hq : q = 5 ∨ q = 6 ∨ q = 7 ∨ q = 8 ∨ q = 9 ∨ q = 11) : wX_joined_44 post (nI q) (nI a) (nI b) tN (nI d) hN sN pN pic dO dA dB dC stk spk ren len op aa ab ac way kep kKn few fKn fTg gS gX gY gA val spa := by
  have V := tj_84 hd hK ha hb H hq
  by_cases he : nI a = nI b
  · have eab : a = b := (nI_eq (by omega) (by omega)).mp he
    refine br_t he ?_
    by_cases h8 : nI q = 8
    · obtain rfl : q = 8 := (nI_eq (b := 8) (by omega) (by decide)).mp h8
      exact br_t h8 (tj_a hd hK ha hb H (fun lf hl => by rw [← eab]; exact tj_8s _))
    refine br_f h8 ?_
    by_cases h9 : nI q = 9
    · obtain rfl : q = 9 := (nI_eq (b := 9) (by omega) (by decide)).mp h9
      exact br_t h9 (tj_a hd hK ha hb H (fun lf hl => by rw [← eab]; exact tj_9s _))
    refine br_f h9 ?_
    by_cases h6 : nI q = 6
    · obtain rfl : q = 6 := (nI_eq (b := 6) (by omega) (by decide)).mp h6
      exact br_t h6 (tj_n hd hK ha hb H (fun lf hl => by rw [← eab]; exact tj_6s _))
    refine br_f h6 ?_
    by_cases h11 : nI q = 11
    · obtain rfl : q = 11 := (nI_eq (b := 11) (by omega) (by decide)).mp h11
      exact br_t h11 (tj_n hd hK ha hb H (fun lf hl => by rw [← eab]; exact tj_11s _))
    exact br_f h11 V
  · exact br_f he V
theorem tj_joined {post : Int32 → SX → Prop} {s d a b q : Nat} (hd : d < 14) (hK : ps_CK s dO dA dB dC d) (ha : a < d) (hb : b < d) (H : ∀ (e d' : Nat) (dO' dA' dB' dC' : Nat → Int32), ps_DX s d 0 0 dO dA dB dC d' dO' dA' dB' dC' e (fun lf => ps_cb (nI q) (ps_xa lf dO dA dB dC d a) (ps_xa lf dO dA dB dC d b)) → post (nI e) (tN, nI d', hN, sN, pN, pic, dO', dA', dB', dC', stk, spk, ren, len, op, aa, ab, ac, way, kep, kKn, few, fKn, fTg, gS, gX, gY, gA, val, spa)) (hq : q = 5 ∨ q = 6 ∨ q = 7 ∨ q = 8 ∨ q = 9 ∨ q = 11) : wpX_joined post (tN, nI d, hN, sN, pN, pic, dO, dA, dB, dC, stk, spk, ren, len, op, aa, ab, ac, way, kep, kKn, few, fKn, fTg, gS, gX, gY, gA, val, spa) (nI q) (nI a) (nI b) := by
  have V := tj_44 hd hK ha hb H hq
  have ca : (nI a).toNatClampNeg = a := nI_clamp (by omega)
  have cb : (nI b).toNatClampNeg = b := nI_clamp (by omega)
  unfold wpX_joined
  dsimp only
  refine tv_isNum (by omega) (fun e1 => br_f (by decide) (tv_isNum (by omega) (fun e2 => br_f (by decide) ?_) (fun _ => br_t rfl V))) (fun _ => br_t rfl V)
  rw [ca, cb]
  refine And.intro (vp_in_nI (by omega) (by decide)) (And.intro (vp_in_nI (by omega) (by decide)) (xm_worked (tj_n hd hK ha hb H (fun lf hl => ?_))))
  rw [tv_num hl (by omega) hK ha e1, tv_num hl (by omega) hK hb e2]
end TJ
end
section
/-! one token more: the draft's relation -/
theorem tk_DR {s n h d z q e d' : Nat} {v : Int32} {ks ag ks' ag' dO dA dB dC stk spk dO' dA' dB' dC' spk' : Nat → Int32} (hD : ps_DR s n h d ks ag dO dA dB dC stk spk) (hs : s ≤ 5) (hn : n < 14) (hq : q ≤ 12) (h3 : q = 3 → ∃ r : Nat, r ≤ 8 ∧ v = nI r) (h4 : q = 4 → ∃ r : Nat, r < 9 * s ∧ v = nI r) (hz : q ≠ 4 → z = 0) (hz1 : z ≤ 1) (hle : ps_tk (nI q) ≤ h) (h6 : ps_tk (nI q) = 0 → h < 6) (ek : ∀ i, i < n → ks' i = ks i ∧ ag' i = ag i) (ekn : ks' n = nI q) (ean : ag' n = v) (hX : ps_DX s d z v dO dA dB dC d' dO' dA' dB' dC' e (fun lf => ps_sv lf (nI q) v (ps_sk lf ks ag n) (h - ps_tk (nI q)))) (hsp : ∀ k, k < 5 → (spk' k = 0 ↔ spk k = 0 ∧ ¬ (q = 4 ∧ v / 9 = nI k))) : ps_DR s (n + 1) (h - ps_tk (nI q) + 1) d' ks' ag' dO' dA' dB' dC' (upd stk (h - ps_tk (nI q)) (nI e)) spk' := by
  obtain ⟨d1, d2, d3, d4, dT, dK, d7, d8, d9, d10⟩ := hD
  obtain ⟨x1, x2, x3, x4, x5, x6, x7⟩ := hX
  have eht : ps_ht ks' n = h := (ps_ht_cg n (fun i hi => (ek i hi).1)).trans d4
  have etk : ps_tk (nI q) ≤ 3 := by
    rcases ps_q hq with rfl | rfl | rfl | rfl | rfl | rfl | rfl | rfl | rfl | rfl | rfl | rfl | rfl <;> decide
  have eht1 : ps_ht ks' (n + 1) = h - ps_tk (nI q) + 1 := by
    show ps_ht ks' n - ps_tk (ks' n) + 1 = _
    rw [eht, ekn]
  have tk4 : q = 4 → ps_tk (nI q) = 0 := fun z => ps_tk_lt (by omega)
  have h61 : h - ps_tk (nI q) + 1 ≤ 6 := by omega
  have esk : ∀ lf, ps_sk lf ks' ag' n = ps_sk lf ks ag n := fun lf => (ps_sk_cg n (fun i hi => (ek i hi).1) (fun i hi _ => by rw [(ek i hi).2])).1
  have esk1 : ∀ lf, ps_sk lf ks' ag' (n + 1) = upd (ps_sk lf ks ag n) (h - ps_tk (nI q)) (ps_sv lf (nI q) v (ps_sk lf ks ag n) (h - ps_tk (nI q))) := by
    intro lf
    show upd (ps_sk lf ks' ag' n) (ps_ht ks' n - ps_tk (ks' n)) (ps_sv lf (ks' n) (ag' n) (ps_sk lf ks' ag' n) (ps_ht ks' n - ps_tk (ks' n))) = _
    rw [esk, eht, ekn, ean]
  refine ⟨by omega, by omega, h61, eht1, ?_, x4, ?_, ?_, ?_, ?_⟩
  · intro i hi
    rcases Nat.lt_or_ge i n with hin | hin
    · exact ps_TK_cg dT ek i hin
    · obtain rfl : i = n := by omega
      rw [ekn, ean, eht, eht1]
      exact ⟨q, hq, rfl, h3, h4, hle, h61⟩
  · by_cases q4 : q = 4
    · have := tk4 q4; omega
    · have := hz q4; omega
  · intro i hi i4
    rcases x6 i hi i4 with ⟨i', hi', i4', ei'⟩ | ⟨z1, eA⟩
    · obtain ⟨j, hj, j4, ej⟩ := d8 i' hi' i4'
      exact ⟨j, by omega, by rw [(ek j hj).1]; exact j4, by rw [(ek j hj).2]; exact ej.trans ei'⟩
    · have q4 : q = 4 := by
        by_cases y : q = 4
        · exact y
        · have := hz y; omega
      exact ⟨n, by omega, by rw [ekn, q4]; rfl, by rw [ean]; exact eA.symm⟩
  · intro t ht
    by_cases et : t = h - ps_tk (nI q)
    · subst et
      refine ⟨e, x3, pk_us, fun lf hl => ?_⟩
      rw [(x7 lf hl).2, esk1, pk_us]
    · obtain ⟨a, ha, ea, ex⟩ := d9 t (by omega)
      refine ⟨a, by omega, by rw [pk_un et]; exact ea, fun lf hl => ?_⟩
      rw [(x7 lf hl).1 a ha, ex lf hl, esk1, pk_un et]
  · intro k hk
    rw [hsp k hk, d10 k hk]
    constructor
    · rintro ⟨a, b⟩ ⟨j, hj, j4, je⟩
      rcases Nat.lt_or_ge j n with hjn | hjn
      · rw [(ek j hjn).1] at j4
        rw [(ek j hjn).2] at je
        exact a ⟨j, hjn, j4, je⟩
      · obtain rfl : j = n := by omega
        rw [ekn] at j4
        rw [ean] at je
        exact b ⟨(ps_e4 hq).mp j4, je⟩
    · intro a
      refine ⟨fun ⟨j, hj, j4, je⟩ => a ⟨j, by omega, by rw [(ek j hj).1]; exact j4, by rw [(ek j hj).2]; exact je⟩, fun ⟨b, c⟩ => a ⟨n, by omega, by rw [ekn, b]; rfl, by rw [ean]; exact c⟩⟩
theorem tk_takenX {post : Int32 → Prop} {q : Nat} (hq : q ≤ 12) (h : post (nI (ps_tk (nI q)))) : wpX_taken post (nI q) := by
  rcases Nat.lt_or_ge q 5 with q5 | q5
  · rw [ps_tk_lt q5] at h
    exact br_f (nI_nlt (a := 4) (by omega) (by decide)) h
  · refine br_t (nI_lt (a := 4) (by omega) (by omega)) ?_
    by_cases q10 : q = 10
    · subst q10; exact br_t rfl h
    refine br_f (fun z => q10 ((ps_e10 hq).mp z)) ?_
    by_cases q12 : q = 12
    · subst q12; exact br_t rfl h
    rw [ps_tk_2 hq q5 q10 q12] at h
    exact br_f (fun z => q12 ((ps_e12 hq).mp z)) h
section TKY
variable {ySt yHt : Int32} {src siz kin arg wys ypi prt : Nat → Int32}
theorem tk_takenY {post : Int32 → Prop} {q : Nat} (hq : q ≤ 12) (h : post (nI (ps_tk (nI q)))) : wpY_taken post (ySt, yHt, src, siz, kin, arg, wys, ypi, prt) (nI q) := by
  rcases Nat.lt_or_ge q 5 with q5 | q5
  · rw [ps_tk_lt q5] at h
    exact br_f (nI_ge (b := 5) q5 (by decide)) h
  · refine br_t (nI_le (a := 5) q5 (by omega)) ?_
    by_cases q10 : q = 10
    · subst q10; exact br_t rfl h
    refine br_f (fun z => q10 ((ps_e10 hq).mp z)) ?_
    by_cases q12 : q = 12
    · subst q12; exact br_t rfl h
    rw [ps_tk_2 hq q5 q10 q12] at h
    exact br_f (fun z => q12 ((ps_e12 hq).mp z)) h
theorem tk_58 {post : Int32 → SY → Prop} {n h t : Nat} {x y : Int32} (hn : n < 14) (ht : t ≤ h) (h5 : siz 5 = nI n) (H : post (nI (h - t + 1)) (ySt, nI (h - t + 1), src, upd siz 5 (nI (n + 1)), upd kin (70 + n) x, upd arg (70 + n) y, wys, ypi, prt)) : wY_token_58 post x y (nI t) ySt (nI h) src siz kin arg wys ypi prt := by
  unfold wY_token_58
  have vn : vp_in (nI (70 + n)) 84 := vp_in_nI (by omega) (by decide)
  rw [h5, pl_i70, nI_clamp (by omega), nI_1, pk_sub ht, nI_1]
  exact And.intro vn (nm_e (And.intro vn (nm_e (nm_e (nm_e H)))))
end TKY
section TKX
variable {tN dN hN sN pN : Int32} {pic dO dA dB dC stk spk ren len op aa ab ac way kep kKn few fKn fTg gS gX gY gA val spa : Nat → Int32}
theorem tk_255 {post : Int32 → SX → Prop} {s q p : Nat} {v : Int32} (hs : s ≤ 5) (hq : q ≤ 12) (h4 : q = 4 → ∃ r : Nat, r < 9 * s ∧ v = nI r) (H4 : ∀ r : Nat, q = 4 → v = nI r → r < 9 * s → post (nI (p + 1)) (tN, dN, nI (p + 1), sN, pN, pic, dO, dA, dB, dC, stk, upd spk (r / 9) 1, ren, len, op, aa, ab, ac, way, kep, kKn, few, fKn, fTg, gS, gX, gY, gA, val, spa)) (Hn : q ≠ 4 → post (nI (p + 1)) (tN, dN, nI (p + 1), sN, pN, pic, dO, dA, dB, dC, stk, spk, ren, len, op, aa, ab, ac, way, kep, kKn, few, fKn, fTg, gS, gX, gY, gA, val, spa)) : wX_token_255 post (nI q) v tN dN (nI p) sN pN pic dO dA dB dC stk spk ren len op aa ab ac way kep kKn few fKn fTg gS gX gY gA val spa := by
  refine nm_r (nI_1 p) ?_
  by_cases q4 : q = 4
  · obtain ⟨r, hr, ev⟩ := h4 q4
    have e9 : v / 9 = nI (r / 9) := by rw [ev]; exact ps_d9 (by omega)
    have eb : vp_nar .boolean 1 = 1 := by decide
    refine br_t ((ps_e4 hq).mpr q4) (And.intro (by decide) ?_)
    rw [e9, nI_clamp (by omega), eb]
    exact And.intro (vp_in_nI (by omega) (by decide)) (nm_e (H4 r q4 ev hr))
  · exact br_f (fun z => q4 ((ps_e4 hq).mp z)) (Hn q4)
theorem tk_130 {post : Int32 → SX → Prop} {s d z q h : Nat} {v A : Int32} {S : (Int32 → Int32 → Int32) → Nat → Int32} (hd : d < 14) (hK : ps_CK s dO dA dB dC d) (hq : q < 5) (h6 : h < 6) (hV : ps_VK s d z (nI q) A 0 0) (hA : z = 1 → A = v) (hlf : ∀ lf, ps_LF lf → lf (nI q) A = lf (nI q) v) (H : ∀ (e d' : Nat) (dO' dA' dB' dC' : Nat → Int32), ps_DX s d z v dO dA dB dC d' dO' dA' dB' dC' e (fun lf => ps_sv lf (nI q) v (S lf) h) → wX_token_255 post (nI q) v tN (nI d') (nI h) sN pN pic dO' dA' dB' dC' (upd stk h (nI e)) spk ren len op aa ab ac way kep kKn few fKn fTg gS gX gY gA val spa) : wX_token_130 post (nI q) v A (nI q) (nI h) tN (nI d) (nI h) sN pN pic dO dA dB dC stk spk ren len op aa ab ac way kep kKn few fKn fTg gS gX gY gA val spa := by
  unfold wX_token_130
  refine tv_for (z := z) hd hK hV (fun e d' dO' dA' dB' dC' hX => ?_)
  dsimp only
  rw [nI_clamp (by omega)]
  refine And.intro (vp_in_nI h6 (by decide)) (nm_e (H e d' dO' dA' dB' dC' ?_))
  have hX' := tv_T (T' := fun lf => ps_sv lf (nI q) v (S lf) h) hX (fun lf hl => by rw [ps_xs_l hq, ps_sv_l hq]; exact hlf lf hl)
  obtain ⟨x1, x2, x3, x4, x5, x6, x7⟩ := hX'
  refine ⟨x1, x2, x3, x4, x5, fun i hi i4 => ?_, x7⟩
  rcases x6 i hi i4 with y | ⟨y1, y2⟩
  · exact Or.inl y
  · exact Or.inr ⟨y1, y2.trans (hA y1)⟩
theorem tk_65 {post : Int32 → SX → Prop} {s d z q n h : Nat} {v : Int32} {S : (Int32 → Int32 → Int32) → Nat → Int32} (hd : d < 14) (hK : ps_CK s dO dA dB dC d) (hq : q ≤ 12) (h3 : q = 3 → ∃ r : Nat, r ≤ 8 ∧ v = nI r) (h4 : q = 4 → z = 1 ∧ ∃ r : Nat, r < 9 * s ∧ v = nI r) (hz : q ≠ 4 → z = 0) (hh : h ≤ 6) (hle : ps_tk (nI q) ≤ h) (h6 : ps_tk (nI q) = 0 → h < 6) (hst : ∀ t, t < h → ∃ a, a < d ∧ stk t = nI a ∧ ∀ lf, ps_LF lf → ps_xa lf dO dA dB dC d a = S lf t) (H : ∀ (e d' : Nat) (dO' dA' dB' dC' : Nat → Int32), ps_DX s d z v dO dA dB dC d' dO' dA' dB' dC' e (fun lf => ps_sv lf (nI q) v (S lf) (h - ps_tk (nI q))) → wX_token_255 post (nI q) v (nI (n + 1)) (nI d') (nI (h - ps_tk (nI q))) sN pN pic dO' dA' dB' dC' (upd stk (h - ps_tk (nI q)) (nI e)) spk ren len op aa ab ac way kep kKn few fKn fTg gS gX gY gA val spa) : wX_token_65 post (nI q) v (nI (ps_tk (nI q))) (nI n) (nI d) (nI h) sN pN pic dO dA dB dC stk spk ren len op aa ab ac way kep kKn few fKn fTg gS gX gY gA val spa := by
  refine nm_r (nI_1 n) (nm_r (pk_sub hle) ?_)
  rcases Nat.lt_or_ge q 5 with q5 | q5
  · rw [ps_tk_lt q5] at H h6 ⊢
    refine br_t rfl ?_
    have h6' := h6 rfl
    rcases (by omega : q = 0 ∨ q = 1 ∨ q = 2 ∨ q = 3 ∨ q = 4) with rfl | rfl | rfl | rfl | rfl
    · refine br_t rfl (br_f (by decide) (tk_130 (S := S) hd hK (by decide) h6' ⟨0, by decide, rfl, fun z => absurd z (by decide), fun z => absurd z (by decide), fun z => absurd z (by decide), fun z => absurd z (by decide), fun z => absurd z (by decide)⟩ (fun _ => rfl) (fun _ _ => rfl) H))
    · refine br_f (by decide) (br_f (by decide) (br_f (by decide) (br_t rfl (tk_130 (S := S) hd hK (by decide) h6' ⟨1, by decide, rfl, fun z => absurd z (by decide), fun z => absurd z (by decide), fun z => absurd z (by decide), fun z => absurd z (by decide), fun z => absurd z (by decide)⟩ (fun y => absurd ((hz (by decide)).symm.trans y) (by decide)) (fun lf hl => (hl.2.1 v).symm) H))))
    · refine br_f (by decide) (br_f (by decide) (br_f (by decide) (br_t rfl (tk_130 (S := S) hd hK (by decide) h6' ⟨2, by decide, rfl, fun z => absurd z (by decide), fun z => absurd z (by decide), fun z => absurd z (by decide), fun z => absurd z (by decide), fun z => absurd z (by decide)⟩ (fun y => absurd ((hz (by decide)).symm.trans y) (by decide)) (fun lf hl => (hl.2.2 v).symm) H))))
    · refine br_f (by decide) (br_t rfl (br_f (by decide) (tk_130 (S := S) hd hK (by decide) h6' ⟨3, by decide, rfl, h3, fun z => absurd z (by decide), fun z => absurd z (by decide), fun z => absurd z (by decide), fun z => absurd z (by decide)⟩ (fun _ => rfl) (fun _ _ => rfl) H)))
    · refine br_f (by decide) (br_f (by decide) (br_t rfl (br_f (by decide) (tk_130 (S := S) hd hK (by decide) h6' ⟨4, by decide, rfl, fun z => absurd z (by decide), h4, fun z => absurd z (by decide), fun z => absurd z (by decide), fun z => absurd z (by decide)⟩ (fun _ => rfl) (fun _ _ => rfl) H))))
  · obtain rfl : z = 0 := hz (by omega)
    by_cases q10 : q = 10
    · subst q10
      rw [ps_tk_10] at H hle ⊢
      obtain ⟨a, ha, ea, ex⟩ := hst (h - 1) (by omega)
      have cp : (nI (h - 1)).toNatClampNeg = h - 1 := nI_clamp (by omega)
      have vp : vp_in (nI (h - 1)) 6 := vp_in_nI (by omega) (by decide)
      refine br_f (by decide) (br_t rfl (And.intro vp ?_))
      rw [cp, ea]
      refine tv_halved hd hK ha (fun e d' dO' dA' dB' dC' hX => And.intro vp (nm_e (H e d' dO' dA' dB' dC' (tv_A (tv_T hX (fun lf hl => ?_))))))
      rw [ps_sv_10, ex lf hl]
    · by_cases q12 : q = 12
      · subst q12
        rw [ps_tk_12] at H hle ⊢
        obtain ⟨a, ha, ea, ex⟩ := hst (h - 3) (by omega)
        obtain ⟨b, hb, eb, ey⟩ := hst (h - 3 + 1) (by omega)
        obtain ⟨c, hc, ec, ez⟩ := hst (h - 3 + 2) (by omega)
        have cp : (nI (h - 3)).toNatClampNeg = h - 3 := nI_clamp (by omega)
        have vp : vp_in (nI (h - 3)) 6 := vp_in_nI (by omega) (by decide)
        refine br_f (by decide) (br_f (by decide) (br_f (by decide) ?_))
        rw [nI_1, show nI (h - 3) + 2 = nI (h - 3 + 2) from nI_add (h - 3) 2, cp, nI_clamp (n := h - 3 + 1) (by omega), nI_clamp (n := h - 3 + 2) (by omega), ea, eb, ec]
        refine And.intro vp (And.intro (vp_in_nI (by omega) (by decide)) (And.intro (vp_in_nI (by omega) (by decide)) ?_))
        refine tv_picked hd hK ha hb hc (fun e d' dO' dA' dB' dC' hX => And.intro vp (nm_e (H e d' dO' dA' dB' dC' (tv_A (tv_T hX (fun lf hl => ?_))))))
        rw [ps_sv_12, ex lf hl, ey lf hl, ez lf hl]
      · rw [ps_tk_2 hq q5 q10 q12] at H hle ⊢
        obtain ⟨a, ha, ea, ex⟩ := hst (h - 2) (by omega)
        obtain ⟨b, hb, eb, ey⟩ := hst (h - 2 + 1) (by omega)
        have cp : (nI (h - 2)).toNatClampNeg = h - 2 := nI_clamp (by omega)
        have vp : vp_in (nI (h - 2)) 6 := vp_in_nI (by omega) (by decide)
        refine br_f (by decide) (br_f (by decide) (br_t rfl ?_))
        rw [nI_1, cp, nI_clamp (n := h - 2 + 1) (by omega), ea, eb]
        refine And.intro vp (And.intro (vp_in_nI (by omega) (by decide)) ?_)
        refine tj_joined (q := q) hd hK ha hb (fun e d' dO' dA' dB' dC' hX => And.intro vp (nm_e (H e d' dO' dA' dB' dC' (tv_A (tv_T hX (fun lf hl => ?_)))))) (by omega)
        rw [ps_sv_2 hq q5 q10 q12, ex lf hl, ey lf hl]
end TKX
end
section
/-! which tokens are taken -/
section TKV
variable {tN dN hN sN pN : Int32} {pic dO dA dB dC stk spk ren len op aa ab ac way kep kKn few fKn fTg gS gX gY gA val spa : Nat → Int32}
theorem tw_valid {yHt : Int32} {src siz kin arg wys ypi prt : Nat → Int32} {s : Nat} (hs : s ≤ 5) (x y : Int32) : ((∀ post : Int32 → SX → Prop, post (-1) (tN, dN, hN, nI s, pN, pic, dO, dA, dB, dC, stk, spk, ren, len, op, aa, ab, ac, way, kep, kKn, few, fKn, fTg, gS, gX, gY, gA, val, spa) → wpX_token post (tN, dN, hN, nI s, pN, pic, dO, dA, dB, dC, stk, spk, ren, len, op, aa, ab, ac, way, kep, kKn, few, fKn, fTg, gS, gX, gY, gA, val, spa) x y) ∧ (∀ post : Int32 → Prop, post 0 → wpY_isToken post (nI s, yHt, src, siz, kin, arg, wys, ypi, prt) x y)) ∨ (∃ q : Nat, q ≤ 12 ∧ x = nI q ∧ (q = 3 → ∃ r : Nat, r ≤ 8 ∧ y = nI r) ∧ (q = 4 → ∃ r : Nat, r < 9 * s ∧ y = nI r) ∧ (∀ post : Int32 → Prop, post 1 → wpX_fits post (tN, dN, hN, nI s, pN, pic, dO, dA, dB, dC, stk, spk, ren, len, op, aa, ab, ac, way, kep, kKn, few, fKn, fTg, gS, gX, gY, gA, val, spa) x y) ∧ (∀ post : Int32 → Prop, post 1 → wpY_isToken post (nI s, yHt, src, siz, kin, arg, wys, ypi, prt) x y)) := by
  by_cases a : x < 0
  · refine Or.inl ⟨fun _ h => br_t a h, fun _ h => ?_⟩
    have a1 : x < 1 := by
      rw [Int32.lt_iff_toInt_lt] at a ⊢
      have : (0 : Int32).toInt = 0 := by decide
      have : (1 : Int32).toInt = 1 := by decide
      omega
    exact br_f (fun z => by rw [z] at a; exact absurd a (by decide)) (br_f (fun z => by rw [z] at a; exact absurd a (by decide)) (br_f (fun z => by rw [z] at a; exact absurd a (by decide)) (br_t a1 h)))
  by_cases b : 12 < x
  · refine Or.inl ⟨fun _ h => br_f a (br_t b h), fun _ h => ?_⟩
    have b1 : ¬ x < 1 := by
      rw [Int32.lt_iff_toInt_lt] at b ⊢
      have : (12 : Int32).toInt = 12 := by decide
      have : (1 : Int32).toInt = 1 := by decide
      omega
    exact br_f (fun z => by rw [z] at b; exact absurd b (by decide)) (br_f (fun z => by rw [z] at b; exact absurd b (by decide)) (br_f (fun z => by rw [z] at b; exact absurd b (by decide)) (br_f b1 (br_t b h))))
  obtain ⟨q, hq', rfl⟩ := nI_of a
  have hq : q ≤ 12 := Nat.le_of_not_lt (fun z => b (nI_lt (a := 12) z hq'))
  have inv : (∀ post : Int32 → Prop, post 0 → wpX_fits post (tN, dN, hN, nI s, pN, pic, dO, dA, dB, dC, stk, spk, ren, len, op, aa, ab, ac, way, kep, kKn, few, fKn, fTg, gS, gX, gY, gA, val, spa) (nI q) y) → (∀ post : Int32 → SX → Prop, post (-1) (tN, dN, hN, nI s, pN, pic, dO, dA, dB, dC, stk, spk, ren, len, op, aa, ab, ac, way, kep, kKn, few, fKn, fTg, gS, gX, gY, gA, val, spa) → wpX_token post (tN, dN, hN, nI s, pN, pic, dO, dA, dB, dC, stk, spk, ren, len, op, aa, ab, ac, way, kep, kKn, few, fKn, fTg, gS, gX, gY, gA, val, spa) (nI q) y) := by
    intro hf post hp
    exact br_f a (br_f b (hf _ (br_t rfl hp)))
  rcases Nat.lt_or_ge q 5 with q5 | q5
  · rcases (by omega : q = 0 ∨ q = 1 ∨ q = 2 ∨ q = 3 ∨ q = 4) with rfl | rfl | rfl | rfl | rfl
    · by_cases c : y < -99
      · exact Or.inl ⟨inv (fun _ h => br_f a (br_f (by decide) (br_t rfl (br_t c h)))), fun _ h => br_t rfl (br_t c h)⟩
      by_cases d : 99 < y
      · exact Or.inl ⟨inv (fun _ h => br_f a (br_f (by decide) (br_t rfl (br_f c (br_t d h))))), fun _ h => br_t rfl (br_f c (br_t d h))⟩
      exact Or.inr ⟨0, hq, rfl, fun z => absurd z (by decide), fun z => absurd z (by decide), fun _ h => br_f a (br_f (by decide) (br_t rfl (br_f c (br_f d h)))), fun _ h => br_t rfl (br_f c (br_f d h))⟩
    · exact Or.inr ⟨1, hq, rfl, fun z => absurd z (by decide), fun z => absurd z (by decide), fun _ h => br_f a (br_f (by decide) (br_f (by decide) (br_t rfl h))), fun _ h => br_f (by decide) (br_f (by decide) (br_f (by decide) (br_f (by decide) (br_f b h))))⟩
    · exact Or.inr ⟨2, hq, rfl, fun z => absurd z (by decide), fun z => absurd z (by decide), fun _ h => br_f a (br_f (by decide) (br_f (by decide) (br_f (by decide) (br_t rfl h)))), fun _ h => br_f (by decide) (br_f (by decide) (br_f (by decide) (br_f (by decide) (br_f b h))))⟩
    · by_cases c : y < 0
      · exact Or.inl ⟨inv (fun _ h => br_f a (br_f (by decide) (br_f (by decide) (br_f (by decide) (br_f (by decide) (br_t rfl (br_t c h))))))), fun _ h => br_f (by decide) (br_t rfl (br_t c h))⟩
      by_cases d : 8 < y
      · exact Or.inl ⟨inv (fun _ h => br_f a (br_f (by decide) (br_f (by decide) (br_f (by decide) (br_f (by decide) (br_t rfl (br_f c (br_t d h)))))))), fun _ h => br_f (by decide) (br_t rfl (br_f c (br_t d h)))⟩
      refine Or.inr ⟨3, hq, rfl, fun _ => ?_, fun z => absurd z (by decide), fun _ h => br_f a (br_f (by decide) (br_f (by decide) (br_f (by decide) (br_f (by decide) (br_t rfl (br_f c (br_f d h))))))), fun _ h => br_f (by decide) (br_t rfl (br_f c (br_f d h)))⟩
      obtain ⟨r, hr, rfl⟩ := nI_of c
      exact ⟨r, Nat.le_of_not_lt (fun z => d (nI_lt (a := 8) z hr)), rfl⟩
    · by_cases c : y < 0
      · exact Or.inl ⟨inv (fun _ h => br_f a (br_f (by decide) (br_f (by decide) (br_f (by decide) (br_f (by decide) (br_f (by decide) (br_t rfl (br_t c h)))))))), fun _ h => br_f (by decide) (br_f (by decide) (br_t rfl (br_t c h)))⟩
      obtain ⟨r, hr, rfl⟩ := nI_of c
      have e9 : 9 * nI s = nI (9 * s) := pk_mul 9 s
      have e9' : nI r / 9 = nI (r / 9) := ps_d9 hr
      by_cases d : 9 * s ≤ r
      · have d1 : 9 * nI s ≤ nI r := by rw [e9]; exact nI_le d hr
        have d2 : nI s ≤ nI r / 9 := by rw [e9']; exact nI_le (by omega) (by omega)
        exact Or.inl ⟨inv (fun _ h => br_f a (br_f (by decide) (br_f (by decide) (br_f (by decide) (br_f (by decide) (br_f (by decide) (br_t rfl (br_f c (br_t d1 h))))))))), fun _ h => br_f (by decide) (br_f (by decide) (br_t rfl (br_f c (And.intro (by decide) (br_t d2 h)))))⟩
      · have d1 : ¬ 9 * nI s ≤ nI r := by rw [e9]; exact nI_ge (by omega) (by omega)
        have d2 : ¬ nI s ≤ nI r / 9 := by rw [e9']; exact nI_ge (by omega) (by omega)
        exact Or.inr ⟨4, hq, rfl, fun z => absurd z (by decide), fun _ => ⟨r, by omega, rfl⟩, fun _ h => br_f a (br_f (by decide) (br_f (by decide) (br_f (by decide) (br_f (by decide) (br_f (by decide) (br_t rfl (br_f c (br_f d1 h)))))))), fun _ h => br_f (by decide) (br_f (by decide) (br_t rfl (br_f c (And.intro (by decide) (br_f d2 h)))))⟩
  · have p4 : 4 < nI q := nI_lt (a := 4) (by omega) (by omega)
    have n0 : ¬ nI q = 0 := fun z => by have := (nI_eq (b := 0) (by omega) (by decide)).mp z; omega
    have n3 : ¬ nI q = 3 := fun z => by have := (nI_eq (b := 3) (by omega) (by decide)).mp z; omega
    have n4 : ¬ nI q = 4 := fun z => by have := (nI_eq (b := 4) (by omega) (by decide)).mp z; omega
    have n1 : ¬ nI q < 1 := nI_nlt (b := 1) (by omega) (by omega)
    exact Or.inr ⟨q, hq, rfl, fun z => by omega, fun z => by omega, fun _ h => br_f a (br_t p4 h), fun _ h => br_f n0 (br_f n3 (br_f n4 (br_f n1 (br_f b h))))⟩
end TKV
theorem tw_shu {f : Nat → Int32} {n : Nat} {v : Int32} : ∀ i, i < n → ps_sh (upd f (70 + n) v) 70 i = ps_sh f 70 i := by
  intro i hi
  show upd f (70 + n) v (70 + i) = f (70 + i)
  rw [pk_un (by omega)]
theorem tw_shn {f : Nat → Int32} {n : Nat} {v : Int32} : ps_sh (upd f (70 + n) v) 70 n = v := pk_us
theorem i_vc_token {k : Nat} {u : SX} {v : SY} (I : i_Rel k u v) (hk : k + 4 ≤ 2048) (v1 : Int32) (v2 : Int32) : wpX_token (fun r u' => wpY_token (fun r' v' => r' = r ∧ i_Rel (k + 4) u' v') v v1 v2) u v1 v2 := by
  refine zz_el (P := fun u v => wpX_token (fun r u' => wpY_token (fun r' v' => r' = r ∧ i_Rel (k + 4) u' v') v v1 v2) u v1 v2) I ?_
  intro s n h d pN pic dO dA dB dC stk spk ren len op aa ab ac way kep kKn few fKn fTg gS gX gY gA val spa siz kin arg wys ypi prt hR
  have hs := hR.1
  have h5 := hR.2.1
  have hD := hR.2.2.2.1
  obtain ⟨d1, d2, d3, d4, dT, dK, d7, d8, d9, d10⟩ := id hD
  rcases tw_valid (tN := nI n) (dN := nI d) (hN := nI h) (pN := pN) (pic := pic) (dO := dO) (dA := dA) (dB := dB) (dC := dC) (stk := stk) (spk := spk) (ren := ren) (len := len) (op := op) (aa := aa) (ab := ab) (ac := ac) (way := way) (kep := kep) (kKn := kKn) (few := few) (fKn := fKn) (fTg := fTg) (gS := gS) (gX := gX) (gY := gY) (gA := gA) (val := val) (spa := spa) (yHt := nI h) (src := pic) (siz := siz) (kin := kin) (arg := arg) (wys := wys) (ypi := ypi) (prt := prt) hs v1 v2 with ⟨hX, hY⟩ | ⟨q, hq, rfl, h3, h4, hX, hY⟩
  · refine hX _ ?_
    unfold wpY_token
    dsimp only
    exact hY _ (br_t rfl ⟨rfl, zz_in hR⟩)
  -- the reference, behind its check
  have toY : ∀ post : Int32 → SY → Prop, (n = 14 → post (-2) (nI s, nI h, pic, siz, kin, arg, wys, ypi, prt)) → (n < 14 → h < ps_tk (nI q) → post (-3) (nI s, nI h, pic, siz, kin, arg, wys, ypi, prt)) → (n < 14 → ps_tk (nI q) = 0 → h = 6 → post (-4) (nI s, nI h, pic, siz, kin, arg, wys, ypi, prt)) → (n < 14 → ps_tk (nI q) ≤ h → (ps_tk (nI q) = 0 → h < 6) → wY_token_58 post (nI q) v2 (nI (ps_tk (nI q))) (nI s) (nI h) pic siz kin arg wys ypi prt) → wpY_token post (nI s, nI h, pic, siz, kin, arg, wys, ypi, prt) (nI q) v2 := by
    intro post p2 p3 p4 pg
    unfold wpY_token
    dsimp only
    refine hY _ (br_f (by decide) ?_)
    by_cases c : n = 14
    · exact br_t (by rw [h5, c]; rfl) (p2 c)
    refine br_f (fun z => c ((nI_eq (b := 14) (by omega) (by decide)).mp (h5 ▸ z))) (tk_takenY hq ?_)
    by_cases e : ps_tk (nI q) ≤ h
    · refine br_t (nI_le e (by omega)) ?_
      by_cases t0 : ps_tk (nI q) = 0
      · refine br_t (by rw [t0]; rfl) ?_
        by_cases h6 : h = 6
        · exact br_t (by rw [h6]; rfl) (p4 (by omega) t0 h6)
        · exact br_f (fun z => h6 ((nI_eq (b := 6) (by omega) (by decide)).mp z)) (pg (by omega) e (fun _ => by omega))
      · refine br_f (nI_ne0 (by omega) (by omega)) (pg (by omega) e (fun z => absurd z t0))
    · refine br_f (nI_ge (by omega) ?_) (p3 (by omega) (by omega))
      rcases ps_q hq with rfl | rfl | rfl | rfl | rfl | rfl | rfl | rfl | rfl | rfl | rfl | rfl | rfl <;> decide
  have toX : ∀ post : Int32 → SX → Prop, (n = 14 → post (-2) (nI n, nI d, nI h, nI s, pN, pic, dO, dA, dB, dC, stk, spk, ren, len, op, aa, ab, ac, way, kep, kKn, few, fKn, fTg, gS, gX, gY, gA, val, spa)) → (n < 14 → h < ps_tk (nI q) → post (-3) (nI n, nI d, nI h, nI s, pN, pic, dO, dA, dB, dC, stk, spk, ren, len, op, aa, ab, ac, way, kep, kKn, few, fKn, fTg, gS, gX, gY, gA, val, spa)) → (n < 14 → ps_tk (nI q) = 0 → h = 6 → post (-4) (nI n, nI d, nI h, nI s, pN, pic, dO, dA, dB, dC, stk, spk, ren, len, op, aa, ab, ac, way, kep, kKn, few, fKn, fTg, gS, gX, gY, gA, val, spa)) → (n < 14 → ps_tk (nI q) ≤ h → (ps_tk (nI q) = 0 → h < 6) → wX_token_65 post (nI q) v2 (nI (ps_tk (nI q))) (nI n) (nI d) (nI h) (nI s) pN pic dO dA dB dC stk spk ren len op aa ab ac way kep kKn few fKn fTg gS gX gY gA val spa) → wpX_token post (nI n, nI d, nI h, nI s, pN, pic, dO, dA, dB, dC, stk, spk, ren, len, op, aa, ab, ac, way, kep, kKn, few, fKn, fTg, gS, gX, gY, gA, val, spa) (nI q) v2 := by
    intro post p2 p3 p4 pg
    unfold wpX_token
    dsimp only
    refine br_f (nI_pos (by omega)) (br_f (nI_nlt (a := 12) hq (by decide)) (hX _ (br_f (by decide) ?_)))
    by_cases c : n = 14
    · exact br_f (by rw [c]; decide) (p2 c)
    refine br_t (nI_lt (b := 14) (by omega) (by decide)) (tk_takenX hq ?_)
    by_cases e : ps_tk (nI q) ≤ h
    · refine br_t (nI_le e (by omega)) ?_
      by_cases t0 : ps_tk (nI q) = 0
      · refine br_t (by rw [t0]; rfl) ?_
        by_cases h6 : h = 6
        · exact br_f (by rw [h6]; decide) (p4 (by omega) t0 h6)
        · exact br_t (nI_lt (b := 6) (by omega) (by decide)) (pg (by omega) e (fun _ => by omega))
      · refine br_f (nI_ne0 (by omega) (by omega)) (pg (by omega) e (fun z => absurd z t0))
    · refine br_f (nI_ge (by omega) ?_) (p3 (by omega) (by omega))
      rcases ps_q hq with rfl | rfl | rfl | rfl | rfl | rfl | rfl | rfl | rfl | rfl | rfl | rfl | rfl <;> decide
  refine toX _ (fun c => ?_) (fun c1 c2 => ?_) (fun c1 c2 c3 => ?_) (fun c1 c2 c3 => ?_)
  · exact toY _ (fun _ => ⟨rfl, zz_in hR⟩) (fun z => by omega) (fun z => by omega) (fun z => by omega)
  · exact toY _ (fun z => by omega) (fun _ _ => ⟨rfl, zz_in hR⟩) (fun _ z => by omega) (fun _ z => by omega)
  · exact toY _ (fun z => by omega) (fun _ z => by omega) (fun _ _ _ => ⟨rfl, zz_in hR⟩) (fun _ _ z => by have := z c2; omega)
  · obtain ⟨z, hz4, hz⟩ : ∃ z : Nat, (q = 4 → z = 1) ∧ (q ≠ 4 → z = 0) := by
      by_cases y : q = 4
      · exact ⟨1, fun _ => rfl, fun w => absurd y w⟩
      · exact ⟨0, fun w => absurd w y, fun _ => rfl⟩
    have hz1 : z ≤ 1 := by
      by_cases y : q = 4
      · rw [hz4 y]; exact Nat.le_refl _
      · rw [hz y]; decide
    refine tk_65 (z := z) (S := fun lf => ps_sk lf (ps_sh kin 70) (ps_sh arg 70) n) (by omega) dK hq h3 (fun y => ⟨hz4 y, h4 y⟩) hz d3 c2 c3 d9 (fun e d' dO' dA' dB' dC' hX => ?_)
    have fin : ∀ spk' : Nat → Int32, (∀ k, k < 5 → (spk' k = 0 ↔ spk k = 0 ∧ ¬ (q = 4 ∧ v2 / 9 = nI k))) → wpY_token (fun r' v' => r' = nI (h - ps_tk (nI q) + 1) ∧ i_Rel (k + 4) (nI (n + 1), nI d', nI (h - ps_tk (nI q) + 1), nI s, pN, pic, dO', dA', dB', dC', upd stk (h - ps_tk (nI q)) (nI e), spk', ren, len, op, aa, ab, ac, way, kep, kKn, few, fKn, fTg, gS, gX, gY, gA, val, spa) v') (nI s, nI h, pic, siz, kin, arg, wys, ypi, prt) (nI q) v2 := by
      intro spk' hsp
      refine toY _ (fun w => by omega) (fun _ w => by omega) (fun _ w w' => by have := c3 w; omega) (fun _ _ _ => tk_58 c1 c2 h5 ⟨rfl, zz_in ?_⟩)
      refine zz_D hR (fun j hj => pk_un (by omega)) (fun i hi => ⟨pk_un (by omega), pk_un (by omega)⟩) pk_us ?_
      exact tk_DR hD hs c1 hq h3 h4 hz hz1 c2 c3 (fun i hi => ⟨tw_shu i hi, tw_shu i hi⟩) tw_shn tw_shn hX hsp
    refine tk_255 hs hq h4 (fun r q4 ev hr => fin _ (fun j hj => ?_)) (fun q4 => fin _ (fun j hj => ?_))
    · rw [ev, ps_d9 (by omega)]
      by_cases ej : j = r / 9
      · rw [ej, pk_us]
        exact ⟨fun w => absurd w (by decide), fun w => absurd ⟨q4, rfl⟩ w.2⟩
      · rw [pk_un ej]
        exact ⟨fun w => ⟨w, fun y => ej ((nI_eq (by omega) (by omega)).mp y.2).symm⟩, fun w => w.1⟩
    · exact ⟨fun w => ⟨w, fun y => q4 y.1⟩, fun w => w.1⟩
end
section
/-! a stage is made: which values are needed -/
def ps_CL (dO dA dB dC ren : Nat → Int32) (j : Nat) : Prop := (0 < ps_tk (dO j) → ren (dA j).toNatClampNeg = 0) ∧ (1 < ps_tk (dO j) → ren (dB j).toNatClampNeg = 0) ∧ (2 < ps_tk (dO j) → ren (dC j).toNatClampNeg = 0)
def ps_NI (root : Nat) (dO dA dB dC : Nat → Int32) (m : Nat) (ren : Nat → Int32) : Prop := (∀ j, j < 14 → ren j = 0 ∨ ren j = -1) ∧ ren root = 0 ∧ ∀ j, m ≤ j → j ≤ root → ren j = 0 → ps_CL dO dA dB dC ren j
/-- what a value takes -/
theorem sg_ops {s d i : Nat} {dO dA dB dC : Nat → Int32} (hK : ps_CK s dO dA dB dC d) (hi : i < d) : ps_tk (dO i) ≤ 3 ∧ (0 < ps_tk (dO i) → ∃ r : Nat, r < i ∧ dA i = nI r) ∧ (1 < ps_tk (dO i) → ∃ r : Nat, r < i ∧ dB i = nI r) ∧ (2 < ps_tk (dO i) → ∃ r : Nat, r < i ∧ dC i = nI r) := by
  obtain ⟨q, hq, e, _, _, hA, hB, hC⟩ := hK i hi
  rw [e]
  rcases Nat.lt_or_ge q 5 with q5 | q5
  · rw [ps_tk_lt q5]
    exact ⟨by omega, fun z => by omega, fun z => by omega, fun z => by omega⟩
  by_cases q10 : q = 10
  · subst q10
    rw [ps_tk_10]
    exact ⟨by omega, fun _ => hA q5, fun z => by omega, fun z => by omega⟩
  by_cases q12 : q = 12
  · subst q12
    rw [ps_tk_12]
    exact ⟨by omega, fun _ => hA q5, fun _ => hB q5 q10, fun _ => hC rfl⟩
  rw [ps_tk_2 hq q5 q10 q12]
  exact ⟨by omega, fun _ => hA q5, fun _ => hB q5 q10, fun z => by omega⟩
theorem sg_q {s d i : Nat} {dO dA dB dC : Nat → Int32} (hK : ps_CK s dO dA dB dC d) (hi : i < d) : ∃ q : Nat, q ≤ 12 ∧ dO i = nI q := by
  obtain ⟨q, hq, e, _⟩ := hK i hi
  exact ⟨q, hq, e⟩
def ps_m (b : Bool) (r : Int32) (ren : Nat → Int32) : Nat → Int32 := if b then upd ren r.toNatClampNeg 0 else ren
theorem sg_m_t {r : Int32} {ren : Nat → Int32} : ps_m true r ren = upd ren r.toNatClampNeg 0 := rfl
theorem sg_m_f {r : Int32} {ren : Nat → Int32} : ps_m false r ren = ren := rfl
theorem sg_m_0 {b : Bool} {r : Int32} {ren : Nat → Int32} {p : Nat} (h : ren p = 0) : ps_m b r ren p = 0 := by
  cases b
  · exact h
  · rw [sg_m_t]
    by_cases e : p = r.toNatClampNeg
    · rw [e, pk_us]
    · rw [pk_un e]; exact h
theorem sg_m_01 {b : Bool} {r : Int32} {ren : Nat → Int32} {p : Nat} (h : ren p = 0 ∨ ren p = -1) : ps_m b r ren p = 0 ∨ ps_m b r ren p = -1 := by
  cases b
  · exact h
  · rw [sg_m_t]
    by_cases e : p = r.toNatClampNeg
    · rw [e, pk_us]; exact Or.inl rfl
    · rw [pk_un e]; exact h
theorem sg_m_n {b : Bool} {r : Int32} {ren : Nat → Int32} {p i : Nat} (hb : b = true → ∃ t : Nat, t < i ∧ r = nI t) (hi : i ≤ 14) (hp : i ≤ p) : ps_m b r ren p = ren p := by
  cases b
  · rfl
  · obtain ⟨t, ht, e⟩ := hb rfl
    rw [sg_m_t, e, nI_clamp (by omega), pk_un (by omega)]
def ps_mk (t : Nat) (A B C : Int32) (ren : Nat → Int32) : Nat → Int32 := ps_m (decide (2 < t)) C (ps_m (decide (1 < t)) B (ps_m (decide (0 < t)) A ren))
theorem sg_step {s d root m : Nat} {dO dA dB dC ren : Nat → Int32} (hd : d ≤ 14) (hK : ps_CK s dO dA dB dC d) (hr : root < d) (hm : m ≤ root) (h : ps_NI root dO dA dB dC (m + 1) ren) : ps_NI root dO dA dB dC m (ps_mk (ps_tk (dO m)) (dA m) (dB m) (dC m) ren) := by
  obtain ⟨h1, h2, h3⟩ := h
  obtain ⟨t3, oA, oB, oC⟩ := sg_ops hK (show m < d by omega)
  have z0 : ∀ p, ren p = 0 → ps_mk (ps_tk (dO m)) (dA m) (dB m) (dC m) ren p = 0 := fun p hp => sg_m_0 (sg_m_0 (sg_m_0 hp))
  have zn : ∀ p, m ≤ p → ps_mk (ps_tk (dO m)) (dA m) (dB m) (dC m) ren p = ren p := by
    intro p hp
    unfold ps_mk
    rw [sg_m_n (fun z => oC (of_decide_eq_true z)) (by omega) hp, sg_m_n (fun z => oB (of_decide_eq_true z)) (by omega) hp, sg_m_n (fun z => oA (of_decide_eq_true z)) (by omega) hp]
  refine ⟨fun j hj => sg_m_01 (sg_m_01 (sg_m_01 (h1 j hj))), z0 _ h2, fun j hj hjr hz => ?_⟩
  by_cases e : j = m
  · subst e
    refine ⟨fun z => ?_, fun z => ?_, fun z => ?_⟩
    · refine sg_m_0 (sg_m_0 ?_)
      rw [decide_eq_true z, sg_m_t, pk_us]
    · refine sg_m_0 ?_
      rw [decide_eq_true z, sg_m_t, pk_us]
    · unfold ps_mk
      rw [decide_eq_true z, sg_m_t, pk_us]
  · rw [zn j (by omega)] at hz
    obtain ⟨c1, c2, c3⟩ := h3 j (by omega) hjr hz
    exact ⟨fun z => z0 _ (c1 z), fun z => z0 _ (c2 z), fun z => z0 _ (c3 z)⟩
section SGN
variable {tN dN hN sN pN : Int32} {pic dO dA dB dC stk spk ren len op aa ab ac way kep kKn few fKn fTg gS gX gY gA val spa : Nat → Int32}
theorem sg_need {post : SX → Prop} {b : Bool} {r : Int32} (hb : b = true → vp_in r 14) (H : post (tN, dN, hN, sN, pN, pic, dO, dA, dB, dC, stk, spk, ps_m b r ren, len, op, aa, ab, ac, way, kep, kKn, few, fKn, fTg, gS, gX, gY, gA, val, spa)) : wpX_need post (tN, dN, hN, sN, pN, pic, dO, dA, dB, dC, stk, spk, ren, len, op, aa, ab, ac, way, kep, kKn, few, fKn, fTg, gS, gX, gY, gA, val, spa) r (if b then 1 else 0) := by
  cases b
  · exact br_t rfl H
  · exact br_f (by decide) (And.intro (hb rfl) (nm_e H))
theorem sg_30 {post : SX → Prop} {s d root : Nat} (hd : d ≤ 14) (hK : ps_CK s dO dA dB dC d) (hr : root < d) (H : ∀ ren' : Nat → Int32, ps_NI root dO dA dB dC 0 ren' → post (tN, dN, hN, sN, pN, pic, dO, dA, dB, dC, stk, spk, ren', len, op, aa, ab, ac, way, kep, kKn, few, fKn, fTg, gS, gX, gY, gA, val, spa)) : ∀ m : Nat, m ≤ root + 1 → ∀ ren : Nat → Int32, ps_NI root dO dA dB dC m ren → wX_findNeeded_30 post (m + 1) (nI m + (-1)) tN dN hN sN pN pic dO dA dB dC stk spk ren len op aa ab ac way kep kKn few fKn fTg gS gX gY gA val spa := by
  intro m
  induction m with
  | zero =>
    intro _ ren h
    exact br_t (by decide) (H ren h)
  | succ m ih =>
    intro hm ren h
    have vm : vp_in (nI m) 14 := vp_in_nI (by omega) (by decide)
    have cm : (nI m).toNatClampNeg = m := nI_clamp (by omega)
    have hmm := h.1 m (by omega)
    rw [pk_m1, wX_findNeeded_30]
    refine br_f (nI_pos (by omega)) (And.intro vm ?_)
    rw [cm]
    rcases hmm with z | z
    · refine br_f (by rw [z]; decide) (And.intro vm ?_)
      obtain ⟨q, hq, eq⟩ := sg_q hK (show m < d by omega)
      obtain ⟨t3, oA, oB, oC⟩ := sg_ops hK (show m < d by omega)
      have n := ih (by omega) _ (sg_step hd hK hr (by omega) h)
      unfold ps_mk at n
      rw [eq] at t3 oA oB oC n ⊢
      refine tk_takenX hq (And.intro vm ?_)
      have wA : 0 < ps_tk (nI q) → vp_in (dA m) 14 := fun z => by obtain ⟨r, hr, e⟩ := oA z; rw [e]; exact vp_in_nI (by omega) (by decide)
      have wB : 1 < ps_tk (nI q) → vp_in (dB m) 14 := fun z => by obtain ⟨r, hr, e⟩ := oB z; rw [e]; exact vp_in_nI (by omega) (by decide)
      have wC : 2 < ps_tk (nI q) → vp_in (dC m) 14 := fun z => by obtain ⟨r, hr, e⟩ := oC z; rw [e]; exact vp_in_nI (by omega) (by decide)
      generalize ps_tk (nI q) = t at *
      have L109 : ∀ (ren : Nat → Int32) (b : Bool), (b = true → vp_in (dC m) 14) → wX_findNeeded_30 post (m + 1) (nI m + (-1)) tN dN hN sN pN pic dO dA dB dC stk spk (ps_m b (dC m) ren) len op aa ab ac way kep kKn few fKn fTg gS gX gY gA val spa → wX_findNeeded_109 post (wX_findNeeded_30 post (m + 1)) (nI m) (if b then 1 else 0) (dC m) tN dN hN sN pN pic dO dA dB dC stk spk ren len op aa ab ac way kep kKn few fKn fTg gS gX gY gA val spa := fun ren b hb n => sg_need hb (nm_e n)
      have L89 : ∀ (ren : Nat → Int32) (b : Bool), (b = true → vp_in (dB m) 14) → wX_findNeeded_30 post (m + 1) (nI m + (-1)) tN dN hN sN pN pic dO dA dB dC stk spk (ps_m (decide (2 < t)) (dC m) (ps_m b (dB m) ren)) len op aa ab ac way kep kKn few fKn fTg gS gX gY gA val spa → wX_findNeeded_89 post (wX_findNeeded_30 post (m + 1)) (nI m) (nI t) (if b then 1 else 0) (dB m) tN dN hN sN pN pic dO dA dB dC stk spk ren len op aa ab ac way kep kKn few fKn fTg gS gX gY gA val spa := by
        intro ren b hb n
        refine sg_need hb (And.intro vm ?_)
        rw [cm]
        by_cases y : t ≤ 2
        · rw [decide_eq_false (show ¬ 2 < t by omega)] at n
          exact br_t (nI_le (b := 2) y (by decide)) (L109 _ false (fun z => by cases z) n)
        · rw [decide_eq_true (show 2 < t by omega)] at n
          exact br_f (nI_ge (a := 2) (by omega) (by omega)) (L109 _ true (fun _ => wC (by omega)) n)
      have L69 : ∀ (ren : Nat → Int32) (b : Bool), (b = true → vp_in (dA m) 14) → wX_findNeeded_30 post (m + 1) (nI m + (-1)) tN dN hN sN pN pic dO dA dB dC stk spk (ps_m (decide (2 < t)) (dC m) (ps_m (decide (1 < t)) (dB m) (ps_m b (dA m) ren))) len op aa ab ac way kep kKn few fKn fTg gS gX gY gA val spa → wX_findNeeded_69 post (wX_findNeeded_30 post (m + 1)) (nI m) (nI t) (if b then 1 else 0) (dA m) tN dN hN sN pN pic dO dA dB dC stk spk ren len op aa ab ac way kep kKn few fKn fTg gS gX gY gA val spa := by
        intro ren b hb n
        refine sg_need hb (And.intro vm ?_)
        rw [cm]
        by_cases y : t ≤ 1
        · rw [decide_eq_false (show ¬ 1 < t by omega)] at n
          exact br_t (nI_le (b := 1) y (by decide)) (L89 _ false (fun z => by cases z) n)
        · rw [decide_eq_true (show 1 < t by omega)] at n
          exact br_f (nI_ge (a := 1) (by omega) (by omega)) (L89 _ true (fun _ => wB (by omega)) n)
      by_cases y : t ≤ 0
      · rw [decide_eq_false (show ¬ 0 < t by omega)] at n
        exact br_t (nI_le (b := 0) y (by decide)) (L69 _ false (fun z => by cases z) n)
      · rw [decide_eq_true (show 0 < t by omega)] at n
        exact br_f (nI_ge (a := 0) (by omega) (by omega)) (L69 _ true (fun _ => wA (by omega)) n)
    · refine br_t (by rw [z]; decide) (nm_e (ih (by omega) ren ⟨h.1, h.2.1, fun j hj hjr hz => ?_⟩))
      by_cases e : j = m
      · rw [e, z] at hz; exact absurd hz (by decide)
      · exact h.2.2 j (by omega) hjr hz
theorem sg_find {post : SX → Prop} {s d root : Nat} (hd : d ≤ 14) (hK : ps_CK s dO dA dB dC d) (hr : root < d) (H : ∀ ren' : Nat → Int32, ps_NI root dO dA dB dC 0 ren' → post (tN, dN, hN, sN, pN, pic, dO, dA, dB, dC, stk, spk, ren', len, op, aa, ab, ac, way, kep, kKn, few, fKn, fTg, gS, gX, gY, gA, val, spa)) : wpX_findNeeded post (tN, dN, hN, sN, pN, pic, dO, dA, dB, dC, stk, spk, ren, len, op, aa, ab, ac, way, kep, kKn, few, fKn, fTg, gS, gX, gY, gA, val, spa) (nI root) := by
  have L : ∀ m j : Nat, j + m = 14 → wX_findNeeded_2 post (nI root) tN dN hN sN pN (m + 1) (nI j) pic dO dA dB dC stk spk (ps_wr ren (fun _ => -1) j) len op aa ab ac way kep kKn few fKn fTg gS gX gY gA val spa := by
    intro m
    induction m with
    | zero =>
      intro j hj
      obtain rfl : j = 14 := by omega
      have e0 : nI root = nI (root + 1) + (-1) := (pk_m1 root).symm
      refine br_t (by decide) (And.intro (vp_in_nI (by omega) (by decide)) (nm_e ⟨root + 2, ?_⟩))
      have n := sg_30 hd hK hr H (root + 1) (Nat.le_refl _) (upd (ps_wr ren (fun _ => -1) 14) (nI root).toNatClampNeg 0) ⟨fun j hj => ?_, ?_, fun j hj hjr => by omega⟩
      · rw [pk_m1] at n
        exact n
      · by_cases e : j = (nI root).toNatClampNeg
        · rw [e, pk_us]; exact Or.inl rfl
        · rw [pk_un e, ps_wr_in 14 hj]; exact Or.inr rfl
      · rw [nI_clamp (by omega), pk_us]
    | succ m ih =>
      intro j hj
      have cj : (nI j).toNatClampNeg = j := nI_clamp (by omega)
      exact br_f (nI_ge (b := 14) (by omega) (by decide)) (And.intro (vp_in_nI (by omega) (by decide)) (nm_r (e' := ps_wr ren (fun _ => -1) (j + 1)) (by rw [cj]; rfl) (nm_r (nI_1 j) (ih (j + 1) (by omega)))))
  exact ⟨15, L 14 0 rfl⟩
theorem sg_move {post : SX → Prop} {i to q : Nat} (hi : i < 14) (hto : to < 70) (hq : q ≤ 12) (eq : dO i = nI q) (wA : 0 < ps_tk (nI q) → vp_in (dA i) 14) (wB : 1 < ps_tk (nI q) → vp_in (dB i) 14) (wC : 2 < ps_tk (nI q) → vp_in (dC i) 14) (H : post (tN, dN, hN, sN, pN, pic, dO, dA, dB, dC, stk, spk, ren, len, upd op to (dO i), upd aa to (if 0 < ps_tk (nI q) then ren (dA i).toNatClampNeg else dA i), upd ab to (if 1 < ps_tk (nI q) then ren (dB i).toNatClampNeg else dB i), upd ac to (if 2 < ps_tk (nI q) then ren (dC i).toNatClampNeg else dC i), way, kep, kKn, few, fKn, fTg, gS, gX, gY, gA, val, spa)) : wpX_moveValue post (tN, dN, hN, sN, pN, pic, dO, dA, dB, dC, stk, spk, ren, len, op, aa, ab, ac, way, kep, kKn, few, fKn, fTg, gS, gX, gY, gA, val, spa) (nI i) (nI to) := by
  have vi : vp_in (nI i) 14 := vp_in_nI hi (by decide)
  have vt : vp_in (nI to) 70 := vp_in_nI hto (by decide)
  have ci : (nI i).toNatClampNeg = i := nI_clamp (by omega)
  have ct : (nI to).toNatClampNeg = to := nI_clamp (by omega)
  have t3 : ps_tk (nI q) ≤ 3 := by
    rcases ps_q hq with rfl | rfl | rfl | rfl | rfl | rfl | rfl | rfl | rfl | rfl | rfl | rfl | rfl <;> decide
  refine And.intro vi ?_
  rw [ci, eq]
  refine tk_takenX hq (And.intro vi (And.intro vt (nm_e ?_)))
  rw [eq] at H
  generalize ps_tk (nI q) = t at *
  rw [ct]
  have L82 : ∀ (op aa : Nat → Int32) (z : Int32), post (tN, dN, hN, sN, pN, pic, dO, dA, dB, dC, stk, spk, ren, len, op, aa, upd ab to z, upd ac to (if 2 < t then ren (dC i).toNatClampNeg else dC i), way, kep, kKn, few, fKn, fTg, gS, gX, gY, gA, val, spa) → wX_moveValue_82 post (nI i) (nI to) (nI t) z (nI to) tN dN hN sN pN pic dO dA dB dC stk spk ren len op aa ab ac way kep kKn few fKn fTg gS gX gY gA val spa := by
    intro op aa z H
    unfold wX_moveValue_82
    rw [ci, ct]
    refine And.intro vt (nm_e ?_)
    by_cases y : t ≤ 2
    · rw [if_neg (show ¬ 2 < t by omega)] at H
      exact br_t (nI_le (b := 2) y (by decide)) (And.intro vi (And.intro vt (nm_e H)))
    · rw [if_pos (show 2 < t by omega)] at H
      exact br_f (nI_ge (a := 2) (by omega) (by omega)) (And.intro vi (And.intro (wC (by omega)) (And.intro vt (nm_e H))))
  have L51 : ∀ (op : Nat → Int32) (z : Int32), post (tN, dN, hN, sN, pN, pic, dO, dA, dB, dC, stk, spk, ren, len, op, upd aa to z, upd ab to (if 1 < t then ren (dB i).toNatClampNeg else dB i), upd ac to (if 2 < t then ren (dC i).toNatClampNeg else dC i), way, kep, kKn, few, fKn, fTg, gS, gX, gY, gA, val, spa) → wX_moveValue_51 post (nI i) (nI to) (nI t) z (nI to) tN dN hN sN pN pic dO dA dB dC stk spk ren len op aa ab ac way kep kKn few fKn fTg gS gX gY gA val spa := by
    intro op z H
    unfold wX_moveValue_51
    rw [ci, ct]
    refine And.intro vt (nm_e ?_)
    by_cases y : t ≤ 1
    · rw [if_neg (show ¬ 1 < t by omega)] at H
      exact br_t (nI_le (b := 1) y (by decide)) (And.intro vi (L82 _ _ _ H))
    · rw [if_pos (show 1 < t by omega)] at H
      exact br_f (nI_ge (a := 1) (by omega) (by omega)) (And.intro vi (And.intro (wB (by omega)) (L82 _ _ _ H)))
  by_cases y : t ≤ 0
  · rw [if_neg (show ¬ 0 < t by omega)] at H
    exact br_t (nI_le (b := 0) y (by decide)) (And.intro vi (L51 _ _ H))
  · rw [if_pos (show 0 < t by omega)] at H
    exact br_f (nI_ge (a := 0) (by omega) (by omega)) (And.intro vi (And.intro (wA (by omega)) (L51 _ _ H)))
end SGN
end
section
/-! a stage is made: the needed values, moved together -/
def ps_SI (s d : Nat) (dO dA dB dC ren0 : Nat → Int32) (i c : Nat) (ren op aa ab ac : Nat → Int32) : Prop :=
  c ≤ i ∧ (∀ j, i ≤ j → ren j = ren0 j) ∧ (∀ j, j < i → ren0 j = 0 → ∃ p : Nat, p < c ∧ ren j = nI p ∧ ∀ lf, ps_LF lf → ps_xa lf op aa ab ac c p = ps_xa lf dO dA dB dC d j) ∧ ps_CK s op aa ab ac c ∧ ps_cn op c ≤ ps_cn dO i ∧ (∀ j, j + 1 = i → ren0 j = 0 → 1 ≤ c ∧ ∀ lf, ps_LF lf → ps_xa lf op aa ab ac c (c - 1) = ps_xa lf dO dA dB dC d j)
theorem sg_tk {q : Nat} (hq : q ≤ 12) : (0 < ps_tk (nI q) ↔ 5 ≤ q) ∧ (1 < ps_tk (nI q) ↔ 5 ≤ q ∧ q ≠ 10) ∧ (2 < ps_tk (nI q) ↔ q = 12) := by
  rcases ps_q hq with rfl | rfl | rfl | rfl | rfl | rfl | rfl | rfl | rfl | rfl | rfl | rfl | rfl <;> decide
theorem sg_SI0 {s d : Nat} {dO dA dB dC ren op aa ab ac : Nat → Int32} : ps_SI s d dO dA dB dC ren 0 0 ren op aa ab ac :=
  ⟨Nat.le_refl _, fun _ _ => rfl, fun j hj => absurd hj (Nat.not_lt_zero j), fun i hi => absurd hi (Nat.not_lt_zero i), Nat.le_refl _, fun j hj => by omega⟩
theorem sg_skip {s d i c : Nat} {dO dA dB dC ren0 ren op aa ab ac : Nat → Int32} (h : ps_SI s d dO dA dB dC ren0 i c ren op aa ab ac) (hz : ren0 i ≠ 0) : ps_SI s d dO dA dB dC ren0 (i + 1) c ren op aa ab ac := by
  obtain ⟨h1, h2, h3, h4, h5, h6⟩ := h
  refine ⟨by omega, fun j hj => h2 j (by omega), fun j hj hj0 => ?_, h4, Nat.le_trans h5 (ps_cn_mono _ (Nat.le_succ i)), fun j hj hj0 => ?_⟩
  · by_cases e : j = i
    · rw [e] at hj0; exact absurd hj0 hz
    · exact h3 j (by omega) hj0
  · rw [show j = i by omega] at hj0; exact absurd hj0 hz
theorem sg_take {s d i c q : Nat} {dO dA dB dC ren0 ren op aa ab ac : Nat → Int32} {A B C : Int32} (hd : d ≤ 14) (hi : i < d) (hK : ps_CK s dO dA dB dC d) (hq : q ≤ 12) (eq : dO i = nI q) (h : ps_SI s d dO dA dB dC ren0 i c ren op aa ab ac) (hz : ren0 i = 0) (hL : ps_CL dO dA dB dC ren0 i)
    (eA : A = if 0 < ps_tk (nI q) then upd ren i (nI c) (dA i).toNatClampNeg else dA i) (eB : B = if 1 < ps_tk (nI q) then upd ren i (nI c) (dB i).toNatClampNeg else dB i) (eC : C = if 2 < ps_tk (nI q) then upd ren i (nI c) (dC i).toNatClampNeg else dC i) : ps_SI s d dO dA dB dC ren0 (i + 1) (c + 1) (upd ren i (nI c)) (upd op c (dO i)) (upd aa c A) (upd ab c B) (upd ac c C) := by
  obtain ⟨h1, h2, h3, h4, h5, h6⟩ := h
  obtain ⟨t3, oA, oB, oC⟩ := sg_ops hK hi
  obtain ⟨lA, lB, lC⟩ := hL
  rw [eq] at t3 oA oB oC lA lB lC
  obtain ⟨k0, k1, k2⟩ := sg_tk hq
  -- an operand's new place
  have opd : ∀ x : Int32, (∃ r : Nat, r < i ∧ x = nI r) → ren0 x.toNatClampNeg = 0 → ∃ p : Nat, p < c ∧ upd ren i (nI c) x.toNatClampNeg = nI p ∧ ∀ lf, ps_LF lf → ps_xa lf op aa ab ac c p = ps_xa lf dO dA dB dC d x.toNatClampNeg := by
    intro x hx h0
    obtain ⟨r, hr, ex⟩ := hx
    rw [ex, nI_clamp (by omega)] at h0 ⊢
    obtain ⟨p, hp, ep, ev⟩ := h3 r hr h0
    exact ⟨p, hp, by rw [pk_un (by omega)]; exact ep, ev⟩
  have gA : 5 ≤ q → ∃ p : Nat, p < c ∧ A = nI p ∧ ∀ lf, ps_LF lf → ps_xa lf op aa ab ac c p = ps_xa lf dO dA dB dC d (dA i).toNatClampNeg := by
    intro y
    have y' := k0.mpr y
    rw [if_pos y'] at eA
    obtain ⟨p, hp, ep, ev⟩ := opd _ (oA y') (lA y')
    exact ⟨p, hp, eA.trans ep, ev⟩
  have gB : 5 ≤ q → q ≠ 10 → ∃ p : Nat, p < c ∧ B = nI p ∧ ∀ lf, ps_LF lf → ps_xa lf op aa ab ac c p = ps_xa lf dO dA dB dC d (dB i).toNatClampNeg := by
    intro y z
    have y' := k1.mpr ⟨y, z⟩
    rw [if_pos y'] at eB
    obtain ⟨p, hp, ep, ev⟩ := opd _ (oB y') (lB y')
    exact ⟨p, hp, eB.trans ep, ev⟩
  have gC : q = 12 → ∃ p : Nat, p < c ∧ C = nI p ∧ ∀ lf, ps_LF lf → ps_xa lf op aa ab ac c p = ps_xa lf dO dA dB dC d (dC i).toNatClampNeg := by
    intro y
    have y' := k2.mpr y
    rw [if_pos y'] at eC
    obtain ⟨p, hp, ep, ev⟩ := opd _ (oC y') (lC y')
    exact ⟨p, hp, eC.trans ep, ev⟩
  have un : ∀ (f : Nat → Int32) (v : Int32) (t : Nat), t < c → upd f c v t = f t := fun f v t ht => pk_un (by omega)
  have cg : ∀ lf, ps_xa lf (upd op c (dO i)) (upd aa c A) (upd ab c B) (upd ac c C) c = ps_xa lf op aa ab ac c := fun lf => ps_xa_cg c (fun t ht => ⟨un _ _ t ht, un _ _ t ht, un _ _ t ht, un _ _ t ht⟩)
  have old : ∀ lf p, p < c → ps_xa lf (upd op c (dO i)) (upd aa c A) (upd ab c B) (upd ac c C) (c + 1) p = ps_xa lf op aa ab ac c p := by
    intro lf p hp
    rw [← cg lf]
    exact ps_xa_st hp (c + 1) (by omega)
  have new : ∀ lf, ps_LF lf → ps_xa lf (upd op c (dO i)) (upd aa c A) (upd ab c B) (upd ac c C) (c + 1) c = ps_xa lf dO dA dB dC d i := by
    intro lf hl
    rw [ps_xa_top, cg lf, pk_us, pk_us, pk_us, pk_us, ps_xa_at hK hi (by omega) hi (fun t ht => ps_xa_st (show t < i by omega) d (by omega)), eq]
    rcases Nat.lt_or_ge q 5 with q5 | q5
    · rw [ps_xs_l q5, ps_xs_l q5, eA, if_neg (fun z => by have := k0.mp z; omega)]
    · obtain ⟨p, hp, ep, ev⟩ := gA q5
      by_cases q10 : q = 10
      · subst q10
        rw [ps_xs_10, ps_xs_10, ep, nI_clamp (by omega), ev lf hl]
      · obtain ⟨p2, hp2, ep2, ev2⟩ := gB q5 q10
        by_cases q12 : q = 12
        · subst q12
          obtain ⟨p3, hp3, ep3, ev3⟩ := gC rfl
          rw [ps_xs_12, ps_xs_12, ep, ep2, ep3, nI_clamp (by omega), nI_clamp (by omega), nI_clamp (by omega), ev lf hl, ev2 lf hl, ev3 lf hl]
        · rw [ps_xs_2 hq q5 q10 q12, ps_xs_2 hq q5 q10 q12, ep, ep2, nI_clamp (by omega), nI_clamp (by omega), ev lf hl, ev2 lf hl]
  refine ⟨by omega, fun j hj => ?_, fun j hj hj0 => ?_, ?_, ?_, fun j hj hj0 => ⟨by omega, fun lf hl => ?_⟩⟩
  · rw [pk_un (by omega)]; exact h2 j (by omega)
  · by_cases e : j = i
    · subst e
      exact ⟨c, by omega, pk_us, new⟩
    · obtain ⟨p, hp, ep, ev⟩ := h3 j (by omega) hj0
      exact ⟨p, by omega, by rw [pk_un e]; exact ep, fun lf hl => by rw [old lf p hp]; exact ev lf hl⟩
  · intro t ht
    rcases Nat.lt_or_ge t c with y | y
    · rw [un _ _ t y, un _ _ t y, un _ _ t y, un _ _ t y]
      exact h4 t y
    · obtain rfl : t = c := by omega
      rw [pk_us, pk_us, pk_us, pk_us]
      obtain ⟨q', hq', e', a3, a4, _, _, _⟩ := hK i hi
      have eqq : q' = q := (nI_eq (by omega) (by omega)).mp (e'.symm.trans eq)
      subst eqq
      refine ⟨q', hq, eq, fun z => ?_, fun z => ?_, fun z => ?_, fun z z' => ?_, fun z => ?_⟩
      · rw [eA, if_neg (fun y => by have := k0.mp y; omega)]; exact a3 z
      · rw [eA, if_neg (fun y => by have := k0.mp y; omega)]; exact a4 z
      · obtain ⟨p, hp, ep, _⟩ := gA z; exact ⟨p, hp, ep⟩
      · obtain ⟨p, hp, ep, _⟩ := gB z z'; exact ⟨p, hp, ep⟩
      · obtain ⟨p, hp, ep, _⟩ := gC z; exact ⟨p, hp, ep⟩
  · show ps_cn (upd op c (dO i)) c + (if upd op c (dO i) c = 4 then 1 else 0) ≤ ps_cn dO i + (if dO i = 4 then 1 else 0)
    rw [ps_cn_cg c (fun t ht => un op _ t ht), pk_us]
    exact Nat.add_le_add_right h5 _
  · rw [Nat.add_sub_cancel, new lf hl, show j = i by omega]
theorem sg_shu {f : Nat → Int32} {b c : Nat} {v : Int32} : ps_sh (upd f (b + c) v) b = upd (ps_sh f b) c v := by
  funext j
  show upd f (b + c) v (b + j) = upd (ps_sh f b) c v j
  by_cases e : j = c
  · rw [e, pk_us, pk_us]
  · rw [pk_un e, pk_un (by omega)]; rfl
section SGX
variable {tN dN hN sN pN : Int32} {pic dO dA dB dC stk spk ren len op aa ab ac way kep kKn few fKn fTg gS gX gY gA val spa : Nat → Int32}
theorem sg_stage {post : Int32 → SX → Prop} {s d root : Nat} (hs : s < 5) (hd : d ≤ 14) (hK : ps_CK s dO dA dB dC d) (hr : root < d) (er : stk 0 = nI root)
    (H : ∀ (c : Nat) (ren' op' aa' ab' ac' : Nat → Int32), 1 ≤ c → c ≤ 14 → ps_CK s (ps_sh op' (14 * s)) (ps_sh aa' (14 * s)) (ps_sh ab' (14 * s)) (ps_sh ac' (14 * s)) c → ps_cn (ps_sh op' (14 * s)) c ≤ ps_cn dO d → (∀ lf, ps_LF lf → ps_xa lf (ps_sh op' (14 * s)) (ps_sh aa' (14 * s)) (ps_sh ab' (14 * s)) (ps_sh ac' (14 * s)) c (c - 1) = ps_xa lf dO dA dB dC d root) → (∀ t, t < 14 * s → op' t = op t ∧ aa' t = aa t ∧ ab' t = ab t ∧ ac' t = ac t) →
      post (nI (s + 1) - 1) (nI 0, nI 0, nI 0, nI (s + 1), pN, pic, dO, dA, dB, dC, stk, ps_wr spk (fun _ => 0) 5, ren', upd len s (nI c), op', aa', ab', ac', upd way s 0, kep, ps_fz kKn (14 * s) 14, few, ps_fz fKn (4 * s) 4, fTg, gS, gX, gY, gA, val, spa)) : wpX_stage post (tN, dN, nI 1, nI s, pN, pic, dO, dA, dB, dC, stk, spk, ren, len, op, aa, ab, ac, way, kep, kKn, few, fKn, fTg, gS, gX, gY, gA, val, spa) := by
  have vs : vp_in (nI s) 5 := vp_in_nI hs (by decide)
  have cs : (nI s).toNatClampNeg = s := nI_clamp (by omega)
  refine br_t rfl (br_t (nI_lt (b := 5) hs (by decide)) ?_)
  rw [er]
  refine sg_find hd hK hr (fun ren0 hN => ⟨root + 2, ?_⟩)
  have L : ∀ m i : Nat, i + m = root + 1 → ∀ (c : Nat) (ren op' aa' ab' ac' : Nat → Int32), ps_SI s d dO dA dB dC ren0 i c ren (ps_sh op' (14 * s)) (ps_sh aa' (14 * s)) (ps_sh ab' (14 * s)) (ps_sh ac' (14 * s)) → (∀ t, t < 14 * s → op' t = op t ∧ aa' t = aa t ∧ ab' t = ab t ∧ ac' t = ac t) → wX_stage_35 post (m + 1) (nI c) (nI i) tN dN (nI 1) (nI s) pN pic dO dA dB dC stk spk ren len op' aa' ab' ac' way kep kKn few fKn fTg gS gX gY gA val spa := by
    intro m
    induction m with
    | zero =>
      intro i hi c ren op' aa' ab' ac' hS hT
      obtain rfl : i = root + 1 := by omega
      obtain ⟨h1, h2, h3, h4, h5, h6⟩ := hS
      obtain ⟨c1, ev⟩ := h6 root rfl hN.2.1
      have n := H c ren op' aa' ab' ac' c1 (by omega) h4 (Nat.le_trans h5 (ps_cn_mono _ (by omega))) ev hT
      rw [wX_stage_35]
      refine br_t (by rw [er]; exact nI_lt (by omega) (by omega)) ?_
      rw [cs]
      exact And.intro vs (nm_e (And.intro vs (nm_e (xc_forget hs (nm_r (nI_1 s) (pl_clearX n))))))
    | succ m ih =>
      intro i hi c ren op' aa' ab' ac' hS hT
      have vi : vp_in (nI i) 14 := vp_in_nI (by omega) (by decide)
      have ci : (nI i).toNatClampNeg = i := nI_clamp (by omega)
      have eri : ren i = ren0 i := hS.2.1 i (Nat.le_refl _)
      have hci := hS.1
      rw [wX_stage_35]
      refine br_f (by rw [er]; exact nI_nlt (by omega) (by omega)) (And.intro vi ?_)
      rw [ci]
      rcases hN.1 i (by omega) with z | z
      · refine br_f (by rw [eri, z]; decide) (And.intro vi (nm_e ?_))
        obtain ⟨q, hq, eq⟩ := sg_q hK (show i < d by omega)
        obtain ⟨t3, oA, oB, oC⟩ := sg_ops hK (show i < d by omega)
        rw [eq] at t3 oA oB oC
        rw [xc_m14, nI_add]
        refine sg_move (by omega) (by omega) hq eq (fun y => ?_) (fun y => ?_) (fun y => ?_) (nm_r (nI_1 c) (nm_r (nI_1 i) ?_))
        · obtain ⟨r, hr, e⟩ := oA y; rw [e]; exact vp_in_nI (by omega) (by decide)
        · obtain ⟨r, hr, e⟩ := oB y; rw [e]; exact vp_in_nI (by omega) (by decide)
        · obtain ⟨r, hr, e⟩ := oC y; rw [e]; exact vp_in_nI (by omega) (by decide)
        · refine ih (i + 1) (by omega) (c + 1) _ _ _ _ _ ?_ (fun t ht => ?_)
          · rw [sg_shu, sg_shu, sg_shu, sg_shu]
            exact sg_take hd (by omega) hK hq eq hS z (hN.2.2 i (Nat.zero_le _) (by omega) z) rfl rfl rfl
          · rw [pk_un (by omega), pk_un (by omega), pk_un (by omega), pk_un (by omega)]
            exact hT t ht
      · refine br_t (by rw [eri, z]; decide) (nm_r (nI_1 i) (ih (i + 1) (by omega) c ren op' aa' ab' ac' (sg_skip hS (by rw [z]; decide)) hT))
  exact L (root + 1) 0 (by omega) 0 ren0 op aa ab ac sg_SI0 (fun _ _ => ⟨rfl, rfl, rfl, rfl⟩)
end SGX
def ps_wb (f : Nat → Int32) (b : Nat) (V : Nat → Int32) : Nat → Nat → Int32
  | 0 => f
  | i + 1 => upd (ps_wb f b V i) (b + i) (V i)
theorem sg_wb_in {f V : Nat → Int32} {b i : Nat} : ∀ n, i < n → ps_wb f b V n (b + i) = V i := by
  intro n
  induction n with
  | zero => intro h; omega
  | succ n ih =>
    intro h
    show upd _ (b + n) _ (b + i) = _
    by_cases e : i = n
    · rw [e, pk_us]
    · rw [pk_un (by omega)]; exact ih (by omega)
theorem sg_wb_out {f V : Nat → Int32} {b t : Nat} : ∀ n, t < b ∨ b + n ≤ t → ps_wb f b V n t = f t := by
  intro n
  induction n with
  | zero => intro _; rfl
  | succ n ih =>
    intro h
    show upd _ (b + n) _ t = _
    rw [pk_un (by omega)]; exact ih (by omega)
section SGY
variable {ySt yHt : Int32} {src siz kin arg wys ypi prt : Nat → Int32}
theorem sg_stageY {post : Int32 → SY → Prop} {s n : Nat} (hs : s < 5) (h5 : siz 5 = nI n) (H : post (nI (s + 1) - 1) (nI (s + 1), nI 0, src, upd (upd siz s (nI n)) 5 0, ps_wb kin (14 * s) (ps_sh kin 70) 14, ps_wb arg (14 * s) (ps_sh arg 70) 14, upd wys s 0, ypi, prt)) : wpY_stage post (nI s, nI 1, src, siz, kin, arg, wys, ypi, prt) := by
  have vs : vp_in (nI s) 5 := vp_in_nI hs (by decide)
  have vs6 : vp_in (nI s) 6 := vp_in_nI (by omega) (by decide)
  have cs : (nI s).toNatClampNeg = s := nI_clamp (by omega)
  have ns : ¬ nI s = 5 := fun z => by have := (nI_eq (b := 5) (by omega) (by decide)).mp z; omega
  have L : ∀ m j : Nat, j + m = 14 → wY_stage_38 post (nI s) (nI 1) (m + 1) (nI j) src (upd siz s (nI n)) (ps_wb kin (14 * s) (ps_sh kin 70) j) (ps_wb arg (14 * s) (ps_sh arg 70) j) wys ypi prt := by
    intro m
    induction m with
    | zero =>
      intro j hj
      obtain rfl : j = 14 := by omega
      refine br_t (by decide) ?_
      rw [cs]
      exact And.intro vs (nm_e (nm_r (nI_1 s) (pl_clearY H)))
    | succ m ih =>
      intro j hj
      have v1 : vp_in (70 + nI j) 84 := by rw [pl_i70]; exact vp_in_nI (by omega) (by decide)
      have c1 : (70 + nI j).toNatClampNeg = 70 + j := by rw [pl_i70, nI_clamp (by omega)]
      have e2 : 14 * nI s + nI j = nI (14 * s + j) := by rw [xc_m14, nI_add]
      have v2 : vp_in (14 * nI s + nI j) 84 := by rw [e2]; exact vp_in_nI (by omega) (by decide)
      have c2 : (14 * nI s + nI j).toNatClampNeg = 14 * s + j := by rw [e2, nI_clamp (by omega)]
      refine br_f (nI_ge (b := 14) (by omega) (by decide)) ?_
      refine And.intro v1 (And.intro v2 (nm_r (e' := ps_wb kin (14 * s) (ps_sh kin 70) (j + 1)) ?_ (And.intro v1 (And.intro v2 (nm_r (e' := ps_wb arg (14 * s) (ps_sh arg 70) (j + 1)) ?_ (nm_r (nI_1 j) (ih (j + 1) (by omega))))))))
      · rw [c1, c2, sg_wb_out j (by omega)]; rfl
      · rw [c1, c2, sg_wb_out j (by omega)]; rfl
  refine br_t rfl (br_f ns (And.intro vs6 ?_))
  rw [cs, h5]
  exact nm_e ⟨15, L 14 0 rfl⟩
end SGY
end
section
/-! a stage is made: the relation -/
theorem so_SR {k s : Nat} {siz kin arg len op aa ab ac siz' kin' arg' len' op' aa' ab' ac' : Nat → Int32} (hk : k < s) (hz : siz' k = siz k) (hl : len' k = len k) (hY : ∀ t, t < 14 * s → kin' t = kin t ∧ arg' t = arg t) (hX : ∀ t, t < 14 * s → op' t = op t ∧ aa' t = aa t ∧ ab' t = ab t ∧ ac' t = ac t) (h : ps_SR k siz kin arg len op aa ab ac) : ps_SR k siz' kin' arg' len' op' aa' ab' ac' := by
  obtain ⟨n, L, n1, n14, l1, l14, ez, el, ht, hc, h9, hx⟩ := h
  have gX : ∀ i, i < L → ps_sh op' (14 * k) i = ps_sh op (14 * k) i ∧ ps_sh aa' (14 * k) i = ps_sh aa (14 * k) i ∧ ps_sh ab' (14 * k) i = ps_sh ab (14 * k) i ∧ ps_sh ac' (14 * k) i = ps_sh ac (14 * k) i := fun i hi => hX (14 * k + i) (by omega)
  have gY : ∀ i, i < n → ps_sh kin' (14 * k) i = ps_sh kin (14 * k) i ∧ ps_sh arg' (14 * k) i = ps_sh arg (14 * k) i := fun i hi => hY (14 * k + i) (by omega)
  refine ⟨n, L, n1, n14, l1, l14, hz.trans ez, hl.trans el, ps_TK_cg ht gY, ps_CK_cg hc gX, ?_, fun lf hlf => ?_⟩
  · rw [ps_cn_cg L (fun i hi => (gX i hi).1)]; exact h9
  · rw [ps_xa_cg L gX, hx lf hlf]
    refine (congrFun (ps_sk_cg n (fun i hi => (gY i hi).1) (fun i hi _ => ?_)).1 0).symm
    rw [(gY i hi).2]
theorem i_vc_stage {k : Nat} {u : SX} {v : SY} (I : i_Rel k u v) (hk : k + 4 ≤ 2048) : wpX_stage (fun r u' => wpY_stage (fun r' v' => r' = r ∧ i_Rel (k + 4) u' v') v) u := by
  refine zz_el (P := fun u v => wpX_stage (fun r u' => wpY_stage (fun r' v' => r' = r ∧ i_Rel (k + 4) u' v') v) u) I ?_
  intro s n h d pN pic dO dA dB dC stk spk ren len op aa ab ac way kep kKn few fKn fTg gS gX gY gA val spa siz kin arg wys ypi prt hR
  have hs := hR.1
  have h5 := hR.2.1
  obtain ⟨d1, d2, d3, d4, dT, dK, d7, d8, d9, d10⟩ := hR.2.2.2.1
  by_cases h1 : h = 1
  · subst h1
    by_cases s5 : s = 5
    · subst s5
      exact br_t rfl (br_f (by decide) (br_t rfl (br_t rfl ⟨rfl, zz_in hR⟩)))
    obtain ⟨root, hr, er, ev⟩ := d9 0 (by omega)
    refine sg_stage (by omega) (by omega) dK hr er (fun c ren' op' aa' ab' ac' c1 c14 hC hc hx hX => ?_)
    refine sg_stageY (n := n) (by omega) h5 ⟨rfl, zz_in ?_⟩
    have n1 : 1 ≤ n := by
      rcases Nat.eq_zero_or_pos n with z | z
      · rw [z] at d4
        have d4' : (0 : Nat) = 1 := d4
        omega
      · exact z
    have hS := hR.2.2.1
    have gY : ∀ t, t < 14 * s → ps_wb kin (14 * s) (ps_sh kin 70) 14 t = kin t ∧ ps_wb arg (14 * s) (ps_sh arg 70) 14 t = arg t := fun t ht => ⟨sg_wb_out 14 (Or.inl ht), sg_wb_out 14 (Or.inl ht)⟩
    have gN : ∀ i, i < n → ps_sh (ps_wb kin (14 * s) (ps_sh kin 70) 14) (14 * s) i = ps_sh kin 70 i ∧ ps_sh (ps_wb arg (14 * s) (ps_sh arg 70) 14) (14 * s) i = ps_sh arg 70 i := fun i hi => ⟨sg_wb_in 14 (by omega), sg_wb_in 14 (by omega)⟩
    have gz : ∀ j, j < s → upd (upd siz s (nI n)) 5 0 j = siz j := fun j hj => by rw [pk_un (by omega), pk_un (by omega)]
    refine ⟨by omega, pk_us, fun j hj => ?_, zz_DR0 pl_sp5, fun j hj => ?_, xc_RK_fz hs (fun j hj ne => by omega) (fun j hj ne => ?_) (fun j hj ne => pk_un ne) hR.2.2.2.2.2⟩
    · by_cases e : j = s
      · subst e
        refine ⟨n, c, n1, d1, c1, c14, by rw [pk_un (by omega), pk_us], pk_us, ps_TK_cg dT gN, hC, by omega, fun lf hl => ?_⟩
        rw [hx lf hl, ev lf hl]
        refine (congrFun (ps_sk_cg n (fun i hi => (gN i hi).1) (fun i hi _ => ?_)).1 0).symm
        rw [(gN i hi).2]
      · exact so_SR (s := s) (by omega) (gz j (by omega)) (pk_un e) gY hX (hS j (by omega))
    · by_cases e : j = s
      · rw [e, pk_us, pk_us]
      · rw [pk_un e, pk_un e]; exact hR.2.2.2.2.1 j (by omega)
    · refine ps_F_cg j (fun i hi => ⟨gz i (by omega), ?_⟩) (fun i hi => gY i (by omega))
      obtain ⟨n', L', _, n14, _, _, ez, _⟩ := hS i (by omega)
      rw [ez, nI_clamp (by omega)]
      exact n14
  · have ne : ¬ nI h = 1 := fun z => h1 ((nI_eq (b := 1) (by omega) (by decide)).mp z)
    exact br_f ne (br_f ne ⟨rfl, zz_in hR⟩)
end
