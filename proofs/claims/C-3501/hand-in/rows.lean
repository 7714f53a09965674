section
theorem pk_us {f : Nat → Int32} {k : Nat} {x : Int32} : upd f k x k = x := if_pos rfl
theorem pk_un {f : Nat → Int32} {k j : Nat} {x : Int32} (h : j ≠ k) : upd f k x j = f j := if_neg h
theorem pk_uLs {f : Nat → Int64} {k : Nat} {x : Int64} : vp_updL f k x k = x := if_pos rfl
theorem pk_uLn {f : Nat → Int64} {k j : Nat} {x : Int64} (h : j ≠ k) : vp_updL f k x j = f j := if_neg h
theorem pk_sub {a b : Nat} (h : b ≤ a) : nI a - nI b = nI (a - b) := by
  obtain ⟨c, rfl⟩ : ∃ c, a = c + b := ⟨a - b, by omega⟩
  rw [← nI_add, Int32.add_sub_cancel, Nat.add_sub_cancel]
theorem pk_m1 (n : Nat) : nI (n + 1) + (-1) = nI n := by
  rw [← nI_1, Int32.add_assoc, show (1 : Int32) + (-1) = 0 from rfl, Int32.add_zero]
theorem pk_mul (a b : Nat) : nI a * nI b = nI (a * b) := (Int32.ofNat_mul a b).symm
theorem pk_div {a d : Nat} (ha : a < 2 ^ 31) (h0 : 0 < d) (hd : d < 2 ^ 31) : nI a / nI d = nI (a / d) := by
  apply Int32.toInt_inj.mp
  rw [lg_idiv_nonneg (by rw [nI_toInt ha]; omega) (by rw [nI_toInt hd]; omega), nI_toInt ha, nI_toInt hd, nI_toInt (Nat.lt_of_le_of_lt (Nat.div_le_self a d) ha)]
  first | rfl | exact (Int.natCast_ediv _ _).symm
theorem pk_rem {a d : Nat} (ha : a < 2 ^ 31) (h0 : 0 < d) (hd : d < 2 ^ 31) : nI a - nI a / nI d * nI d = nI (a % d) := by
  rw [pk_div ha h0 hd, pk_mul, pk_sub (Nat.div_mul_le_self a d)]
  exact congrArg nI (by have := Nat.div_add_mod' a d; omega)
theorem pk_sub_toInt {a b : Nat} (ha : a < 2 ^ 30) (hb : b < 2 ^ 30) : (nI a - nI b).toInt = (a : Int) - b := by
  rw [Int32.toInt_sub, nI_toInt (by omega), nI_toInt (by omega)]
  exact Int.bmod_eq_of_le (by omega) (by omega)
theorem pk_sneg {a b : Nat} (hb : b < 2 ^ 30) (h : a < b) : nI a - nI b < 0 := by
  rw [Int32.lt_iff_toInt_lt, pk_sub_toInt (by omega) hb, show (0 : Int32).toInt = 0 from by decide]
  omega
theorem pk_ix (x : Int32) {n : Nat} (hn : n < 2 ^ 31) : x < 0 ∨ nI n ≤ x ∨ ∃ j : Nat, j < n ∧ x = nI j := by
  by_cases h : x < 0
  · exact Or.inl h
  · obtain ⟨j, hj, rfl⟩ := nI_of h
    by_cases h2 : j < n
    · exact Or.inr (Or.inr ⟨j, h2, rfl⟩)
    · exact Or.inr (Or.inl (nI_le (by omega) hj))
theorem pk_le {x y : Int32} {A B : Prop} (a b : Nat) (f : a ≤ b → A) (g : b < a → B) (hx : x = nI a := by rfl) (hy : y = nI b := by rfl) (ha : a < 2 ^ 31 := by omega) (hb : b < 2 ^ 31 := by omega) : (x ≤ y → A) ∧ (¬ x ≤ y → B) := by
  subst hx hy
  rw [nI_leI ha hb]
  exact ⟨f, fun z => g (by omega)⟩
theorem pk_lt {x y : Int32} {A B : Prop} (a b : Nat) (f : a < b → A) (g : b ≤ a → B) (hx : x = nI a := by rfl) (hy : y = nI b := by rfl) (ha : a < 2 ^ 31 := by omega) (hb : b < 2 ^ 31 := by omega) : (x < y → A) ∧ (¬ x < y → B) := by
  subst hx hy
  rw [nI_ltI ha hb]
  exact ⟨f, fun z => g (by omega)⟩
theorem pk_eq {x y : Int32} {A B : Prop} (a b : Nat) (f : a = b → A) (g : a ≠ b → B) (hx : x = nI a := by rfl) (hy : y = nI b := by rfl) (ha : a < 2 ^ 31 := by omega) (hb : b < 2 ^ 31 := by omega) : (x = y → A) ∧ (¬ x = y → B) := by
  subst hx hy
  rw [nI_eq ha hb]
  exact ⟨f, g⟩
theorem pk_in {x : Int32} (n N : Nat) (h : n < N) (hx : x = nI n := by rfl) (hN : N < 2 ^ 31 := by omega) : vp_in x N := by
  subst hx
  exact vp_in_nI h hN
theorem pk_cl {x : Int32} (n : Nat) (hx : x = nI n := by rfl) (h : n < 2 ^ 31 := by omega) : x.toNatClampNeg = n := by
  subst hx
  exact nI_clamp h
theorem pk_tn {n : Nat} (h : n < 2 ^ 32) : (nI n).toBitVec.toNat = n := Nat.mod_eq_of_lt h
theorem pk_and (x : Int32) {m : Int32} (k : Nat) (hm : m.toBitVec.toNat = 2 ^ k - 1) : x &&& m = nI (x.toBitVec.toNat % 2 ^ k) := by
  apply Int32.toBitVec_inj.mp
  apply BitVec.eq_of_toNat_eq
  rw [Int32.toBitVec_and, BitVec.toNat_and, hm, Nat.and_two_pow_sub_one_eq_mod]
  show _ = (BitVec.ofNat 32 _).toNat
  rw [BitVec.toNat_ofNat]
  exact (Nat.mod_eq_of_lt (Nat.lt_of_le_of_lt (Nat.mod_le _ _) x.toBitVec.isLt)).symm
theorem pk_andN {n : Nat} (h : n < 2 ^ 32) {m : Int32} (k : Nat) (hm : m.toBitVec.toNat = 2 ^ k - 1) : nI n &&& m = nI (n % 2 ^ k) := by
  rw [pk_and _ k hm, pk_tn h]
theorem pk_andE (x : Int32) {m : Int32} (k : Nat) (hm : m.toBitVec.toNat = 2 ^ k - 1) : ∃ j : Nat, j < 2 ^ k ∧ x &&& m = nI j := ⟨_, Nat.mod_lt _ (Nat.two_pow_pos k), pk_and x k hm⟩
theorem pk_andIn (x : Int32) {m : Int32} (k : Nat) (hm : m.toBitVec.toNat = 2 ^ k - 1) (hk : k ≤ 30) : vp_in (x &&& m) (2 ^ k) := by
  obtain ⟨j, hj, e⟩ := pk_andE x k hm
  rw [e]
  exact vp_in_nI hj (Nat.lt_of_le_of_lt (Nat.pow_le_pow_right (by decide) hk) (by decide))
theorem pk_shl (a s : Int32) (k : Nat) (hs : (s.toBitVec.smod 32).toNat = k) : (a <<< s).toBitVec.toNat = a.toBitVec.toNat * 2 ^ k % 2 ^ 32 := by
  show (a.toBitVec <<< (s.toBitVec.smod 32).toNat).toNat = _
  rw [hs, BitVec.toNat_shiftLeft, Nat.shiftLeft_eq]
theorem pk_shlN {n : Nat} (s : Int32) (k : Nat) (hs : (s.toBitVec.smod 32).toNat = k) (h : n * 2 ^ k < 2 ^ 32) : nI n <<< s = nI (n * 2 ^ k) := by
  apply Int32.toBitVec_inj.mp
  apply BitVec.eq_of_toNat_eq
  have hn : n < 2 ^ 32 := Nat.lt_of_le_of_lt (Nat.le_mul_of_pos_right n (Nat.two_pow_pos k)) h
  rw [pk_shl _ _ k hs, pk_tn hn, pk_tn h, Nat.mod_eq_of_lt h]
theorem pk_shr (a s : Int32) (k : Nat) (hs : (s.toBitVec.smod 32).toNat = k) : (a >>> s).toInt = a.toInt >>> k := by
  show (a.toBitVec.sshiftRight (s.toBitVec.smod 32).toNat).toInt = _
  rw [hs, BitVec.toInt_sshiftRight]
  rfl
theorem pk_shrN {n : Nat} (h : n < 2 ^ 31) (s : Int32) (k : Nat) (hs : (s.toBitVec.smod 32).toNat = k) : nI n >>> s = nI (n / 2 ^ k) := by
  apply Int32.toInt_inj.mp
  have h2 : n / 2 ^ k ≤ n := Nat.div_le_self _ _
  rw [pk_shr _ _ k hs, nI_toInt h, nI_toInt (by omega), Int.shiftRight_eq_div_pow]
  rfl
def bt (x : Int32) (i : Nat) : Bool := x.toBitVec.getLsbD i
theorem b_ext {x y : Int32} (h : ∀ i, i < 32 → bt x i = bt y i) : x = y := Int32.toBitVec_inj.mp (BitVec.eq_of_getLsbD_eq (fun i hi => h i hi))
theorem b_or (x y : Int32) (i : Nat) : bt (x ||| y) i = (bt x i || bt y i) := by unfold bt; rw [Int32.toBitVec_or, BitVec.getLsbD_or]
theorem b_and (x y : Int32) (i : Nat) : bt (x &&& y) i = (bt x i && bt y i) := by unfold bt; rw [Int32.toBitVec_and, BitVec.getLsbD_and]
theorem b_xor (x y : Int32) (i : Nat) : bt (x ^^^ y) i = (bt x i ^^ bt y i) := by unfold bt; rw [Int32.toBitVec_xor, BitVec.getLsbD_xor]
theorem s_l : ∀ n, n < 32 → ((nI n &&& 31).toBitVec.smod 32).toNat = n := by decide +kernel
theorem nx_and (a b : Nat) : nI a &&& nI b = nI (a &&& b) := by
  apply Int32.toBitVec_inj.1
  show BitVec.ofNat 32 a &&& BitVec.ofNat 32 b = BitVec.ofNat 32 (a &&& b)
  apply BitVec.eq_of_getLsbD_eq
  intro i hi
  simp [hi]
end
section
/-! sums over a range, and determinants by Laplace along a list of columns -/
def dm_sum : Nat → (Nat → Int) → Int
  | 0, _ => 0
  | n + 1, f => dm_sum n f + f n
theorem dm_sum_congr {n : Nat} {f g : Nat → Int} (h : ∀ i, i < n → f i = g i) : dm_sum n f = dm_sum n g := by
  induction n with
  | zero => rfl
  | succ n ih =>
    show dm_sum n f + f n = dm_sum n g + g n
    rw [ih (fun i hi => h i (by omega)), h n (by omega)]
theorem dm_sum_zero {n : Nat} {f : Nat → Int} (h : ∀ i, i < n → f i = 0) : dm_sum n f = 0 := by
  induction n with
  | zero => rfl
  | succ n ih =>
    show dm_sum n f + f n = 0
    rw [ih (fun i hi => h i (by omega)), h n (by omega)]
    rfl
theorem dm_sum_add (n : Nat) (f g : Nat → Int) : dm_sum n (fun i => f i + g i) = dm_sum n f + dm_sum n g := by
  induction n with
  | zero => rfl
  | succ n ih =>
    show dm_sum n (fun i => f i + g i) + (f n + g n) = (dm_sum n f + f n) + (dm_sum n g + g n)
    rw [ih]
    omega
theorem dm_sum_neg (n : Nat) (f : Nat → Int) : dm_sum n (fun i => - f i) = - dm_sum n f := by
  induction n with
  | zero => rfl
  | succ n ih =>
    show dm_sum n (fun i => - f i) + - f n = - (dm_sum n f + f n)
    rw [ih]
    omega
theorem dm_sum_mul (n : Nat) (c : Int) (f : Nat → Int) : dm_sum n (fun i => c * f i) = c * dm_sum n f := by
  induction n with
  | zero => exact (Int.mul_zero c).symm
  | succ n ih =>
    show dm_sum n (fun i => c * f i) + c * f n = c * (dm_sum n f + f n)
    rw [ih, Int.mul_add]
theorem dm_sum_mulr (n : Nat) (c : Int) (f : Nat → Int) : dm_sum n (fun i => f i * c) = dm_sum n f * c := by
  induction n with
  | zero => exact (Int.zero_mul c).symm
  | succ n ih =>
    show dm_sum n (fun i => f i * c) + f n * c = (dm_sum n f + f n) * c
    rw [ih, Int.add_mul]
theorem dm_sum_front (n : Nat) (f : Nat → Int) : dm_sum (n + 1) f = f 0 + dm_sum n (fun i => f (i + 1)) := by
  induction n with
  | zero => show (0 : Int) + f 0 = f 0 + 0; omega
  | succ n ih =>
    show dm_sum (n + 1) f + f (n + 1) = f 0 + (dm_sum n (fun i => f (i + 1)) + f (n + 1))
    rw [ih]
    omega
theorem dm_sum_comm (n m : Nat) (f : Nat → Nat → Int) : dm_sum n (fun i => dm_sum m (fun j => f i j)) = dm_sum m (fun j => dm_sum n (fun i => f i j)) := by
  induction n with
  | zero => exact (dm_sum_zero (fun _ _ => rfl)).symm
  | succ n ih =>
    show dm_sum n (fun i => dm_sum m (fun j => f i j)) + dm_sum m (fun j => f n j) = dm_sum m (fun j => dm_sum n (fun i => f i j) + f n j)
    rw [ih, dm_sum_add]
theorem dm_sum_ul (m : Nat) (F : Nat → Nat → Int) : dm_sum (m + 1) (fun i => dm_sum m (fun p => F i p)) = dm_sum (m + 1) (fun i => dm_sum i (fun p => F i p)) + dm_sum m (fun p => dm_sum (p + 1) (fun i => F i p)) := by
  induction m with
  | zero => rfl
  | succ m ih =>
    have e : dm_sum (m + 1) (fun i => dm_sum (m + 1) (fun p => F i p)) = dm_sum (m + 1) (fun i => dm_sum m (fun p => F i p)) + dm_sum (m + 1) (fun i => F i m) := by
      rw [← dm_sum_add]
      rfl
    show dm_sum (m + 1) (fun i => dm_sum (m + 1) (fun p => F i p)) + dm_sum (m + 1) (fun p => F (m + 1) p) = (dm_sum (m + 1) (fun i => dm_sum i (fun p => F i p)) + dm_sum (m + 1) (fun p => F (m + 1) p)) + (dm_sum m (fun p => dm_sum (p + 1) (fun i => F i p)) + dm_sum (m + 1) (fun i => F i m))
    rw [e, ih]
    omega
/-- adjacent swap -/
def dm_sw (a r : Nat) : Nat := if r = a then a + 1 else if r = a + 1 then a else r
theorem dm_sw_l (a : Nat) : dm_sw a a = a + 1 := if_pos rfl
theorem dm_sw_r (a : Nat) : dm_sw a (a + 1) = a := by
  unfold dm_sw
  rw [if_neg (by omega), if_pos rfl]
theorem dm_sw_o {a r : Nat} (h : r ≠ a) (h2 : r ≠ a + 1) : dm_sw a r = r := by
  unfold dm_sw
  rw [if_neg h, if_neg h2]
theorem dm_sum_sw {n a : Nat} (f : Nat → Int) (h : a + 1 < n) : dm_sum n (fun i => f (dm_sw a i)) = dm_sum n f := by
  induction n with
  | zero => omega
  | succ n ih =>
    by_cases h1 : a + 1 < n
    · show dm_sum n (fun i => f (dm_sw a i)) + f (dm_sw a n) = dm_sum n f + f n
      rw [ih h1, dm_sw_o (by omega) (by omega)]
    · have e : n = a + 1 := by omega
      subst e
      show (dm_sum a (fun i => f (dm_sw a i)) + f (dm_sw a a)) + f (dm_sw a (a + 1)) = (dm_sum a f + f a) + f (a + 1)
      rw [dm_sw_l, dm_sw_r, dm_sum_congr (n := a) (f := fun i => f (dm_sw a i)) (g := f) (fun i hi => by show f (dm_sw a i) = f i; rw [dm_sw_o (by omega) (by omega)])]
      omega
def dm_sg : Nat → Int
  | 0 => 1
  | n + 1 => - dm_sg n
theorem dm_sg_s (n : Nat) : dm_sg (n + 1) = - dm_sg n := rfl
theorem dm_sg_sq (n : Nat) : dm_sg n * dm_sg n = 1 := by
  induction n with
  | zero => rfl
  | succ n ih => rw [dm_sg_s, Int.neg_mul_neg, ih]
theorem dm_sg_abs (n : Nat) : (dm_sg n).natAbs = 1 := by
  induction n with
  | zero => rfl
  | succ n ih => rw [dm_sg_s, Int.natAbs_neg, ih]
def dm_sk (i r : Nat) : Nat := if r < i then r else r + 1
theorem dm_sk_lt {i r : Nat} (h : r < i) : dm_sk i r = r := if_pos h
theorem dm_sk_ge {i r : Nat} (h : ¬ r < i) : dm_sk i r = r + 1 := if_neg h
theorem dm_sk_sk {p q : Nat} (h : p ≤ q) (r : Nat) : dm_sk (q + 1) (dm_sk p r) = dm_sk p (dm_sk q r) := by
  by_cases h1 : r < p
  · rw [dm_sk_lt h1, dm_sk_lt (by omega : r < q + 1), dm_sk_lt (by omega : r < q), dm_sk_lt h1]
  · rw [dm_sk_ge h1]
    by_cases h2 : r < q
    · rw [dm_sk_lt (by omega : r + 1 < q + 1), dm_sk_lt h2, dm_sk_ge h1]
    · rw [dm_sk_ge (by omega : ¬ r + 1 < q + 1), dm_sk_ge h2, dm_sk_ge (by omega : ¬ r + 1 < p)]
def dm_det : List Nat → (Nat → Nat → Int) → Int
  | [], _ => 1
  | j :: cs, R => dm_sum (cs.length + 1) (fun i => dm_sg i * R i j * dm_det cs (fun r => R (dm_sk i r)))
theorem dm_det_cons (j : Nat) (cs : List Nat) (R : Nat → Nat → Int) : dm_det (j :: cs) R = dm_sum (cs.length + 1) (fun i => dm_sg i * R i j * dm_det cs (fun r => R (dm_sk i r))) := rfl
theorem dm_det_congr {cs : List Nat} : ∀ {R R' : Nat → Nat → Int}, (∀ r, r < cs.length → ∀ c, c ∈ cs → R r c = R' r c) → dm_det cs R = dm_det cs R' := by
  induction cs with
  | nil => intro R R' _; rfl
  | cons j cs ih =>
    intro R R' h
    rw [dm_det_cons, dm_det_cons]
    apply dm_sum_congr
    intro i hi
    rw [h i (by rw [List.length_cons]; omega) j (List.mem_cons_self), ih (R := fun r => R (dm_sk i r)) (R' := fun r => R' (dm_sk i r))]
    intro r hr c hc
    apply h _ _ c (List.mem_cons_of_mem _ hc)
    rw [List.length_cons]
    unfold dm_sk
    split <;> omega
theorem dm_ring1 (sp sq x y d : Int) : (- sq) * x * (sp * y * d) = - (sp * y * (sq * x * d)) := by grind
theorem dm_det_colswap (a b : Nat) (cs : List Nat) (R : Nat → Nat → Int) : dm_det (a :: b :: cs) R = - dm_det (b :: a :: cs) R := by
  have ex : ∀ a b : Nat, dm_det (a :: b :: cs) R = dm_sum (cs.length + 1 + 1) (fun i => dm_sum (cs.length + 1) (fun p => dm_sg i * R i a * (dm_sg p * R (dm_sk i p) b * dm_det cs (fun r => R (dm_sk i (dm_sk p r)))))) := by
    intro a b
    rw [dm_det_cons]
    apply dm_sum_congr
    intro i _
    rw [dm_det_cons, dm_sum_mul]
  have h1 : ∀ a b p q : Nat, p ≤ q → dm_sg (q + 1) * R (q + 1) a * (dm_sg p * R (dm_sk (q + 1) p) b * dm_det cs (fun r => R (dm_sk (q + 1) (dm_sk p r)))) = - (dm_sg p * R p b * (dm_sg q * R (dm_sk p q) a * dm_det cs (fun r => R (dm_sk p (dm_sk q r))))) := by
    intro a b p q hpq
    rw [dm_sk_lt (by omega : p < q + 1), dm_sk_ge (by omega : ¬ q < p), dm_sg_s]
    rw [show (fun r => R (dm_sk (q + 1) (dm_sk p r))) = (fun r => R (dm_sk p (dm_sk q r))) from funext (fun r => congrArg R (dm_sk_sk hpq r))]
    exact dm_ring1 _ _ _ _ _
  rw [ex a b, ex b a, dm_sum_ul, dm_sum_ul, dm_sum_front, dm_sum_front (cs.length + 1)]
  have u1 : dm_sum (cs.length + 1) (fun i => dm_sum (i + 1) (fun p => dm_sg (i + 1) * R (i + 1) a * (dm_sg p * R (dm_sk (i + 1) p) b * dm_det cs (fun r => R (dm_sk (i + 1) (dm_sk p r)))))) = - dm_sum (cs.length + 1) (fun p => dm_sum (p + 1) (fun i => dm_sg i * R i b * (dm_sg p * R (dm_sk i p) a * dm_det cs (fun r => R (dm_sk i (dm_sk p r)))))) := by
    rw [← dm_sum_neg]
    apply dm_sum_congr
    intro q _
    rw [← dm_sum_neg]
    apply dm_sum_congr
    intro p hp
    exact h1 a b p q (by omega)
  have u2 : dm_sum (cs.length + 1) (fun p => dm_sum (p + 1) (fun i => dm_sg i * R i a * (dm_sg p * R (dm_sk i p) b * dm_det cs (fun r => R (dm_sk i (dm_sk p r)))))) = - dm_sum (cs.length + 1) (fun i => dm_sum (i + 1) (fun p => dm_sg (i + 1) * R (i + 1) b * (dm_sg p * R (dm_sk (i + 1) p) a * dm_det cs (fun r => R (dm_sk (i + 1) (dm_sk p r)))))) := by
    rw [← dm_sum_neg]
    apply dm_sum_congr
    intro q _
    rw [← dm_sum_neg]
    apply dm_sum_congr
    intro p hp
    have := h1 b a p q (by omega)
    show dm_sg p * R p a * (dm_sg q * R (dm_sk p q) b * dm_det cs (fun r => R (dm_sk p (dm_sk q r)))) = - (dm_sg (q + 1) * R (q + 1) b * (dm_sg p * R (dm_sk (q + 1) p) a * dm_det cs (fun r => R (dm_sk (q + 1) (dm_sk p r)))))
    rw [this, Int.neg_neg]
  rw [u1, u2]
  show (0 : Int) + _ + _ = - ((0 : Int) + _ + _)
  omega
theorem dm_det_rep (j : Nat) : ∀ (cs : List Nat), j ∈ cs → ∀ R : Nat → Nat → Int, dm_det (j :: cs) R = 0 := by
  intro cs
  induction cs with
  | nil => intro h; cases h
  | cons c cs ih =>
    intro h R
    have e := dm_det_colswap j c cs R
    by_cases hj : j = c
    · subst hj
      omega
    · have hm : j ∈ cs := by
        cases h with
        | head => exact absurd rfl hj
        | tail _ h => exact h
      rw [e, dm_det_cons, dm_sum_zero, Int.neg_zero]
      intro i _
      rw [ih hm, Int.mul_zero]
theorem dm_sw_sk_lo {a i : Nat} (h : i < a) (r : Nat) : dm_sw a (dm_sk i r) = dm_sk i (dm_sw (a - 1) r) := by
  obtain ⟨b, rfl⟩ : ∃ b, a = b + 1 := ⟨a - 1, by omega⟩
  rw [Nat.add_sub_cancel]
  by_cases h1 : r < i
  · rw [dm_sk_lt h1, dm_sw_o (by omega) (by omega), dm_sw_o (by omega) (by omega), dm_sk_lt h1]
  · rw [dm_sk_ge h1]
    by_cases h2 : r = b
    · subst h2
      rw [dm_sw_l, dm_sw_l, dm_sk_ge (by omega)]
    · by_cases h3 : r = b + 1
      · subst h3
        rw [dm_sw_r, dm_sw_r, dm_sk_ge (by omega)]
      · rw [dm_sw_o (by omega) (by omega), dm_sw_o h2 h3, dm_sk_ge h1]
theorem dm_sw_sk_hi {a i : Nat} (h : a + 1 < i) (r : Nat) : dm_sw a (dm_sk i r) = dm_sk i (dm_sw a r) := by
  by_cases h2 : r = a
  · subst h2
    rw [dm_sk_lt (by omega), dm_sw_l, dm_sk_lt h]
  · by_cases h3 : r = a + 1
    · subst h3
      rw [dm_sk_lt h, dm_sw_r, dm_sk_lt (by omega)]
    · rw [dm_sw_o h2 h3]
      by_cases h1 : r < i
      · rw [dm_sk_lt h1, dm_sw_o h2 h3]
      · rw [dm_sk_ge h1, dm_sw_o (by omega) (by omega)]
theorem dm_sw_sk_l (a r : Nat) : dm_sw a (dm_sk a r) = dm_sk (a + 1) r := by
  by_cases h1 : r < a
  · rw [dm_sk_lt h1, dm_sw_o (by omega) (by omega), dm_sk_lt (by omega)]
  · rw [dm_sk_ge h1]
    by_cases h2 : r = a
    · subst h2
      rw [dm_sw_r, dm_sk_lt (by omega)]
    · rw [dm_sw_o (by omega) (by omega), dm_sk_ge (by omega)]
theorem dm_sw_sk_r (a r : Nat) : dm_sw a (dm_sk (a + 1) r) = dm_sk a r := by
  by_cases h1 : r < a
  · rw [dm_sk_lt (by omega), dm_sw_o (by omega) (by omega), dm_sk_lt h1]
  · rw [dm_sk_ge h1]
    by_cases h2 : r = a
    · subst h2
      rw [dm_sk_lt (by omega), dm_sw_l]
    · rw [dm_sk_ge (by omega), dm_sw_o (by omega) (by omega)]
theorem dm_det_rsw : ∀ (cs : List Nat) (a : Nat) (R : Nat → Nat → Int), a + 1 < cs.length → dm_det cs (fun r => R (dm_sw a r)) = - dm_det cs R := by
  intro cs
  induction cs with
  | nil => intro a R h; exact absurd h (Nat.not_lt_zero _)
  | cons j cs ih =>
    intro a R h
    rw [List.length_cons] at h
    rw [dm_det_cons, dm_det_cons]
    rw [← dm_sum_sw (a := a) (fun i => dm_sg i * R i j * dm_det cs (fun r => R (dm_sk i r))) h, ← dm_sum_neg]
    apply dm_sum_congr
    intro i hi
    show dm_sg i * R (dm_sw a i) j * dm_det cs (fun r => R (dm_sw a (dm_sk i r))) = - (dm_sg (dm_sw a i) * R (dm_sw a i) j * dm_det cs (fun r => R (dm_sk (dm_sw a i) r)))
    by_cases h1 : i = a
    · subst h1
      rw [dm_sw_l, dm_sg_s, show (fun r => R (dm_sw i (dm_sk i r))) = (fun r => R (dm_sk (i + 1) r)) from funext (fun r => congrArg R (dm_sw_sk_l i r))]
      rw [Int.neg_mul, Int.neg_mul, Int.neg_neg]
    · by_cases h2 : i = a + 1
      · subst h2
        rw [dm_sw_r, dm_sg_s, show (fun r => R (dm_sw a (dm_sk (a + 1) r))) = (fun r => R (dm_sk a r)) from funext (fun r => congrArg R (dm_sw_sk_r a r))]
        rw [Int.neg_mul, Int.neg_mul]
      · rw [dm_sw_o h1 h2]
        by_cases h3 : i < a
        · rw [show (fun r => R (dm_sw a (dm_sk i r))) = (fun r => R (dm_sk i (dm_sw (a - 1) r))) from funext (fun r => congrArg R (dm_sw_sk_lo h3 r))]
          rw [ih (a - 1) (fun r => R (dm_sk i r)) (by omega), Int.mul_neg]
        · rw [show (fun r => R (dm_sw a (dm_sk i r))) = (fun r => R (dm_sk i (dm_sw a r))) from funext (fun r => congrArg R (dm_sw_sk_hi (by omega) r))]
          rw [ih a (fun r => R (dm_sk i r)) (by omega), Int.mul_neg]
theorem dm_det_req (cs : List Nat) (a : Nat) : ∀ (d : Nat) (R : Nat → Nat → Int), a + 1 + d < cs.length → R a = R (a + 1 + d) → dm_det cs R = 0 := by
  intro d
  induction d with
  | zero =>
    intro R h e
    have e1 : (fun r => R (dm_sw a r)) = R := by
      funext r
      by_cases h1 : r = a
      · subst h1; rw [dm_sw_l]; exact e.symm
      · by_cases h2 : r = a + 1
        · subst h2; rw [dm_sw_r]; exact e
        · rw [dm_sw_o h1 h2]
    have e2 := dm_det_rsw cs a R h
    rw [e1] at e2
    omega
  | succ d ih =>
    intro R h e
    have e2 := dm_det_rsw cs (a + 1 + d) R h
    have e3 := ih (fun r => R (dm_sw (a + 1 + d) r)) (by omega) (by
      show R (dm_sw (a + 1 + d) a) = R (dm_sw (a + 1 + d) (a + 1 + d))
      rw [dm_sw_o (by omega) (by omega), dm_sw_l]
      exact e)
    omega
/-- swap of two rows -/
def dm_tr (k r x : Nat) : Nat := if x = k then r else if x = r then k else x
theorem dm_tr_l (k r : Nat) : dm_tr k r k = r := if_pos rfl
theorem dm_tr_r (k r : Nat) : dm_tr k r r = k := by
  unfold dm_tr
  split
  · assumption
  · rw [if_pos rfl]
theorem dm_tr_o {k r x : Nat} (h : x ≠ k) (h2 : x ≠ r) : dm_tr k r x = x := by
  unfold dm_tr
  rw [if_neg h, if_neg h2]
theorem dm_det_tr (cs : List Nat) (k : Nat) : ∀ (d : Nat) (R : Nat → Nat → Int), k + 1 + d < cs.length → dm_det cs (fun r => R (dm_tr k (k + 1 + d) r)) = - dm_det cs R := by
  intro d
  induction d with
  | zero =>
    intro R h
    exact dm_det_rsw cs k R h
  | succ d ih =>
    intro R h
    have e : (fun r => R (dm_tr k (k + 1 + (d + 1)) r)) = (fun r => R (dm_sw (k + 1 + d) (dm_tr k (k + 1 + d) (dm_sw (k + 1 + d) r)))) := by
      funext x
      congr 1
      by_cases h1 : x = k
      · subst h1
        rw [dm_tr_l, dm_sw_o (r := x) (by omega) (by omega), dm_tr_l, dm_sw_l]
        omega
      · by_cases h2 : x = k + 1 + d
        · subst h2
          rw [dm_sw_l, dm_tr_o (by omega) (by omega), dm_tr_o (by omega) (by omega), dm_sw_r]
        · by_cases h3 : x = k + 1 + d + 1
          · subst h3
            rw [dm_sw_r, dm_tr_r, dm_sw_o (by omega) (by omega)]
            exact dm_tr_r _ _
          · rw [dm_tr_o h1 (by omega), dm_sw_o h2 h3, dm_tr_o h1 h2, dm_sw_o h2 h3]
    rw [e, dm_det_rsw cs (k + 1 + d) (fun r => R (dm_sw (k + 1 + d) (dm_tr k (k + 1 + d) r))) (by omega), ih (fun r => R (dm_sw (k + 1 + d) r)) (by omega), dm_det_rsw cs (k + 1 + d) R (by omega)]
    omega
/-- the bound -/
def dm_B : Nat → Nat
  | 0 => 1
  | n + 1 => (n + 1) * (4 * dm_B n)
theorem dm_sum_bd {n b : Nat} {f : Nat → Int} (h : ∀ i, i < n → (f i).natAbs ≤ b) : (dm_sum n f).natAbs ≤ n * b := by
  induction n with
  | zero => exact Nat.zero_le _
  | succ n ih =>
    show (dm_sum n f + f n).natAbs ≤ (n + 1) * b
    have h1 := ih (fun i hi => h i (by omega))
    have h2 := h n (by omega)
    rw [Nat.succ_mul]
    have h3 := Int.natAbs_add_le (dm_sum n f) (f n)
    omega
theorem dm_det_bd : ∀ (cs : List Nat) (R : Nat → Nat → Int), (∀ r, r < cs.length → ∀ c, c ∈ cs → (R r c).natAbs ≤ 4) → (dm_det cs R).natAbs ≤ dm_B cs.length := by
  intro cs
  induction cs with
  | nil => intro R _; exact Nat.le_refl _
  | cons j cs ih =>
    intro R h
    rw [dm_det_cons]
    show _ ≤ (cs.length + 1) * (4 * dm_B cs.length)
    apply dm_sum_bd
    intro i hi
    rw [Int.natAbs_mul, Int.natAbs_mul, dm_sg_abs, Nat.one_mul]
    apply Nat.mul_le_mul (h i (by rw [List.length_cons]; omega) j List.mem_cons_self)
    apply ih
    intro r hr c hc
    apply h _ _ c (List.mem_cons_of_mem _ hc)
    rw [List.length_cons]
    unfold dm_sk
    split <;> omega
end
section
/-! elimination without fractions: what the table holds at each stage is a minor -/
def dm_dn : Nat → List Nat
  | 0 => []
  | k + 1 => k :: dm_dn k
theorem dm_dn_len (k : Nat) : (dm_dn k).length = k := by
  induction k with
  | zero => rfl
  | succ k ih =>
    show (dm_dn k).length + 1 = k + 1
    rw [ih]
theorem dm_dn_mem {k j : Nat} : j ∈ dm_dn k ↔ j < k := by
  induction k with
  | zero => exact ⟨fun h => (nomatch h), fun h => absurd h (Nat.not_lt_zero _)⟩
  | succ k ih =>
    show j ∈ k :: dm_dn k ↔ _
    rw [List.mem_cons, ih]
    omega
def dm_st (k : Nat) (v : Nat → Int) (A : Nat → Nat → Int) : Nat → Nat → Int := fun r => if r = k then v else A r
theorem dm_st_s (k : Nat) (v : Nat → Int) (A : Nat → Nat → Int) : dm_st k v A k = v := if_pos rfl
theorem dm_st_o {k r : Nat} (v : Nat → Int) (A : Nat → Nat → Int) (h : r ≠ k) : dm_st k v A r = A r := if_neg h
theorem dm_st_id (k : Nat) (A : Nat → Nat → Int) : dm_st k (A k) A = A := by
  funext r
  by_cases h : r = k
  · rw [h, dm_st_s]
  · rw [dm_st_o _ _ h]
def dm_ep : Nat → Int
  | 0 => 1
  | k + 1 => dm_ep k * dm_sg (k + 1)
theorem dm_ep_abs (k : Nat) : (dm_ep k).natAbs = 1 := by
  induction k with
  | zero => rfl
  | succ k ih =>
    show (dm_ep k * dm_sg (k + 1)).natAbs = 1
    rw [Int.natAbs_mul, ih, dm_sg_abs]
theorem dm_ep_ne (k : Nat) : dm_ep k ≠ 0 := by
  have := dm_ep_abs k
  omega
def dm_E (A : Nat → Nat → Int) (k : Nat) (v : Nat → Int) (j : Nat) : Int := dm_ep k * dm_det (j :: dm_dn k) (dm_st k v A)
def dm_e (A : Nat → Nat → Int) (k : Nat) : Int := dm_ep k * dm_sg k * dm_det (dm_dn k) A
def dm_c (A : Nat → Nat → Int) (k : Nat) (v : Nat → Int) (q : Nat) : Int := - (dm_ep k * dm_sg q * dm_det (dm_dn k) (fun r => dm_st k v A (dm_sk q r)))
theorem dm_det_last (A : Nat → Nat → Int) (k : Nat) (v : Nat → Int) : dm_det (dm_dn k) (fun r => dm_st k v A (dm_sk k r)) = dm_det (dm_dn k) A := by
  apply dm_det_congr
  intro r hr c _
  rw [dm_dn_len] at hr
  show dm_st k v A (dm_sk k r) c = A r c
  rw [dm_sk_lt hr, dm_st_o _ _ (by omega)]
theorem dm_ring2 (e s a d : Int) : - (- (e * s * d) * a) = e * (s * a * d) := by grind
theorem dm_ring3 (e s a d : Int) : e * (s * a * d) = e * s * d * a := by grind
theorem dm_E_exp (A : Nat → Nat → Int) (k : Nat) (v : Nat → Int) (j : Nat) : dm_E A k v j = dm_e A k * v j - dm_sum k (fun q => dm_c A k v q * A q j) := by
  unfold dm_E
  rw [dm_det_cons, dm_dn_len]
  show dm_ep k * (dm_sum k (fun i => dm_sg i * dm_st k v A i j * dm_det (dm_dn k) (fun r => dm_st k v A (dm_sk i r))) + dm_sg k * dm_st k v A k j * dm_det (dm_dn k) (fun r => dm_st k v A (dm_sk k r))) = _
  rw [dm_det_last, dm_st_s, Int.mul_add, ← dm_sum_mul]
  have h1 : dm_sum k (fun i => dm_ep k * (dm_sg i * dm_st k v A i j * dm_det (dm_dn k) (fun r => dm_st k v A (dm_sk i r)))) = - dm_sum k (fun q => dm_c A k v q * A q j) := by
    rw [← dm_sum_neg]
    apply dm_sum_congr
    intro i hi
    rw [dm_st_o v A (by omega : i ≠ k)]
    exact (dm_ring2 _ _ _ _).symm
  rw [h1, dm_ring3]
  unfold dm_e
  omega
theorem dm_e_succ (A : Nat → Nat → Int) (k : Nat) : dm_e A (k + 1) = dm_E A k (A k) k := by
  unfold dm_e dm_E
  rw [dm_st_id]
  show dm_ep k * dm_sg (k + 1) * dm_sg (k + 1) * dm_det (k :: dm_dn k) A = _
  rw [Int.mul_assoc (dm_ep k), dm_sg_sq, Int.mul_one]
theorem dm_E_zero (A : Nat → Nat → Int) {k j : Nat} (v : Nat → Int) (h : j < k) : dm_E A k v j = 0 := by
  unfold dm_E
  rw [dm_det_rep j _ (dm_dn_mem.mpr h), Int.mul_zero]
theorem dm_det_row (A : Nat → Nat → Int) {k i : Nat} (j : Nat) (h : i < k) : dm_det (j :: dm_dn k) (dm_st k (A i) A) = 0 := by
  obtain ⟨d, rfl⟩ : ∃ d, k = i + 1 + d := ⟨k - i - 1, by omega⟩
  apply dm_det_req _ i d
  · rw [List.length_cons, dm_dn_len]
    omega
  · rw [dm_st_s, dm_st_o _ _ (by omega)]
theorem dm_ring4 (e x c a S E0 xk : Int) : e * (S + xk * a) = (e * S + xk * (e * a - E0)) + xk * E0 := by grind
theorem dm_uniq (A : Nat → Nat → Int) : ∀ k : Nat, (∀ m, m ≤ k → dm_e A m ≠ 0) → ∀ x : Nat → Int, (∀ j, j < k → dm_sum k (fun q => x q * A q j) = 0) → ∀ q, q < k → x q = 0 := by
  intro k
  induction k with
  | zero => intro _ x _ q hq; exact absurd hq (Nat.not_lt_zero _)
  | succ k ih =>
    intro he x hx
    have hk : ∀ j, j < k + 1 → dm_sum k (fun q => (dm_e A k * x q + x k * dm_c A k (A k) q) * A q j) + x k * dm_E A k (A k) j = 0 := by
      intro j hj
      have h0 : dm_sum k (fun q => x q * A q j) + x k * A k j = 0 := hx j hj
      have h1 := dm_E_exp A k (A k) j
      have h2 : dm_sum k (fun q => (dm_e A k * x q + x k * dm_c A k (A k) q) * A q j) = dm_e A k * dm_sum k (fun q => x q * A q j) + x k * dm_sum k (fun q => dm_c A k (A k) q * A q j) := by
        rw [← dm_sum_mul, ← dm_sum_mul, ← dm_sum_add]
        apply dm_sum_congr
        intro q _
        rw [Int.add_mul, Int.mul_assoc, Int.mul_assoc]
      rw [h2, h1]
      grind
    have hz : ∀ q, q < k → dm_e A k * x q + x k * dm_c A k (A k) q = 0 := by
      apply ih (fun m hm => he m (by omega))
      intro j hj
      have := hk j (by omega)
      rw [dm_E_zero A _ hj, Int.mul_zero, Int.add_zero] at this
      exact this
    have hxk : x k = 0 := by
      have h1 := hk k (by omega)
      rw [dm_sum_zero (fun q hq => by rw [hz q hq, Int.zero_mul]), Int.zero_add, ← dm_e_succ] at h1
      rcases Int.mul_eq_zero.mp h1 with h | h
      · exact h
      · exact absurd h (he (k + 1) (Nat.le_refl _))
    intro q hq
    by_cases h : q = k
    · rw [h]; exact hxk
    · have h1 := hz q (by omega)
      rw [hxk, Int.zero_mul, Int.add_zero] at h1
      rcases Int.mul_eq_zero.mp h1 with h | h
      · exact absurd h (he k (by omega))
      · exact h
theorem dm_bareiss (A : Nat → Nat → Int) (k : Nat) (he : ∀ m, m ≤ k + 1 → dm_e A m ≠ 0) (v : Nat → Int) (j : Nat) : dm_e A k * dm_E A (k + 1) v j = dm_e A (k + 1) * dm_E A k v j - dm_E A k v k * dm_E A k (A k) j := by
  let x : Nat → Int := fun q => if q = k then dm_E A k v k * dm_e A k - dm_e A k * dm_c A (k + 1) v k else dm_e A (k + 1) * dm_c A k v q - dm_E A k v k * dm_c A k (A k) q - dm_e A k * dm_c A (k + 1) v q
  have key : ∀ j, dm_e A k * dm_E A (k + 1) v j - (dm_e A (k + 1) * dm_E A k v j - dm_E A k v k * dm_E A k (A k) j) = dm_sum (k + 1) (fun q => x q * A q j) := by
    intro j
    have h1 := dm_E_exp A (k + 1) v j
    have h2 := dm_E_exp A k v j
    have h3 := dm_E_exp A k (A k) j
    have h4 : dm_sum (k + 1) (fun q => dm_c A (k + 1) v q * A q j) = dm_sum k (fun q => dm_c A (k + 1) v q * A q j) + dm_c A (k + 1) v k * A k j := rfl
    have h5 : dm_sum (k + 1) (fun q => x q * A q j) = dm_sum k (fun q => x q * A q j) + x k * A k j := rfl
    have h6 : x k = dm_E A k v k * dm_e A k - dm_e A k * dm_c A (k + 1) v k := if_pos rfl
    have h7 : dm_sum k (fun q => x q * A q j) = dm_e A (k + 1) * dm_sum k (fun q => dm_c A k v q * A q j) + (- dm_E A k v k) * dm_sum k (fun q => dm_c A k (A k) q * A q j) + (- dm_e A k) * dm_sum k (fun q => dm_c A (k + 1) v q * A q j) := by
      rw [← dm_sum_mul, ← dm_sum_mul, ← dm_sum_mul, ← dm_sum_add, ← dm_sum_add]
      apply dm_sum_congr
      intro q hq
      have h8 : x q = dm_e A (k + 1) * dm_c A k v q - dm_E A k v k * dm_c A k (A k) q - dm_e A k * dm_c A (k + 1) v q := if_neg (by omega)
      rw [h8]
      grind
    rw [h5, h6, h7, h1, h2, h3, h4]
    grind
  have hx : ∀ q, q < k + 1 → x q = 0 := by
    apply dm_uniq A (k + 1) he
    intro j hj
    rw [← key j, dm_E_zero A v hj, Int.mul_zero]
    by_cases h : j = k
    · subst h
      rw [dm_e_succ]
      grind
    · rw [dm_E_zero A v (by omega : j < k), dm_E_zero A (A k) (by omega : j < k), Int.mul_zero, Int.mul_zero]
      rfl
  have h := key j
  rw [dm_sum_zero (fun q hq => by rw [hx q hq, Int.zero_mul])] at h
  omega
theorem dm_sum_one {N j : Nat} {f : Nat → Int} (hj : j < N) (h : ∀ p, p < N → p ≠ j → f p = 0) : dm_sum N f = f j := by
  induction N with
  | zero => omega
  | succ N ih =>
    show dm_sum N f + f N = f j
    by_cases e : j = N
    · subst e
      rw [dm_sum_zero (fun i hi => h i (by omega) (by omega)), Int.zero_add]
    · rw [ih (by omega) (fun p hp => h p (by omega)), h N (by omega) (by omega), Int.add_zero]
def dm_zz : List Nat → (Nat → Nat → Int) → Nat → Int
  | [], _, _ => 0
  | j :: cs, R, p => (if p = j then dm_sg cs.length * dm_det cs R else 0) + dm_sum cs.length (fun i => dm_sg i * R i j * dm_zz cs (fun r => R (dm_sk i r)) p)
theorem dm_zz_cons (j : Nat) (cs : List Nat) (R : Nat → Nat → Int) (p : Nat) : dm_zz (j :: cs) R p = (if p = j then dm_sg cs.length * dm_det cs R else 0) + dm_sum cs.length (fun i => dm_sg i * R i j * dm_zz cs (fun r => R (dm_sk i r)) p) := rfl
theorem dm_zz_out {p : Nat} : ∀ (cs : List Nat) (R : Nat → Nat → Int), ¬ p ∈ cs → dm_zz cs R p = 0 := by
  intro cs
  induction cs with
  | nil => intro R _; rfl
  | cons j cs ih =>
    intro R h
    rw [dm_zz_cons, if_neg (fun e => h (by rw [e]; exact List.mem_cons_self)), dm_sum_zero, Int.zero_add]
    intro i _
    rw [ih _ (fun hm => h (List.mem_cons_of_mem _ hm)), Int.mul_zero]
theorem dm_zz_head {j : Nat} {cs : List Nat} (R : Nat → Nat → Int) (h : ¬ j ∈ cs) : dm_zz (j :: cs) R j = dm_sg cs.length * dm_det cs R := by
  rw [dm_zz_cons, if_pos rfl, dm_sum_zero, Int.add_zero]
  intro i _
  rw [dm_zz_out _ _ h, Int.mul_zero]
theorem dm_ring5 (s a v z : Int) : s * a * (v * z) = v * (s * a * z) := by grind
theorem dm_ring6 (s v d : Int) : s * v * d = v * (s * d) := by grind
theorem dm_zz_lin (N : Nat) (v : Nat → Int) : ∀ (cs : List Nat) (j : Nat) (R : Nat → Nat → Int), j < N → (∀ c, c ∈ cs → c < N) → dm_det (j :: cs) (dm_st cs.length v R) = dm_sum N (fun p => v p * dm_zz (j :: cs) R p) := by
  intro cs
  induction cs with
  | nil =>
    intro j R hj _
    rw [dm_sum_one (j := j) hj (fun p hp hne => by rw [dm_zz_out _ _ (fun h => hne (List.mem_singleton.mp h)), Int.mul_zero])]
    rw [dm_zz_head R (List.not_mem_nil)]
    show (0 : Int) + 1 * v j * 1 = v j * (1 * 1)
    omega
  | cons c cs ih =>
    intro j R hj hc
    rw [dm_det_cons]
    show dm_sum (c :: cs).length (fun i => dm_sg i * dm_st (c :: cs).length v R i j * dm_det (c :: cs) (fun r => dm_st (c :: cs).length v R (dm_sk i r))) + dm_sg (c :: cs).length * dm_st (c :: cs).length v R (c :: cs).length j * dm_det (c :: cs) (fun r => dm_st (c :: cs).length v R (dm_sk (c :: cs).length r)) = _
    have hl : dm_det (c :: cs) (fun r => dm_st (c :: cs).length v R (dm_sk (c :: cs).length r)) = dm_det (c :: cs) R := by
      apply dm_det_congr
      intro r hr q _
      show dm_st (c :: cs).length v R (dm_sk (c :: cs).length r) q = R r q
      rw [dm_sk_lt hr, dm_st_o _ _ (by omega)]
    have hm : dm_sum (c :: cs).length (fun i => dm_sg i * dm_st (c :: cs).length v R i j * dm_det (c :: cs) (fun r => dm_st (c :: cs).length v R (dm_sk i r))) = dm_sum (c :: cs).length (fun i => dm_sum N (fun p => v p * (dm_sg i * R i j * dm_zz (c :: cs) (fun r => R (dm_sk i r)) p))) := by
      apply dm_sum_congr
      intro i hi
      have e : dm_det (c :: cs) (fun r => dm_st (c :: cs).length v R (dm_sk i r)) = dm_det (c :: cs) (dm_st cs.length v (fun r => R (dm_sk i r))) := by
        apply dm_det_congr
        intro r hr q _
        show dm_st (c :: cs).length v R (dm_sk i r) q = dm_st cs.length v (fun r => R (dm_sk i r)) r q
        rw [List.length_cons] at hr hi ⊢
        by_cases h1 : r = cs.length
        · rw [h1, dm_st_s, dm_sk_ge (by omega), dm_st_s]
        · rw [dm_st_o (r := r) _ _ h1, dm_st_o]
          unfold dm_sk
          split <;> omega
      rw [dm_st_o _ _ (by omega : i ≠ (c :: cs).length), e, ih c _ (hc c List.mem_cons_self) (fun d hd => hc d (List.mem_cons_of_mem _ hd)), ← dm_sum_mul]
      apply dm_sum_congr
      intro p _
      exact dm_ring5 _ _ _ _
    rw [hl, hm, dm_st_s, dm_sum_comm]
    have hr : dm_sum N (fun p => v p * dm_zz (j :: c :: cs) R p) = dm_sum N (fun p => v p * (if p = j then dm_sg (c :: cs).length * dm_det (c :: cs) R else 0)) + dm_sum N (fun p => dm_sum (c :: cs).length (fun i => v p * (dm_sg i * R i j * dm_zz (c :: cs) (fun r => R (dm_sk i r)) p))) := by
      rw [← dm_sum_add]
      apply dm_sum_congr
      intro p _
      rw [dm_zz_cons j (c :: cs), Int.mul_add, dm_sum_mul]
    rw [hr, dm_sum_one (f := fun p => v p * (if p = j then dm_sg (c :: cs).length * dm_det (c :: cs) R else 0)) (j := j) hj (fun p hp hne => by show v p * (if p = j then dm_sg (c :: cs).length * dm_det (c :: cs) R else 0) = 0; rw [if_neg hne, Int.mul_zero]), if_pos rfl, dm_ring6]
    omega
theorem dm_ring7 (z s r m : Int) : z * (s * r * m) = s * m * (r * z) := by grind
theorem dm_dep {k : Nat} (hk : k < 8) (z : Nat → Int) (hz : z k ≠ 0) (ho : ∀ p, k < p → z p = 0) (R : Nat → Nat → Int) (hR : ∀ r, r < k + 1 → dm_sum 8 (fun p => R r p * z p) = 0) : dm_det (k :: dm_dn k) R = 0 := by
  have h1 : dm_sum 8 (fun p => z p * dm_det (p :: dm_dn k) R) = z k * dm_det (k :: dm_dn k) R := by
    apply dm_sum_one (f := fun p => z p * dm_det (p :: dm_dn k) R) hk
    intro p _ hne
    show z p * dm_det (p :: dm_dn k) R = 0
    by_cases h : p < k
    · rw [dm_det_rep p _ (dm_dn_mem.mpr h), Int.mul_zero]
    · rw [ho p (by omega), Int.zero_mul]
  have h2 : dm_sum 8 (fun p => z p * dm_det (p :: dm_dn k) R) = dm_sum 8 (fun p => dm_sum (k + 1) (fun i => dm_sg i * dm_det (dm_dn k) (fun r => R (dm_sk i r)) * (R i p * z p))) := by
    apply dm_sum_congr
    intro p _
    rw [dm_det_cons, dm_dn_len, ← dm_sum_mul]
    apply dm_sum_congr
    intro i _
    exact dm_ring7 _ _ _ _
  rw [h1, dm_sum_comm, dm_sum_zero] at h2
  · rcases Int.mul_eq_zero.mp h2 with h | h
    · exact absurd h hz
    · exact h
  · intro i hi
    show dm_sum 8 (fun p => dm_sg i * dm_det (dm_dn k) (fun r => R (dm_sk i r)) * (R i p * z p)) = 0
    rw [dm_sum_mul, hR i hi, Int.mul_zero]
theorem dm_dep_up {k : Nat} (hk : k < 8) (z : Nat → Int) (hz : z k ≠ 0) (ho : ∀ p, k < p → z p = 0) : ∀ (d : Nat) (R : Nat → Nat → Int), (∀ r, r < k + 1 + d → dm_sum 8 (fun p => R r p * z p) = 0) → dm_det (dm_dn (k + 1 + d)) R = 0 := by
  intro d
  induction d with
  | zero => intro R hR; exact dm_dep hk z hz ho R hR
  | succ d ih =>
    intro R hR
    show dm_det ((k + 1 + d) :: dm_dn (k + 1 + d)) R = 0
    rw [dm_det_cons, dm_dn_len, dm_sum_zero]
    intro i hi
    rw [ih (fun r => R (dm_sk i r)), Int.mul_zero]
    intro r hr
    apply hR
    unfold dm_sk
    split <;> omega
theorem dm_zero (A : Nat → Nat → Int) {k : Nat} (hk : k < 8) (he : dm_e A k ≠ 0) (h : ∀ i, k ≤ i → i < 8 → dm_E A k (A i) k = 0) : dm_det (dm_dn 8) A = 0 := by
  have hrow : ∀ i, i < 8 → dm_sum 8 (fun p => A i p * dm_zz (k :: dm_dn k) A p) = 0 := by
    intro i hi
    rw [← dm_zz_lin 8 (A i) (dm_dn k) k A hk (fun c hc => by have := dm_dn_mem.mp hc; omega), dm_dn_len]
    by_cases h1 : i < k
    · exact dm_det_row A k h1
    · rcases Int.mul_eq_zero.mp (h i (by omega) hi) with h | h
      · exact absurd h (dm_ep_ne k)
      · exact h
  have hz : dm_zz (k :: dm_dn k) A k ≠ 0 := by
    rw [dm_zz_head A (fun hm => by have := dm_dn_mem.mp hm; omega), dm_dn_len]
    intro e
    apply he
    unfold dm_e
    rw [Int.mul_assoc, e, Int.mul_zero]
  obtain ⟨d, hd⟩ : ∃ d, 8 = k + 1 + d := ⟨8 - k - 1, by omega⟩
  rw [hd]
  apply dm_dep_up hk _ hz
  · intro p hp
    apply dm_zz_out
    intro hm
    rcases List.mem_cons.mp hm with h | h
    · omega
    · have := dm_dn_mem.mp h
      omega
  · intro r hr
    exact hrow r (by omega)
theorem dm_E_0 (A : Nat → Nat → Int) (v : Nat → Int) (j : Nat) : dm_E A 0 v j = v j := by
  show (1 : Int) * ((0 : Int) + 1 * v j * 1) = v j
  omega
theorem dm_e_0 (A : Nat → Nat → Int) : dm_e A 0 = 1 := rfl
theorem dm_E_congr {A A' : Nat → Nat → Int} {k : Nat} (h : ∀ r, r < k → A r = A' r) (v : Nat → Int) (j : Nat) : dm_E A k v j = dm_E A' k v j := by
  unfold dm_E
  congr 1
  apply dm_det_congr
  intro r hr c _
  rw [List.length_cons, dm_dn_len] at hr
  by_cases e : r = k
  · rw [e, dm_st_s, dm_st_s]
  · rw [dm_st_o _ _ e, dm_st_o _ _ e, h r (by omega)]
theorem dm_e_congr {A A' : Nat → Nat → Int} {k : Nat} (h : ∀ r, r < k → A r = A' r) : dm_e A k = dm_e A' k := by
  unfold dm_e
  congr 1
  apply dm_det_congr
  intro r hr c _
  rw [dm_dn_len] at hr
  rw [h r hr]
theorem dm_B_le : ∀ k, k < 7 → dm_B (k + 1) ≤ 82575360 := by decide +kernel
theorem dm_E_bd {A : Nat → Nat → Int} (hA : ∀ i j, i < 8 → j < 8 → (A i j).natAbs ≤ 4) {k i j : Nat} (hk : k < 7) (hi : i < 8) (hj : j < 8) : (dm_E A k (A i) j).natAbs ≤ 82575360 := by
  unfold dm_E
  rw [Int.natAbs_mul, dm_ep_abs, Nat.one_mul]
  refine Nat.le_trans (dm_det_bd _ _ ?_) (by rw [List.length_cons, dm_dn_len]; exact dm_B_le k hk)
  intro r hr c hc
  rw [List.length_cons, dm_dn_len] at hr
  have hc8 : c < 8 := by
    rcases List.mem_cons.mp hc with h | h
    · omega
    · have := dm_dn_mem.mp h
      omega
  by_cases e : r = k
  · rw [e, dm_st_s]
    exact hA i c hi hc8
  · rw [dm_st_o _ _ e]
    exact hA r c (by omega) hc8
theorem dm_e_8 (A : Nat → Nat → Int) : (dm_e A 8).natAbs = (dm_det (dm_dn 8) A).natAbs := by
  unfold dm_e
  rw [Int.natAbs_mul, Int.natAbs_mul, dm_ep_abs, dm_sg_abs, Nat.mul_one, Nat.one_mul]
end
section
/-! the board: which place stands in which cell of the table, the 256 bit patterns and the 36 tilings -/
def dm_pl (x : Nat) : Nat := ([0, 24, 12, 24, 24, 24, 24, 24, 1, 2, 24, 14, 24, 24, 24, 24, 13, 24, 3, 4, 17, 24, 24, 24, 24, 15, 24, 5, 24, 19, 24, 24, 24, 24, 16, 24, 6, 24, 20, 24, 24, 24, 24, 18, 7, 8, 24, 22, 24, 24, 24, 24, 21, 24, 9, 10, 24, 24, 24, 24, 24, 23, 24, 11] : List Nat).getD x 24
def dm_ce (p : Nat) : Nat := ([0, 8, 9, 18, 19, 27, 36, 44, 45, 54, 55, 63, 2, 16, 11, 25, 34, 20, 43, 29, 38, 52, 47, 61] : List Nat).getD p 64
def dm_to (p : Nat) : Nat := ([15, 19, 23, 14, 18, 22, 13, 17, 21, 12, 16, 20, 2, 5, 8, 11, 1, 4, 7, 10, 0, 3, 6, 9] : List Nat).getD p 24
def dm_ML : List Nat := [2925, 0, 0, 15204, 0, 39762, 52041, 0, 0, 0, 0, 0, 199461, 0, 0, 64320, 0, 0, 0, 0, 592533, 0, 0, 0, 789069, 0, 0, 801348, 0, 0, 248577, 0, 0, 0, 0, 0, 0, 0, 0, 0, 0, 0, 0, 0, 0, 0, 0, 0, 3148077, 0, 0, 3160356, 0, 3184914, 3197193, 0, 0, 0, 0, 0, 985605, 0, 0, 3209472, 0, 0, 0, 0, 0, 0, 0, 0, 0, 0, 0, 0, 0, 0, 0, 0, 9438381, 0, 0, 9450660, 0, 9475218, 9487497, 0, 0, 0, 0, 0, 0, 0, 0, 9499776, 12583533, 0, 0, 12595812, 0, 12620370, 12632649, 0, 0, 0, 0, 0, 12780069, 0, 0, 12644928, 0, 0, 0, 0, 0, 0, 0, 0, 3934221, 0, 0, 3946500, 0, 9868290, 12829185, 0, 0, 0, 0, 0, 0, 0, 0, 0, 0, 0, 0, 0, 0, 0, 0, 0, 0, 0, 0, 0, 0, 0, 0, 0, 0, 0, 0, 0, 0, 0, 0, 0, 0, 0, 0, 0, 0, 0, 0, 0, 0, 0, 0, 0, 0, 0, 0, 0, 0, 0, 0, 0, 0, 0, 0, 0, 0, 0, 0, 0, 0, 0, 0, 0, 0, 0, 0, 0, 0, 0, 0, 0, 0, 0, 0, 0, 0, 0, 0, 0, 0, 0, 0, 0, 0, 0, 0, 0, 0, 0, 0, 0, 0, 0, 0, 0, 0, 0, 0, 0, 0, 0, 0, 0, 0, 0, 0, 0, 0, 0, 0, 0, 15728685, 0, 0, 15740964, 0, 15765522, 15777801, 0, 0, 0, 0, 0, 0, 0, 0, 15790080]
def dm_TM (b : Nat) : Nat := dm_ML.getD b 0
def dm_TL : List Nat := [2925, 15204, 39762, 52041, 199461, 64320, 592533, 789069, 801348, 248577, 3148077, 3160356, 3184914, 3197193, 985605, 3209472, 9438381, 9450660, 9475218, 9487497, 9499776, 12583533, 12595812, 12620370, 12632649, 12780069, 12644928, 3934221, 3946500, 9868290, 12829185, 15728685, 15740964, 15765522, 15777801, 15790080]
def dm_ng (p : Nat) : Bool := decide (12 ≤ p) && decide (p % 2 = 1)
def dm_en (w : Nat → Nat) (p : Nat) : Int := if p < 24 then (if dm_ng p = true then - (w p : Int) else (w p : Int)) else 0
def dm_A (w : Nat → Nat) (r c : Nat) : Int := dm_en w (dm_pl (r * 8 + c))
theorem dm_A_bd {w : Nat → Nat} (hw : ∀ p, p < 24 → w p ≤ 4) (i j : Nat) : (dm_A w i j).natAbs ≤ 4 := by
  unfold dm_A dm_en
  split
  · rename_i h
    have := hw _ h
    split <;> omega
  · decide
/-! symbolic determinant -/
def dm_pr (w : Nat → Nat) : List Nat → Nat
  | [] => 1
  | p :: l => w p * dm_pr w l
def dm_ins (p : Nat) : List Nat → List Nat
  | [] => [p]
  | q :: l => if p ≤ q then p :: q :: l else q :: dm_ins p l
theorem dm_pr_ins (w : Nat → Nat) (p : Nat) (l : List Nat) : dm_pr w (dm_ins p l) = w p * dm_pr w l := by
  induction l with
  | nil => rfl
  | cons q l ih =>
    unfold dm_ins
    split
    · rfl
    · show w q * dm_pr w (dm_ins p l) = w p * (w q * dm_pr w l)
      rw [ih, Nat.mul_left_comm]
def dm_fm {α : Type} : Nat → (Nat → List α) → List α
  | 0, _ => []
  | n + 1, f => dm_fm n f ++ f n
def dm_sdm (i p : Nat) (l : List (Int × List Nat)) : List (Int × List Nat) := if p < 24 then l.map (fun x => (dm_sg i * (if dm_ng p = true then -1 else 1) * x.1, dm_ins p x.2)) else []
def dm_sd : List Nat → (Nat → Nat) → List (Int × List Nat)
  | [], _ => [(1, [])]
  | j :: cs, ro => dm_fm (cs.length + 1) (fun i => dm_sdm i (dm_pl (ro i * 8 + j)) (dm_sd cs (fun r => ro (dm_sk i r))))
def dm_ev (w : Nat → Nat) : List (Int × List Nat) → Int
  | [] => 0
  | x :: l => x.1 * (dm_pr w x.2 : Int) + dm_ev w l
theorem dm_ev_app (w : Nat → Nat) (l m : List (Int × List Nat)) : dm_ev w (l ++ m) = dm_ev w l + dm_ev w m := by
  induction l with
  | nil => exact (Int.zero_add _).symm
  | cons x l ih =>
    show x.1 * (dm_pr w x.2 : Int) + dm_ev w (l ++ m) = x.1 * (dm_pr w x.2 : Int) + dm_ev w l + dm_ev w m
    rw [ih, Int.add_assoc]
theorem dm_ev_fm (w : Nat → Nat) (n : Nat) (f : Nat → List (Int × List Nat)) : dm_ev w (dm_fm n f) = dm_sum n (fun i => dm_ev w (f i)) := by
  induction n with
  | zero => rfl
  | succ n ih =>
    show dm_ev w (dm_fm n f ++ f n) = dm_sum n (fun i => dm_ev w (f i)) + dm_ev w (f n)
    rw [dm_ev_app, ih]
theorem dm_ring8 (s t x p v e : Int) : s * t * x * (p * v) + s * (t * p) * e = s * (t * p) * (x * v + e) := by grind
theorem dm_ev_map (w : Nat → Nat) (s t : Int) (p : Nat) (l : List (Int × List Nat)) : dm_ev w (l.map (fun x => (s * t * x.1, dm_ins p x.2))) = s * (t * (w p : Int)) * dm_ev w l := by
  induction l with
  | nil => exact (Int.mul_zero _).symm
  | cons x l ih =>
    show s * t * x.1 * (dm_pr w (dm_ins p x.2) : Int) + dm_ev w (l.map (fun x => (s * t * x.1, dm_ins p x.2))) = s * (t * (w p : Int)) * (x.1 * (dm_pr w x.2 : Int) + dm_ev w l)
    rw [ih, dm_pr_ins, Int.natCast_mul]
    exact dm_ring8 _ _ _ _ _ _
theorem dm_ev_sdm (w : Nat → Nat) (i p : Nat) (l : List (Int × List Nat)) : dm_ev w (dm_sdm i p l) = dm_sg i * dm_en w p * dm_ev w l := by
  unfold dm_sdm dm_en
  by_cases h : p < 24
  · rw [if_pos h, if_pos h, dm_ev_map]
    congr 2
    split
    · rw [Int.neg_mul, Int.one_mul]
    · rw [Int.one_mul]
  · rw [if_neg h, if_neg h, Int.mul_zero, Int.zero_mul]
    rfl
theorem dm_sd_det (w : Nat → Nat) : ∀ (cs : List Nat) (ro : Nat → Nat), dm_det cs (fun r => dm_A w (ro r)) = dm_ev w (dm_sd cs ro) := by
  intro cs
  induction cs with
  | nil => intro ro; rfl
  | cons j cs ih =>
    intro ro
    rw [dm_det_cons]
    show _ = dm_ev w (dm_fm (cs.length + 1) (fun i => dm_sdm i (dm_pl (ro i * 8 + j)) (dm_sd cs (fun r => ro (dm_sk i r)))))
    rw [dm_ev_fm]
    apply dm_sum_congr
    intro i _
    rw [dm_ev_sdm, ← ih]
    rfl
/-! products over the bits of a mask -/
def dm_wt (w : Nat → Nat) (m : Nat) : Nat → Nat
  | 0 => 1
  | n + 1 => dm_wt w m n * (if m.testBit n = true then w n else 1)
def dm_ml (m : Nat) : Nat → List Nat
  | 0 => []
  | n + 1 => dm_ml m n ++ (if m.testBit n = true then [n] else [])
theorem dm_pr_app (w : Nat → Nat) (l m : List Nat) : dm_pr w (l ++ m) = dm_pr w l * dm_pr w m := by
  induction l with
  | nil => exact (Nat.one_mul _).symm
  | cons x l ih =>
    show w x * dm_pr w (l ++ m) = w x * dm_pr w l * dm_pr w m
    rw [ih, Nat.mul_assoc]
theorem dm_wt_ml (w : Nat → Nat) (m n : Nat) : dm_wt w m n = dm_pr w (dm_ml m n) := by
  induction n with
  | zero => rfl
  | succ n ih =>
    show dm_wt w m n * (if m.testBit n = true then w n else 1) = dm_pr w (dm_ml m n ++ (if m.testBit n = true then [n] else []))
    rw [dm_pr_app, ih]
    congr 1
    split
    · exact (Nat.mul_one _).symm
    · rfl
def dm_zl (f : Nat → Nat) : List Nat → Nat
  | [] => 0
  | m :: l => f m + dm_zl f l
def dm_Z (w : Nat → Nat) : Nat := dm_zl (fun m => dm_wt w m 24) dm_TL
theorem dm_ev_perm (w : Nat → Nat) {l m : List (Int × List Nat)} (h : l.Perm m) : dm_ev w l = dm_ev w m := by
  induction h with
  | nil => rfl
  | cons x _ ih =>
    show x.1 * (dm_pr w x.2 : Int) + _ = x.1 * (dm_pr w x.2 : Int) + _
    rw [ih]
  | swap x y l =>
    show y.1 * (dm_pr w y.2 : Int) + (x.1 * (dm_pr w x.2 : Int) + dm_ev w l) = x.1 * (dm_pr w x.2 : Int) + (y.1 * (dm_pr w y.2 : Int) + dm_ev w l)
    exact Int.add_left_comm _ _ _
  | trans _ _ h1 h2 => exact h1.trans h2
theorem dm_ev_ones (w : Nat → Nat) (l : List Nat) : dm_ev w (l.map (fun m => ((1 : Int), dm_ml m 24))) = (dm_zl (fun m => dm_wt w m 24) l : Int) := by
  induction l with
  | nil => rfl
  | cons m l ih =>
    show (1 : Int) * (dm_pr w (dm_ml m 24) : Int) + dm_ev w (l.map (fun m => ((1 : Int), dm_ml m 24))) = ((dm_wt w m 24 + dm_zl (fun m => dm_wt w m 24) l : Nat) : Int)
    rw [ih, dm_wt_ml]
    omega
theorem dm_permB : (dm_sd (dm_dn 8) (fun r => r)).isPerm (dm_TL.map (fun m => ((1 : Int), dm_ml m 24))) = true := by decide +kernel
theorem dm_kasteleyn (w : Nat → Nat) : dm_det (dm_dn 8) (dm_A w) = (dm_Z w : Int) := by
  have h := dm_sd_det w (dm_dn 8) (fun r => r)
  rw [dm_ev_perm w (List.isPerm_iff.mp dm_permB), dm_ev_ones] at h
  exact h
end
section
/-! plain laws of the sums over tilings -/
theorem dm_zl_congr {f g : Nat → Nat} {l : List Nat} (h : ∀ m, m ∈ l → f m = g m) : dm_zl f l = dm_zl g l := by
  induction l with
  | nil => rfl
  | cons x l ih =>
    show f x + dm_zl f l = g x + dm_zl g l
    rw [h x List.mem_cons_self, ih (fun m hm => h m (List.mem_cons_of_mem _ hm))]
theorem dm_zl_add (f g : Nat → Nat) (l : List Nat) : dm_zl (fun m => f m + g m) l = dm_zl f l + dm_zl g l := by
  induction l with
  | nil => rfl
  | cons x l ih =>
    show f x + g x + dm_zl (fun m => f m + g m) l = f x + dm_zl f l + (g x + dm_zl g l)
    rw [ih]
    omega
theorem dm_zl_0 {f : Nat → Nat} {l : List Nat} : dm_zl f l = 0 ↔ ∀ m, m ∈ l → f m = 0 := by
  induction l with
  | nil => exact ⟨fun _ m hm => (nomatch hm), fun _ => rfl⟩
  | cons x l ih =>
    show f x + dm_zl f l = 0 ↔ _
    rw [Nat.add_eq_zero_iff, ih]
    constructor
    · intro h m hm
      rcases List.mem_cons.mp hm with e | e
      · rw [e]; exact h.1
      · exact h.2 m e
    · intro h
      exact ⟨h x List.mem_cons_self, fun m hm => h m (List.mem_cons_of_mem _ hm)⟩
theorem dm_zl_bd {f : Nat → Nat} {l : List Nat} {b : Nat} (h : ∀ m, m ∈ l → f m ≤ b) : dm_zl f l ≤ l.length * b := by
  induction l with
  | nil => exact Nat.zero_le _
  | cons x l ih =>
    show f x + dm_zl f l ≤ (l.length + 1) * b
    have h1 := h x List.mem_cons_self
    have h2 := ih (fun m hm => h m (List.mem_cons_of_mem _ hm))
    rw [Nat.succ_mul]
    omega
def dm_wz (w : Nat → Nat) (p : Nat) : Nat → Nat := fun q => if q = p then 0 else w q
theorem dm_wz_s (w : Nat → Nat) (p : Nat) : dm_wz w p p = 0 := if_pos rfl
theorem dm_wz_o (w : Nat → Nat) {p q : Nat} (h : q ≠ p) : dm_wz w p q = w q := if_neg h
theorem dm_wt_lo (w : Nat → Nat) (m p : Nat) : ∀ n, n ≤ p → dm_wt (dm_wz w p) m n = dm_wt w m n := by
  intro n
  induction n with
  | zero => intro _; rfl
  | succ n ih =>
    intro h
    show dm_wt (dm_wz w p) m n * (if m.testBit n = true then dm_wz w p n else 1) = dm_wt w m n * (if m.testBit n = true then w n else 1)
    rw [ih (by omega), dm_wz_o w (by omega : n ≠ p)]
theorem dm_wt_t (w : Nat → Nat) (m p : Nat) (hb : m.testBit p = true) : ∀ d, dm_wt (dm_wz w p) m (p + 1 + d) = 0 := by
  intro d
  induction d with
  | zero =>
    show dm_wt (dm_wz w p) m p * (if m.testBit p = true then dm_wz w p p else 1) = 0
    rw [if_pos hb, dm_wz_s, Nat.mul_zero]
  | succ d ih =>
    show dm_wt (dm_wz w p) m (p + 1 + d) * _ = 0
    rw [ih, Nat.zero_mul]
theorem dm_wt_f (w : Nat → Nat) (m p : Nat) (hb : ¬ m.testBit p = true) (n : Nat) : dm_wt (dm_wz w p) m n = dm_wt w m n := by
  induction n with
  | zero => rfl
  | succ n ih =>
    show dm_wt (dm_wz w p) m n * (if m.testBit n = true then dm_wz w p n else 1) = dm_wt w m n * (if m.testBit n = true then w n else 1)
    rw [ih]
    congr 1
    by_cases e : n = p
    · subst e
      rw [if_neg hb, if_neg hb]
    · rw [dm_wz_o w e]
theorem dm_wt_wz (w : Nat → Nat) (m : Nat) {p : Nat} (hp : p < 24) : dm_wt (dm_wz w p) m 24 = if m.testBit p = true then 0 else dm_wt w m 24 := by
  by_cases hb : m.testBit p = true
  · rw [if_pos hb]
    have := dm_wt_t w m p hb (23 - p)
    rw [show p + 1 + (23 - p) = 24 by omega] at this
    exact this
  · rw [if_neg hb, dm_wt_f w m p hb]
def dm_S (P : Nat → Bool) (w : Nat → Nat) : Nat := dm_zl (fun m => if P m = true then dm_wt w m 24 else 0) dm_TL
theorem dm_S_all (w : Nat → Nat) : dm_S (fun _ => true) w = dm_Z w := by
  apply dm_zl_congr
  intro m _
  exact if_pos rfl
theorem dm_S_split (P : Nat → Bool) (w : Nat → Nat) {p : Nat} (hp : p < 24) : dm_S P w = dm_S (fun m => P m && m.testBit p) w + dm_S P (dm_wz w p) := by
  unfold dm_S
  rw [← dm_zl_add]
  apply dm_zl_congr
  intro m _
  show (if P m = true then dm_wt w m 24 else 0) = (if (P m && m.testBit p) = true then dm_wt w m 24 else 0) + (if P m = true then dm_wt (dm_wz w p) m 24 else 0)
  rw [dm_wt_wz w m hp]
  cases P m
  · rfl
  · cases m.testBit p
    · show dm_wt w m 24 = 0 + dm_wt w m 24
      omega
    · rfl
theorem dm_Z_split (w : Nat → Nat) {p : Nat} (hp : p < 24) : dm_Z w = dm_S (fun m => m.testBit p) w + dm_Z (dm_wz w p) := by
  have h := dm_S_split (fun _ => true) w hp
  rw [dm_S_all, dm_S_all] at h
  rw [h]
  congr 1
def dm_on (w : Nat → Nat) : Nat → Nat := fun p => if 0 < w p then 1 else 0
theorem dm_wt_on (w : Nat → Nat) (m n : Nat) : dm_wt (dm_on w) m n = if 0 < dm_wt w m n then 1 else 0 := by
  induction n with
  | zero => rfl
  | succ n ih =>
    show dm_wt (dm_on w) m n * (if m.testBit n = true then dm_on w n else 1) = if 0 < dm_wt w m n * (if m.testBit n = true then w n else 1) then 1 else 0
    rw [ih]
    cases m.testBit n
    · show (if 0 < dm_wt w m n then 1 else 0) * 1 = if 0 < dm_wt w m n * 1 then 1 else 0
      rw [Nat.mul_one, Nat.mul_one]
    · show (if 0 < dm_wt w m n then 1 else 0) * (if 0 < w n then 1 else 0) = if 0 < dm_wt w m n * w n then 1 else 0
      by_cases h1 : 0 < dm_wt w m n
      · by_cases h2 : 0 < w n
        · rw [if_pos h1, if_pos h2, if_pos (Nat.mul_pos h1 h2)]
        · have : w n = 0 := by omega
          rw [this, Nat.mul_zero]
          rfl
      · have : dm_wt w m n = 0 := by omega
        rw [this, Nat.zero_mul]
        exact Nat.zero_mul _
theorem dm_ml_lt {m p : Nat} : ∀ n, p ∈ dm_ml m n → p < n := by
  intro n
  induction n with
  | zero => intro h; cases h
  | succ n ih =>
    intro h
    have h2 : p ∈ dm_ml m n ++ (if m.testBit n = true then [n] else []) := h
    rcases List.mem_append.mp h2 with h | h
    · have := ih h
      omega
    · split at h
      · have := List.mem_singleton.mp h
        omega
      · cases h
theorem dm_pr_bd {w : Nat → Nat} {l : List Nat} (h : ∀ p, p ∈ l → w p ≤ 4) : dm_pr w l ≤ 4 ^ l.length := by
  induction l with
  | nil => exact Nat.le_refl _
  | cons p l ih =>
    show w p * dm_pr w l ≤ 4 ^ (l.length + 1)
    rw [Nat.pow_succ, Nat.mul_comm]
    exact Nat.mul_le_mul (ih (fun q hq => h q (List.mem_cons_of_mem _ hq))) (h p List.mem_cons_self)
theorem dm_TL_len : ∀ m, m ∈ dm_TL → (dm_ml m 24).length = 8 := by decide +kernel
theorem dm_TL_pos : ∀ m, m ∈ dm_TL → m ≠ 0 := by decide +kernel
theorem dm_wt_bd {w : Nat → Nat} (hw : ∀ p, p < 24 → w p ≤ 4) {m : Nat} (hm : m ∈ dm_TL) : dm_wt w m 24 ≤ 65536 := by
  have h := dm_pr_bd (w := w) (l := dm_ml m 24) (fun p hp => hw p (dm_ml_lt 24 hp))
  rw [dm_TL_len m hm] at h
  rw [dm_wt_ml]
  exact h
theorem dm_S_bd {w : Nat → Nat} (hw : ∀ p, p < 24 → w p ≤ 4) (P : Nat → Bool) : dm_S P w ≤ 2359296 := by
  have h : dm_S P w ≤ dm_TL.length * 65536 := by
    apply dm_zl_bd
    intro m hm
    show (if P m = true then dm_wt w m 24 else 0) ≤ 65536
    have := dm_wt_bd hw hm
    split <;> omega
  exact h
theorem dm_Z_bd {w : Nat → Nat} (hw : ∀ p, p < 24 → w p ≤ 4) : dm_Z w ≤ 2359296 := by
  rw [← dm_S_all]
  exact dm_S_bd hw _
theorem dm_wz_bd {w : Nat → Nat} (hw : ∀ p, p < 24 → w p ≤ 4) (q : Nat) : ∀ p, p < 24 → dm_wz w q p ≤ 4 := by
  intro p hp
  have := hw p hp
  unfold dm_wz
  split <;> omega
theorem dm_on_bd (w : Nat → Nat) : ∀ p, p < 24 → dm_on w p ≤ 4 := by
  intro p _
  unfold dm_on
  split <;> omega
/-! the reference's sums over 256 patterns -/
def dm_ns : Nat → (Nat → Nat) → Nat
  | 0, _ => 0
  | n + 1, f => dm_ns n f + f n
theorem dm_ns_congr {n : Nat} {f g : Nat → Nat} (h : ∀ i, i < n → f i = g i) : dm_ns n f = dm_ns n g := by
  induction n with
  | zero => rfl
  | succ n ih =>
    show dm_ns n f + f n = dm_ns n g + g n
    rw [ih (fun i hi => h i (by omega)), h n (by omega)]
theorem dm_ns_front (n : Nat) (f : Nat → Nat) : dm_ns (n + 1) f = f 0 + dm_ns n (fun i => f (i + 1)) := by
  induction n with
  | zero => show 0 + f 0 = f 0 + 0; omega
  | succ n ih =>
    show dm_ns (n + 1) f + f (n + 1) = f 0 + (dm_ns n (fun i => f (i + 1)) + f (n + 1))
    rw [ih]
    omega
theorem dm_ns_0 {n : Nat} {f : Nat → Nat} : dm_ns n f = 0 ↔ ∀ i, i < n → f i = 0 := by
  induction n with
  | zero => exact ⟨fun _ i hi => absurd hi (Nat.not_lt_zero _), fun _ => rfl⟩
  | succ n ih =>
    show dm_ns n f + f n = 0 ↔ _
    rw [Nat.add_eq_zero_iff, ih]
    constructor
    · intro h i hi
      by_cases e : i = n
      · rw [e]; exact h.2
      · exact h.1 i (by omega)
    · intro h
      exact ⟨fun i hi => h i (by omega), h n (by omega)⟩
theorem dm_ns_list (g : Nat → Nat) (l : List Nat) : dm_ns l.length (fun b => g (l.getD b 0)) = dm_zl g l := by
  induction l with
  | nil => rfl
  | cons x l ih =>
    show dm_ns (l.length + 1) _ = g x + dm_zl g l
    rw [dm_ns_front, ← ih]
    rfl
theorem dm_zl_filter {g : Nat → Nat} (h0 : g 0 = 0) (l : List Nat) : dm_zl g (l.filter (fun m => m != 0)) = dm_zl g l := by
  induction l with
  | nil => rfl
  | cons x l ih =>
    by_cases h : x = 0
    · subst h
      show dm_zl g (l.filter (fun m => m != 0)) = g 0 + dm_zl g l
      rw [ih, h0, Nat.zero_add]
    · rw [List.filter_cons_of_pos (by simp [h])]
      show g x + dm_zl g (l.filter (fun m => m != 0)) = g x + dm_zl g l
      rw [ih]
theorem dm_ML_TL : dm_ML.filter (fun m => m != 0) = dm_TL := by decide +kernel
theorem dm_ns_TL {g : Nat → Nat} (h0 : g 0 = 0) : dm_ns 256 (fun b => g (dm_TM b)) = dm_zl g dm_TL := by
  rw [← dm_ML_TL, dm_zl_filter h0, ← dm_ns_list]
  rfl
def dm_wo (w : Nat → Nat) (m : Nat) : Nat := if m = 0 then 0 else dm_wt w m 24
theorem dm_wo_0 (w : Nat → Nat) : dm_wo w 0 = 0 := rfl
theorem dm_wo_TL (w : Nat → Nat) {m : Nat} (hm : m ∈ dm_TL) : dm_wo w m = dm_wt w m 24 := if_neg (dm_TL_pos m hm)
theorem dm_yS (Q : Nat → Bool) (w : Nat → Nat) : dm_ns 256 (fun b => if Q (dm_TM b) = true then dm_wo w (dm_TM b) else 0) = dm_S Q w := by
  rw [dm_ns_TL (g := fun m => if Q m = true then dm_wo w m else 0) (by show (if Q 0 = true then dm_wo w 0 else 0) = 0; rw [dm_wo_0]; split <;> rfl)]
  apply dm_zl_congr
  intro m hm
  show (if Q m = true then dm_wo w m else 0) = _
  rw [dm_wo_TL w hm]
theorem dm_yP (w : Nat → Nat) : dm_ns 256 (fun b => if 0 < dm_wo w (dm_TM b) then 1 else 0) = dm_Z (dm_on w) := by
  rw [dm_ns_TL (g := fun m => if 0 < dm_wo w m then 1 else 0) rfl]
  apply dm_zl_congr
  intro m hm
  show (if 0 < dm_wo w m then 1 else 0) = dm_wt (dm_on w) m 24
  rw [dm_wo_TL w hm, dm_wt_on]
theorem dm_TM_lt : ∀ b, b < 256 → dm_TM b < 16777216 := by decide +kernel
theorem dm_TM_TL : ∀ b, b < 256 → dm_TM b ≠ 0 → dm_TM b ∈ dm_TL := by decide +kernel
theorem dm_wo_bd {w : Nat → Nat} (hw : ∀ p, p < 24 → w p ≤ 4) {b : Nat} (hb : b < 256) : dm_wo w (dm_TM b) ≤ 65536 := by
  by_cases h : dm_TM b = 0
  · rw [h, dm_wo_0]
    omega
  · have hm := dm_TM_TL b hb h
    rw [dm_wo_TL w hm]
    exact dm_wt_bd hw hm
theorem dm_can (w : Nat → Nat) (P : Nat → Bool) : dm_S P (dm_on w) = 0 ↔ dm_S P w = 0 := by
  unfold dm_S
  rw [dm_zl_0, dm_zl_0]
  have h : ∀ m, (if P m = true then dm_wt (dm_on w) m 24 else 0) = 0 ↔ (if P m = true then dm_wt w m 24 else 0) = 0 := by
    intro m
    rw [dm_wt_on]
    split
    · split <;> omega
    · exact Iff.rfl
  exact ⟨fun k m hm => (h m).mp (k m hm), fun k m hm => (h m).mpr (k m hm)⟩
def dm_cm (w : Nat → Nat) : Nat → Nat
  | 0 => 16777215
  | n + 1 => if 0 < dm_wo w (dm_TM n) then dm_cm w n &&& dm_TM n else dm_cm w n
theorem dm_cm_lt (w : Nat → Nat) (n : Nat) : dm_cm w n < 16777216 := by
  induction n with
  | zero => show 16777215 < 16777216; omega
  | succ n ih =>
    show (if 0 < dm_wo w (dm_TM n) then dm_cm w n &&& dm_TM n else dm_cm w n) < 16777216
    split
    · exact Nat.lt_of_le_of_lt Nat.and_le_left ih
    · exact ih
theorem dm_full : ∀ p, p < 24 → (16777215 : Nat).testBit p = true := by decide +kernel
theorem dm_cm_bit (w : Nat → Nat) {p : Nat} (hp : p < 24) (n : Nat) : (dm_cm w n).testBit p = true ↔ ∀ b, b < n → (if 0 < dm_wo w (dm_TM b) then (if (dm_TM b).testBit p = true then 0 else 1) else 0) = 0 := by
  induction n with
  | zero => exact ⟨fun _ b hb => absurd hb (Nat.not_lt_zero _), fun _ => dm_full p hp⟩
  | succ n ih =>
    have h1 : (dm_cm w (n + 1)).testBit p = true ↔ (dm_cm w n).testBit p = true ∧ (if 0 < dm_wo w (dm_TM n) then (if (dm_TM n).testBit p = true then 0 else 1) else 0) = 0 := by
      show (if 0 < dm_wo w (dm_TM n) then dm_cm w n &&& dm_TM n else dm_cm w n).testBit p = true ↔ _
      by_cases h : 0 < dm_wo w (dm_TM n)
      · rw [if_pos h, if_pos h, Nat.testBit_and]
        cases (dm_cm w n).testBit p <;> cases (dm_TM n).testBit p <;> simp
      · rw [if_neg h, if_neg h]
        exact ⟨fun a => ⟨a, rfl⟩, fun a => a.1⟩
    rw [h1, ih]
    constructor
    · intro h b hb
      by_cases e : b = n
      · rw [e]; exact h.2
      · exact h.1 b (by omega)
    · intro h
      exact ⟨fun b hb => h b (by omega), h n (by omega)⟩
theorem dm_cm_all (w : Nat → Nat) {p : Nat} (hp : p < 24) : (dm_cm w 256).testBit p = true ↔ ∀ m, m ∈ dm_TL → 0 < dm_wt w m 24 → m.testBit p = true := by
  rw [dm_cm_bit w hp, ← dm_ns_0, dm_ns_TL (g := fun m => if 0 < dm_wo w m then (if m.testBit p = true then 0 else 1) else 0) rfl, dm_zl_0]
  have h : ∀ m, m ∈ dm_TL → ((if 0 < dm_wo w m then (if m.testBit p = true then 0 else 1) else 0) = 0 ↔ (0 < dm_wt w m 24 → m.testBit p = true)) := by
    intro m hm
    rw [dm_wo_TL w hm]
    by_cases h1 : 0 < dm_wt w m 24
    · rw [if_pos h1]
      cases m.testBit p
      · exact ⟨fun a => absurd a (by decide), fun a => absurd (a h1) (by decide)⟩
      · exact ⟨fun _ _ => rfl, fun _ => rfl⟩
    · rw [if_neg h1]
      exact ⟨fun _ a => absurd a h1, fun _ => rfl⟩
  exact ⟨fun k m hm => (h m hm).mp (k m hm), fun k m hm => (h m hm).mpr (k m hm)⟩
theorem dm_settle (w : Nat → Nat) {p : Nat} (hp : p < 24) : dm_Z (dm_wz (dm_on w) p) = 0 ↔ (dm_cm w 256).testBit p = true := by
  rw [dm_cm_all w hp]
  unfold dm_Z
  rw [dm_zl_0]
  have h : ∀ m, dm_wt (dm_wz (dm_on w) p) m 24 = 0 ↔ (0 < dm_wt w m 24 → m.testBit p = true) := by
    intro m
    rw [dm_wt_wz _ m hp, dm_wt_on]
    cases m.testBit p
    · show (if 0 < dm_wt w m 24 then 1 else 0) = 0 ↔ (0 < dm_wt w m 24 → false = true)
      by_cases h1 : 0 < dm_wt w m 24
      · rw [if_pos h1]
        exact ⟨fun a => absurd a (by decide), fun a => absurd (a h1) (by decide)⟩
      · rw [if_neg h1]
        exact ⟨fun _ a => absurd a h1, fun _ => rfl⟩
    · exact ⟨fun _ _ => rfl, fun _ => rfl⟩
  exact ⟨fun k m hm => (h m).mp (k m hm), fun k m hm => (h m).mpr (k m hm)⟩
theorem dm_settle0 (w : Nat → Nat) (hz : dm_Z (dm_on w) = 0) {p : Nat} (hp : p < 24) : (dm_cm w 256).testBit p = true := by
  rw [dm_cm_all w hp]
  intro m hm h
  have h1 := dm_zl_0.mp hz m hm
  have h2 : dm_wt (dm_on w) m 24 = 0 := h1
  rw [dm_wt_on, if_pos h] at h2
  exact absurd h2 (by decide)
end
section
/-! the reference's walks -/
theorem dm_bitI {m p : Nat} (hm : m < 2 ^ 31) (hp : p < 32) : (nI m >>> (nI p &&& 31)) &&& 1 = nI (if m.testBit p = true then 1 else 0) := by
  have h1 : m / 2 ^ p ≤ m := Nat.div_le_self _ _
  rw [pk_shrN hm _ p (s_l p hp), pk_andN (by omega) 1 (by decide), Nat.testBit_eq_decide_div_mod_eq]
  congr 1
  generalize m / 2 ^ p = z
  have : z % 2 ^ 1 = z % 2 := rfl
  rw [this]
  by_cases h : z % 2 = 1
  · rw [h]; rfl
  · rw [if_neg (by simp [h])]
    omega
theorem dm_bit1 {m p : Nat} (hm : m < 2 ^ 31) (hp : p < 32) (h : m.testBit p = true) : ((nI m >>> (nI p &&& 31)) &&& 1) = 1 := by
  rw [dm_bitI hm hp, if_pos h]
  rfl
theorem dm_bit0 {m p : Nat} (hm : m < 2 ^ 31) (hp : p < 32) (h : ¬ m.testBit p = true) : ¬ ((nI m >>> (nI p &&& 31)) &&& 1) = 1 := by
  rw [dm_bitI hm hp, if_neg h]
  decide
theorem dm_sh : ∀ p, p < 24 → (1 : Int32) <<< (nI p &&& 31) = nI (2 ^ p) := by decide +kernel
theorem dm_p2 : ∀ p, p < 24 → 2 ^ p < 2 ^ 31 := by decide +kernel
theorem dm_sub1 {m p : Nat} (hm : m < 2 ^ 31) (hp : p < 24) : (nI m &&& ((1 : Int32) <<< (nI p &&& 31))) = (1 : Int32) <<< (nI p &&& 31) ↔ m.testBit p = true := by
  have h2 := dm_p2 p hp
  have h3 : m &&& 2 ^ p ≤ m := Nat.and_le_left
  rw [dm_sh p hp, nx_and, nI_eq (by omega) h2]
  constructor
  · intro h
    have h4 : (m &&& 2 ^ p).testBit p = (2 ^ p).testBit p := congrArg (fun x => x.testBit p) h
    rw [Nat.testBit_and, Nat.testBit_two_pow_self, Bool.and_true] at h4
    exact h4
  · intro h
    apply Nat.eq_of_testBit_eq
    intro i
    rw [Nat.testBit_and, Nat.testBit_two_pow]
    by_cases e : p = i
    · subst e
      rw [h, decide_eq_true rfl]
      rfl
    · rw [decide_eq_false e, Bool.and_false]
theorem dm_sub2 (m x y : Int32) : (m &&& (x ||| y)) = (x ||| y) ↔ (m &&& x) = x ∧ (m &&& y) = y := by
  constructor
  · intro h
    have hb : ∀ i, (bt m i && (bt x i || bt y i)) = (bt x i || bt y i) := fun i => by rw [← b_or, ← b_and, h]
    constructor
    · apply b_ext
      intro i _
      rw [b_and]
      have := hb i
      revert this
      cases bt m i <;> cases bt x i <;> cases bt y i <;> decide
    · apply b_ext
      intro i _
      rw [b_and]
      have := hb i
      revert this
      cases bt m i <;> cases bt x i <;> cases bt y i <;> decide
  · intro h
    apply b_ext
    intro i _
    have h1 : (bt m i && bt x i) = bt x i := by rw [← b_and, h.1]
    have h2 : (bt m i && bt y i) = bt y i := by rw [← b_and, h.2]
    rw [b_and, b_or]
    revert h1 h2
    cases bt m i <;> cases bt x i <;> cases bt y i <;> decide
def dm_fo (x1 : Int32) : Nat → Int32 → Option Int32
  | 0 => fun _ => none
  | n + 1 => fun x2 => if 16 ≤ x2 then some 16 else if ((x1 >>> (x2 &&& 31)) &&& 1) = 0 then some x2 else dm_fo x1 n (x2 + 1)
theorem dm_fo_w (post : Int32 → Prop) (x1 : Int32) (aw ao : Nat → Int32) : ∀ (n : Nat) (x2 r : Int32), dm_fo x1 n x2 = some r → post r → wY_firstOpen_2 post x1 aw ao n x2 := by
  intro n
  induction n with
  | zero => intro x2 r h; cases h
  | succ n ih =>
    intro x2 r h hp
    have h : (if 16 ≤ x2 then some 16 else if ((x1 >>> (x2 &&& 31)) &&& 1) = 0 then some x2 else dm_fo x1 n (x2 + 1)) = some r := h
    by_cases c1 : 16 ≤ x2
    · rw [if_pos c1] at h
      cases h
      exact br_t c1 hp
    · rw [if_neg c1] at h
      by_cases c2 : ((x1 >>> (x2 &&& 31)) &&& 1) = 0
      · rw [if_pos c2] at h
        cases h
        exact br_f c1 (br_t c2 hp)
      · rw [if_neg c2] at h
        exact br_f c1 (br_f c2 (nm_e (ih _ _ h hp)))
def dm_t76 (J : Int32 → Int32 → Int32 → Option Int32) (x2 x3 x4 x5 x6 x7 : Int32) : Option Int32 :=
  if ((x2 >>> (x7 &&& 31)) &&& 1) = 1 then some 0
  else if x6 = 0 then J ((x2 ||| ((1 : Int32) <<< (x5 &&& 31))) ||| ((1 : Int32) <<< (x7 &&& 31))) (x3 ||| ((1 : Int32) <<< ((((x5 / 4) * 3) + (x5 - x5 / 4 * 4)) &&& 31))) (x4 + 1)
  else J ((x2 ||| ((1 : Int32) <<< (x5 &&& 31))) ||| ((1 : Int32) <<< (x7 &&& 31))) (x3 ||| ((1 : Int32) <<< ((12 + x5) &&& 31))) (x4 + 1)
theorem dm_t76_w {post : Int32 → Prop} {J7 : Int32 → Int32 → Int32 → Prop} {J : Int32 → Int32 → Int32 → Option Int32} {r : Int32} (hp : post r) (hJ : ∀ a b c, J a b c = some r → J7 a b c) (x1 x2 x3 x4 x5 x6 x7 : Int32) (aw ao : Nat → Int32) (h : dm_t76 J x2 x3 x4 x5 x6 x7 = some r) : wY_tiling_76 post J7 x1 x2 x3 x4 x5 x6 x7 aw ao := by
  unfold dm_t76 at h
  by_cases c1 : ((x2 >>> (x7 &&& 31)) &&& 1) = 1
  · rw [if_pos c1] at h
    cases h
    exact br_t c1 hp
  · rw [if_neg c1] at h
    by_cases c2 : x6 = 0
    · rw [if_pos c2] at h
      exact br_f c1 (nm_e (br_t c2 ⟨by decide, by decide, nm_e (nm_e (hJ _ _ _ h))⟩))
    · rw [if_neg c2] at h
      exact br_f c1 (nm_e (br_f c2 (nm_e (nm_e (hJ _ _ _ h)))))
def dm_t54 (J : Int32 → Int32 → Int32 → Option Int32) (x2 x3 x4 x5 x6 z0 : Int32) : Option Int32 :=
  if 15 < z0 then some 0 else if x6 = 0 then (if (x5 - x5 / 4 * 4) = 3 then some 0 else dm_t76 J x2 x3 x4 x5 x6 z0) else dm_t76 J x2 x3 x4 x5 x6 z0
theorem dm_t54_w {post : Int32 → Prop} {J7 : Int32 → Int32 → Int32 → Prop} {J : Int32 → Int32 → Int32 → Option Int32} {r : Int32} (hp : post r) (hJ : ∀ a b c, J a b c = some r → J7 a b c) (x1 x2 x3 x4 x5 x6 z0 : Int32) (aw ao : Nat → Int32) (h : dm_t54 J x2 x3 x4 x5 x6 z0 = some r) : wY_tiling_54 post J7 x1 x2 x3 x4 x5 x6 z0 aw ao := by
  unfold dm_t54 at h
  by_cases c1 : 15 < z0
  · rw [if_pos c1] at h
    cases h
    exact br_t c1 hp
  · rw [if_neg c1] at h
    by_cases c2 : x6 = 0
    · rw [if_pos c2] at h
      by_cases c3 : (x5 - x5 / 4 * 4) = 3
      · rw [if_pos c3] at h
        cases h
        exact br_f c1 (br_t c2 ⟨by decide, br_t c3 hp⟩)
      · rw [if_neg c3] at h
        exact br_f c1 (br_t c2 ⟨by decide, br_f c3 (dm_t76_w hp hJ _ _ _ _ _ _ _ _ _ h)⟩)
    · rw [if_neg c2] at h
      exact br_f c1 (br_f c2 (dm_t76_w hp hJ _ _ _ _ _ _ _ _ _ h))
def dm_tl (x1 : Int32) : Nat → Int32 → Int32 → Int32 → Option Int32
  | 0 => fun _ _ _ => none
  | n + 1 => fun x2 x3 x4 => if 8 ≤ x4 then some x3 else
      match dm_fo x2 17 0 with
      | none => none
      | some s => if ((x1 >>> (x4 &&& 31)) &&& 1) = 1 then dm_t54 (dm_tl x1 n) x2 x3 x4 s 1 (s + 4) else dm_t54 (dm_tl x1 n) x2 x3 x4 s 0 (s + 1)
theorem dm_tl_w (post : Int32 → Prop) (x1 : Int32) (aw ao : Nat → Int32) (r : Int32) (hp : post r) : ∀ (n : Nat) (x2 x3 x4 : Int32), dm_tl x1 n x2 x3 x4 = some r → wY_tiling_7 post x1 aw ao n x2 x3 x4 := by
  intro n
  induction n with
  | zero => intro x2 x3 x4 h; cases h
  | succ n ih =>
    intro x2 x3 x4 h
    unfold dm_tl at h
    by_cases c1 : 8 ≤ x4
    · rw [if_pos c1] at h
      cases h
      exact br_t c1 hp
    · rw [if_neg c1] at h
      refine br_f c1 ?_
      cases hs : dm_fo x2 17 0 with
      | none => rw [hs] at h; cases h
      | some s =>
        rw [hs] at h
        dsimp only at h
        refine ⟨17, dm_fo_w _ x2 aw ao 17 0 s hs ?_⟩
        by_cases c2 : ((x1 >>> (x4 &&& 31)) &&& 1) = 1
        · rw [if_pos c2] at h
          exact br_t c2 (br_f (by decide) (dm_t54_w hp ih _ _ _ _ _ _ _ _ _ h))
        · rw [if_neg c2] at h
          exact br_f c2 (br_t rfl (dm_t54_w hp ih _ _ _ _ _ _ _ _ _ h))
theorem dm_tl_tab : ∀ b, b < 256 → dm_tl (nI b) 9 0 0 0 = some (nI (dm_TM b)) := by decide +kernel
theorem dm_tiling {post : Int32 → Prop} (aw ao : Nat → Int32) {b : Nat} (hb : b < 256) (hp : post (nI (dm_TM b))) : wpY_tiling post (aw, ao) (nI b) := ⟨9, dm_tl_w post (nI b) aw ao _ hp 9 0 0 0 (dm_tl_tab b hb)⟩
theorem dm_worth_l (post : Int32 → Prop) {m : Nat} (hm : m < 2 ^ 31) (aw ao : Nat → Int32) (w : Nat → Nat) (hw : ∀ p, p < 24 → aw p = nI (w p)) (x0 : Nat) (hp : post (nI (x0 * dm_wt w m 24))) : ∀ d p : Nat, p + d = 24 → wY_worth_12 post (nI m) aw ao (d + 1) (nI (x0 * dm_wt w m p)) (nI p) := by
  intro d
  induction d with
  | zero =>
    intro p h
    have e : p = 24 := by omega
    subst e
    exact br_t (nI_le (a := 24) (b := 24) (by omega) (by omega)) hp
  | succ d ih =>
    intro p h
    have h24 : ¬ (24 : Int32) ≤ nI p := nI_ge (a := p) (b := 24) (by omega) (by omega)
    refine br_f h24 ?_
    by_cases hb : m.testBit p = true
    · refine br_t (dm_bit1 hm (by omega) hb) ⟨vp_in_nI (by omega) (by omega), ?_⟩
      refine nm_r (e' := nI (x0 * dm_wt w m (p + 1))) ?_ (nm_r (nI_1 p) (ih (p + 1) (by omega)))
      rw [nI_clamp (by omega), hw p (by omega), pk_mul, Nat.mul_assoc]
      show _ = nI (x0 * (dm_wt w m p * (if m.testBit p = true then w p else 1)))
      rw [if_pos hb]
    · refine br_f (dm_bit0 hm (by omega) hb) (nm_r (nI_1 p) ?_)
      have e : dm_wt w m p = dm_wt w m (p + 1) := by
        show _ = dm_wt w m p * (if m.testBit p = true then w p else 1)
        rw [if_neg hb, Nat.mul_one]
      rw [e]
      exact ih (p + 1) (by omega)
theorem dm_worth {post : Int32 → Prop} {m : Nat} (hm : m < 2 ^ 31) (aw ao : Nat → Int32) (w : Nat → Nat) (hw : ∀ p, p < 24 → aw p = nI (w p)) (hp : post (nI (dm_wo w m))) : wpY_worth post (aw, ao) (nI m) := by
  by_cases h : m = 0
  · subst h
    refine br_t rfl ⟨25, ?_⟩
    have h1 := dm_worth_l post hm aw ao w hw 0 (by rw [Nat.zero_mul]; exact hp) 24 0 rfl
    exact h1
  · refine br_f (nI_ne0 (by omega) hm) ⟨25, ?_⟩
    have e : dm_wo w m = 1 * dm_wt w m 24 := by
      rw [Nat.one_mul]
      exact if_neg h
    rw [e] at hp
    exact dm_worth_l post hm aw ao w hw 1 hp 24 0 rfl
theorem dm_sumW_l (post : Int32 → Prop) (x1 : Int32) (aw ao : Nat → Int32) (w : Nat → Nat) (hw : ∀ p, p < 24 → aw p = nI (w p)) (Q : Nat → Bool) (hQ : ∀ b, b < 256 → ((nI (dm_TM b) &&& x1) = x1 ↔ Q (dm_TM b) = true)) (hp : post (nI (dm_S Q w))) : ∀ d b : Nat, b + d = 256 → wY_sumWith_4 post x1 aw ao (d + 1) (nI (dm_ns b (fun b => if Q (dm_TM b) = true then dm_wo w (dm_TM b) else 0))) (nI b) := by
  intro d
  induction d with
  | zero =>
    intro b h
    have e : b = 256 := by omega
    subst e
    rw [dm_yS]
    exact br_t (nI_le (a := 256) (b := 256) (by omega) (by omega)) hp
  | succ d ih =>
    intro b h
    have h24 : ¬ (256 : Int32) ≤ nI b := nI_ge (a := b) (b := 256) (by omega) (by omega)
    have hb : b < 256 := by omega
    have hm := dm_TM_lt b hb
    have hi := ih (b + 1) (by omega)
    refine br_f h24 (dm_tiling aw ao hb ?_)
    by_cases hq : Q (dm_TM b) = true
    · refine br_t ((hQ b hb).mpr hq) (dm_worth (by omega) aw ao w hw ?_)
      refine nm_r ?_ (nm_r (nI_1 b) hi)
      rw [nI_add]
      show _ = nI (dm_ns b _ + (if Q (dm_TM b) = true then dm_wo w (dm_TM b) else 0))
      rw [if_pos hq]
    · refine br_f (fun z => hq ((hQ b hb).mp z)) (nm_r (nI_1 b) ?_)
      have e : dm_ns (b + 1) (fun b => if Q (dm_TM b) = true then dm_wo w (dm_TM b) else 0) = dm_ns b (fun b => if Q (dm_TM b) = true then dm_wo w (dm_TM b) else 0) := by
        show dm_ns b _ + (if Q (dm_TM b) = true then dm_wo w (dm_TM b) else 0) = _
        rw [if_neg hq, Nat.add_zero]
      rw [e] at hi
      exact hi
theorem dm_sumW {post : Int32 → Prop} (x1 : Int32) (aw ao : Nat → Int32) (w : Nat → Nat) (hw : ∀ p, p < 24 → aw p = nI (w p)) (Q : Nat → Bool) (hQ : ∀ b, b < 256 → ((nI (dm_TM b) &&& x1) = x1 ↔ Q (dm_TM b) = true)) (hp : post (nI (dm_S Q w))) : wpY_sumWith post (aw, ao) x1 :=
  ⟨257, dm_sumW_l post x1 aw ao w hw Q hQ hp 256 0 rfl⟩
theorem dm_sumW1 {post : Int32 → Prop} (aw ao : Nat → Int32) (w : Nat → Nat) (hw : ∀ p, p < 24 → aw p = nI (w p)) {p : Nat} (h : p < 24) (hp : post (nI (dm_S (fun m => m.testBit p) w))) : wpY_sumWith post (aw, ao) ((1 : Int32) <<< (nI p &&& 31)) :=
  dm_sumW _ aw ao w hw (fun m => m.testBit p) (fun b hb => dm_sub1 (by have := dm_TM_lt b hb; omega) h) hp
theorem dm_sumW2 {post : Int32 → Prop} (aw ao : Nat → Int32) (w : Nat → Nat) (hw : ∀ p, p < 24 → aw p = nI (w p)) {p q : Nat} (h : p < 24) (h2 : q < 24) (hp : post (nI (dm_S (fun m => m.testBit p && m.testBit q) w))) : wpY_sumWith post (aw, ao) (((1 : Int32) <<< (nI p &&& 31)) ||| ((1 : Int32) <<< (nI q &&& 31))) := by
  refine dm_sumW _ aw ao w hw (fun m => m.testBit p && m.testBit q) (fun b hb => ?_) hp
  have := dm_TM_lt b hb
  rw [dm_sub2, dm_sub1 (by omega) h, dm_sub1 (by omega) h2]
  exact (Bool.and_eq_true_iff).symm
theorem dm_sumW0 {post : Int32 → Prop} (aw ao : Nat → Int32) (w : Nat → Nat) (hw : ∀ p, p < 24 → aw p = nI (w p)) (hp : post (nI (dm_Z w))) : wpY_sumWith post (aw, ao) 0 := by
  refine dm_sumW _ aw ao w hw (fun _ => true) (fun b hb => ⟨fun _ => rfl, fun _ => ?_⟩) (by rw [dm_S_all]; exact hp)
  show nI (dm_TM b) &&& nI 0 = nI 0
  rw [nx_and, Nat.and_zero]
theorem dm_poss_l (post : Int32 → Prop) (aw ao : Nat → Int32) (w : Nat → Nat) (hw : ∀ p, p < 24 → aw p = nI (w p)) (hb4 : ∀ p, p < 24 → w p ≤ 4) (hp : post (nI (dm_Z (dm_on w)))) : ∀ d b : Nat, b + d = 256 → wY_possible_4 post aw ao (d + 1) (nI (dm_ns b (fun b => if 0 < dm_wo w (dm_TM b) then 1 else 0))) (nI b) := by
  intro d
  induction d with
  | zero =>
    intro b h
    have e : b = 256 := by omega
    subst e
    rw [dm_yP]
    exact br_t (nI_le (a := 256) (b := 256) (by omega) (by omega)) hp
  | succ d ih =>
    intro b h
    have h24 : ¬ (256 : Int32) ≤ nI b := nI_ge (a := b) (b := 256) (by omega) (by omega)
    have hb : b < 256 := by omega
    have hm := dm_TM_lt b hb
    have hi := ih (b + 1) (by omega)
    have hwo := dm_wo_bd hb4 hb
    refine br_f h24 (dm_tiling aw ao hb (dm_worth (by omega) aw ao w hw ?_))
    by_cases hq : 0 < dm_wo w (dm_TM b)
    · refine br_f (nI_nle hq (by omega)) ?_
      refine nm_r ?_ (nm_r (nI_1 b) hi)
      rw [nI_1]
      show _ = nI (dm_ns b _ + (if 0 < dm_wo w (dm_TM b) then 1 else 0))
      rw [if_pos hq]
    · have e0 : dm_wo w (dm_TM b) = 0 := by omega
      refine br_t (by rw [e0]; decide) (nm_r (nI_1 b) ?_)
      have e : dm_ns (b + 1) (fun b => if 0 < dm_wo w (dm_TM b) then 1 else 0) = dm_ns b (fun b => if 0 < dm_wo w (dm_TM b) then 1 else 0) := by
        show dm_ns b _ + (if 0 < dm_wo w (dm_TM b) then 1 else 0) = _
        rw [if_neg hq, Nat.add_zero]
      rw [e] at hi
      exact hi
theorem dm_poss {post : Int32 → Prop} (aw ao : Nat → Int32) (w : Nat → Nat) (hw : ∀ p, p < 24 → aw p = nI (w p)) (hb4 : ∀ p, p < 24 → w p ≤ 4) (hp : post (nI (dm_Z (dm_on w)))) : wpY_possible post (aw, ao) :=
  ⟨257, dm_poss_l post aw ao w hw hb4 hp 256 0 rfl⟩
theorem dm_set40_l (post : Int32 → Prop) {c : Nat} (hc : c < 2 ^ 31) (aw ao : Nat → Int32) (hp : post (nI (dm_ns 24 (fun p => if c.testBit p = true then 1 else 0)))) : ∀ d p : Nat, p + d = 24 → wY_settled_40 post (nI c) aw ao (d + 1) (nI (dm_ns p (fun p => if c.testBit p = true then 1 else 0))) (nI p) := by
  intro d
  induction d with
  | zero =>
    intro p h
    have e : p = 24 := by omega
    subst e
    exact br_t (nI_le (a := 24) (b := 24) (by omega) (by omega)) hp
  | succ d ih =>
    intro p h
    have h24 : ¬ (24 : Int32) ≤ nI p := nI_ge (a := p) (b := 24) (by omega) (by omega)
    refine br_f h24 (nm_r ?_ (nm_r (nI_1 p) (ih (p + 1) (by omega))))
    rw [dm_bitI hc (by omega), nI_add]
    rfl
theorem dm_set5_l (post : Int32 → Prop) (aw ao : Nat → Int32) (w : Nat → Nat) (hw : ∀ p, p < 24 → aw p = nI (w p)) (hb4 : ∀ p, p < 24 → w p ≤ 4) (hp : post (nI (dm_ns 24 (fun p => if (dm_cm w 256).testBit p = true then 1 else 0)))) : ∀ d b : Nat, b + d = 256 → wY_settled_5 post aw ao (d + 1) (nI (dm_cm w b)) (nI b) := by
  intro d
  induction d with
  | zero =>
    intro b h
    have e : b = 256 := by omega
    subst e
    refine br_t (nI_le (a := 256) (b := 256) (by omega) (by omega)) ⟨25, ?_⟩
    have hc := dm_cm_lt w 256
    exact dm_set40_l post (by omega) aw ao hp 24 0 rfl
  | succ d ih =>
    intro b h
    have h24 : ¬ (256 : Int32) ≤ nI b := nI_ge (a := b) (b := 256) (by omega) (by omega)
    have hb : b < 256 := by omega
    have hm := dm_TM_lt b hb
    have hi := ih (b + 1) (by omega)
    have hwo := dm_wo_bd hb4 hb
    refine br_f h24 (dm_tiling aw ao hb (dm_worth (by omega) aw ao w hw ?_))
    by_cases hq : 0 < dm_wo w (dm_TM b)
    · refine br_f (nI_nle hq (by omega)) ?_
      refine nm_r ?_ (nm_r (nI_1 b) hi)
      rw [nx_and]
      show _ = nI (if 0 < dm_wo w (dm_TM b) then dm_cm w b &&& dm_TM b else dm_cm w b)
      rw [if_pos hq]
    · have e0 : dm_wo w (dm_TM b) = 0 := by omega
      refine br_t (by rw [e0]; decide) (nm_r (nI_1 b) ?_)
      have e : dm_cm w (b + 1) = dm_cm w b := by
        show (if 0 < dm_wo w (dm_TM b) then dm_cm w b &&& dm_TM b else dm_cm w b) = _
        rw [if_neg hq]
      rw [e] at hi
      exact hi
theorem dm_ysettled {post : Int32 → Prop} (aw ao : Nat → Int32) (w : Nat → Nat) (hw : ∀ p, p < 24 → aw p = nI (w p)) (hb4 : ∀ p, p < 24 → w p ≤ 4) (hp : post (nI (dm_ns 24 (fun p => if (dm_cm w 256).testBit p = true then 1 else 0)))) : wpY_settled post (aw, ao) :=
  ⟨257, dm_set5_l post aw ao w hw hb4 hp 256 0 rfl⟩
theorem dm_yacr_l (post : Int32 → Prop) (aw ao : Nat → Int32) (w : Nat → Nat) (hw : ∀ p, p < 24 → aw p = nI (w p)) (hp : post (nI (dm_ns 12 (fun p => dm_S (fun m => m.testBit p) w)))) : ∀ d p : Nat, p + d = 12 → wY_acrossTotal_4 post aw ao (d + 1) (nI (dm_ns p (fun p => dm_S (fun m => m.testBit p) w))) (nI p) := by
  intro d
  induction d with
  | zero =>
    intro p h
    have e : p = 12 := by omega
    subst e
    exact br_t (nI_le (a := 12) (b := 12) (by omega) (by omega)) hp
  | succ d ih =>
    intro p h
    have h24 : ¬ (12 : Int32) ≤ nI p := nI_ge (a := p) (b := 12) (by omega) (by omega)
    refine br_f h24 (dm_sumW1 aw ao w hw (by omega) (nm_r ?_ (nm_r (nI_1 p) (ih (p + 1) (by omega)))))
    rw [nI_add]
    rfl
theorem dm_yacr {post : Int32 → Prop} (aw ao : Nat → Int32) (w : Nat → Nat) (hw : ∀ p, p < 24 → aw p = nI (w p)) (hp : post (nI (dm_ns 12 (fun p => dm_S (fun m => m.testBit p) w)))) : wpY_acrossTotal post (aw, ao) :=
  ⟨13, dm_yacr_l post aw ao w hw hp 12 0 rfl⟩
end
section
/-! the component's walks: squares, table, pivot, swap, elimination -/
def dm_fs (p : Int32) : Int32 := if p < 12 then ((p / 3) * 4) + (p - p / 3 * 3) else p - 12
def dm_ss (p : Int32) : Int32 := if p < 12 then dm_fs p + 1 else dm_fs p + 4
def dm_cv (p s : Int32) : Int32 := if s = dm_fs p then 1 else if s = dm_ss p then 1 else 0
def dm_bl (s : Int32) : Int32 := if (((s / 4) + (s - s / 4 * 4)) &&& 1) = 0 then 1 else 0
theorem dm_fs_w {post : Int32 → Prop} {p : Int32} (h : post (dm_fs p)) : wpX_firstSquare post p := by
  unfold dm_fs at h
  by_cases c : p < 12
  · rw [if_pos c] at h
    exact br_t c ⟨by decide, by decide, h⟩
  · rw [if_neg c] at h
    exact br_f c h
theorem dm_ss_w {post : Int32 → Prop} {p : Int32} (h : post (dm_ss p)) : wpX_secondSquare post p := by
  unfold dm_ss at h
  refine dm_fs_w (p := p) ?_
  by_cases c : p < 12
  · rw [if_pos c] at h
    exact br_t c h
  · rw [if_neg c] at h
    exact br_f c h
theorem dm_cv_w {post : Int32 → Prop} {p s : Int32} (h : post (dm_cv p s)) : wpX_covers post p s := by
  unfold dm_cv at h
  refine dm_fs_w (p := p) (dm_ss_w (p := p) ?_)
  by_cases c : s = dm_fs p
  · rw [if_pos c] at h
    exact br_t c h
  · rw [if_neg c] at h
    by_cases c2 : s = dm_ss p
    · rw [if_pos c2] at h
      exact br_f c (br_t c2 h)
    · rw [if_neg c2] at h
      exact br_f c (br_f c2 h)
theorem dm_fsY_w {post : Int32 → Prop} {aw ao : Nat → Int32} {p : Int32} (h : post (dm_fs p)) : wpY_first post (aw, ao) p := by
  unfold dm_fs at h
  by_cases c : p < 12
  · rw [if_pos c] at h
    exact br_f (Int32.not_le.mpr c) ⟨by decide, by decide, h⟩
  · rw [if_neg c] at h
    exact br_t (Int32.not_lt.mp c) h
theorem dm_cvY_w {post : Int32 → Prop} {aw ao : Nat → Int32} {p s : Int32} (h : post (dm_cv p s)) : wpY_covers post (aw, ao) p s := by
  unfold dm_cv dm_ss at h
  unfold wpY_covers
  dsimp only
  refine dm_fsY_w (p := p) ?_
  by_cases c : s = dm_fs p
  · rw [if_pos c] at h
    exact br_t c h
  · rw [if_neg c] at h
    refine br_f c ?_
    by_cases c1 : p < 12
    · rw [if_pos c1] at h
      refine br_f (Int32.not_le.mpr c1) ?_
      by_cases c2 : s = dm_fs p + 1
      · rw [if_pos c2] at h
        exact br_t c2 h
      · rw [if_neg c2] at h
        exact br_f c2 h
    · rw [if_neg c1] at h
      refine br_t (Int32.not_lt.mp c1) ?_
      by_cases c2 : s = dm_fs p + 4
      · rw [if_pos c2] at h
        exact br_t c2 h
      · rw [if_neg c2] at h
        exact br_f c2 h
theorem dm_bl_w {post : Int32 → Prop} {s : Int32} (h : post (dm_bl s)) : wpX_black post s := by
  unfold dm_bl at h
  by_cases c : (((s / 4) + (s - s / 4 * 4)) &&& 1) = 0
  · rw [if_pos c] at h
    exact ⟨by decide, by decide, br_t c h⟩
  · rw [if_neg c] at h
    exact ⟨by decide, by decide, br_f c h⟩
theorem dm_ix (a b : Nat) : nI a * 8 + nI b = nI (a * 8 + b) := by
  show nI a * nI 8 + nI b = _
  rw [pk_mul, nI_add]
theorem dm_ixc {a b : Nat} (ha : a < 8) (hb : b < 8) : (nI a * 8 + nI b).toNatClampNeg = a * 8 + b := by
  rw [dm_ix, nI_clamp (by omega)]
theorem dm_ixi {a b : Nat} (ha : a < 8) (hb : b < 8) : vp_in (nI a * 8 + nI b) 64 := by
  rw [dm_ix]
  exact vp_in_nI (by omega) (by omega)
theorem dm_e66 {post : SX → Prop} {p c : Nat} (hp : p < 24) (hc : c < 64) {x5 x6 : Int32} (e : x5 * 8 + x6 = nI c) (z0 : Int32) (aw am au : Nat → Int32) (at_ : Nat → Int64) (h : post (aw, am, au, vp_updL at_ c (if z0 = 0 then (au p).toInt64 else (-(au p)).toInt64))) : wX_enter_66 post (nI p) x5 x6 z0 aw am au at_ := by
  have e1 : (x5 * 8 + x6).toNatClampNeg = c := by rw [e, nI_clamp (by omega)]
  have e2 : vp_in (x5 * 8 + x6) 64 := by rw [e]; exact vp_in_nI hc (by omega)
  have e3 : (nI p).toNatClampNeg = p := nI_clamp (by omega)
  have e4 : vp_in (nI p) 24 := vp_in_nI hp (by omega)
  by_cases c0 : z0 = 0
  · rw [if_pos c0] at h
    exact br_t c0 ⟨e4, e2, nm_r (by rw [e1, e3]) h⟩
  · rw [if_neg c0] at h
    exact br_f c0 ⟨e4, e2, nm_r (by rw [e1, e3]) h⟩
def dm_eg (p a : Int32) : Int32 := if p < 12 then 0 else if (a &&& 1) = 1 then 1 else 0
theorem dm_e46 {post : SX → Prop} {p c : Nat} (hp : p < 24) (hc : c < 64) {x2 x5 x6 : Int32} (e : x5 * 8 + x6 = nI c) (aw am au : Nat → Int32) (at_ : Nat → Int64) (h : post (aw, am, au, vp_updL at_ c (if dm_eg (nI p) x2 = 0 then (au p).toInt64 else (-(au p)).toInt64))) : wX_enter_46 post (nI p) x2 x5 x6 aw am au at_ := by
  unfold dm_eg at h
  by_cases c1 : nI p < 12
  · rw [if_pos c1] at h
    exact br_t c1 (dm_e66 hp hc e 0 aw am au at_ h)
  · rw [if_neg c1] at h
    by_cases c2 : (x2 &&& 1) = 1
    · rw [if_pos c2] at h
      exact br_f c1 (br_t c2 (dm_e66 hp hc e 1 aw am au at_ h))
    · rw [if_neg c2] at h
      exact br_f c1 (br_f c2 (dm_e66 hp hc e 0 aw am au at_ h))
theorem dm_entT : ∀ p, p < 24 → dm_ce p < 64 ∧ (if dm_bl (dm_fs (nI p)) = 0 then dm_ss (nI p) / 2 * 8 + dm_fs (nI p) / 2 else dm_fs (nI p) / 2 * 8 + dm_ss (nI p) / 2) = nI (dm_ce p) ∧ dm_eg (nI p) (dm_fs (nI p)) = (if dm_ng p = true then 1 else 0) := by decide +kernel
def dm_vl (au : Nat → Int32) (p : Nat) : Int64 := if dm_ng p = true then (-(au p)).toInt64 else (au p).toInt64
theorem dm_ngif {α : Type} (n : Bool) (x y : α) : (if (if n = true then (1 : Int32) else 0) = 0 then x else y) = (if n = true then y else x) := by
  cases n <;> simp
theorem dm_e30 {post : SX → Prop} {p c : Nat} (hp : p < 24) (hc : c < 64) {a b r : Int32} (e : (if r = 0 then b / 2 * 8 + a / 2 else a / 2 * 8 + b / 2) = nI c) (aw am au : Nat → Int32) (at_ : Nat → Int64) (h : post (aw, am, au, vp_updL at_ c (if dm_eg (nI p) a = 0 then (au p).toInt64 else (-(au p)).toInt64))) : (r = 0 → (¬ (2 : Int32) = 0 ∧ (wX_enter_30 post (nI p) a b r (b / 2) aw am au at_))) ∧ (¬ r = 0 → (¬ (2 : Int32) = 0 ∧ (wX_enter_30 post (nI p) a b r (a / 2) aw am au at_))) := by
  have h2 : ¬ (2 : Int32) = 0 := by decide
  by_cases c : r = 0
  · rw [if_pos c] at e
    refine br_t c ⟨h2, ?_⟩
    unfold wX_enter_30
    exact br_t c ⟨h2, dm_e46 hp hc e aw am au at_ h⟩
  · rw [if_neg c] at e
    refine br_f c ⟨h2, ?_⟩
    unfold wX_enter_30
    exact br_f c ⟨h2, dm_e46 hp hc e aw am au at_ h⟩
theorem dm_enter {post : SX → Prop} {p : Nat} (hp : p < 24) (aw am au : Nat → Int32) (at_ : Nat → Int64) (h : post (aw, am, au, vp_updL at_ (dm_ce p) (dm_vl au p))) : wpX_enter post (aw, am, au, at_) (nI p) := by
  obtain ⟨hc, e, eg⟩ := dm_entT p hp
  have h2 : post (aw, am, au, vp_updL at_ (dm_ce p) (if dm_eg (nI p) (dm_fs (nI p)) = 0 then (au p).toInt64 else (-(au p)).toInt64)) := by
    rw [eg, dm_ngif]
    exact h
  unfold wpX_enter
  dsimp only
  refine dm_fs_w ?_
  refine dm_ss_w ?_
  refine dm_bl_w ?_
  exact dm_e30 hp hc e aw am au at_ h2
theorem dm_piv (post : Int32 → Prop) (aw am au : Nat → Int32) (at_ : Nat → Int64) {k : Nat} (hk : k < 8) (H : ∀ r : Nat, k ≤ r → r ≤ 8 → (r < 8 → at_ (r * 8 + k) ≠ 0) → (∀ i, k ≤ i → i < r → at_ (i * 8 + k) = 0) → post (nI r)) : ∀ d r : Nat, r + d = 8 → k ≤ r → (∀ i, k ≤ i → i < r → at_ (i * 8 + k) = 0) → wX_pivotRow_2 post (nI k) aw am au at_ (d + 1) (nI r) := by
  intro d
  induction d with
  | zero =>
    intro r h hr hz
    have e : r = 8 := by omega
    subst e
    exact br_t (nI_le (a := 8) (b := 8) (by omega) (by omega)) (H 8 hr (by omega) (fun z => absurd z (by omega)) hz)
  | succ d ih =>
    intro r h hr hz
    have h8 : ¬ (8 : Int32) ≤ nI r := nI_ge (a := r) (b := 8) (by omega) (by omega)
    have e1 := dm_ixc (a := r) (b := k) (by omega) hk
    refine br_f h8 ⟨dm_ixi (by omega) hk, ?_⟩
    by_cases c : at_ (r * 8 + k) = 0
    · refine br_t (by rw [e1]; exact c) (nm_r (nI_1 r) (ih (r + 1) (by omega) (by omega) ?_))
      intro i h1 h2
      by_cases e : i = r
      · rw [e]; exact c
      · exact hz i h1 (by omega)
    · exact br_f (by rw [e1]; exact c) (H r hr (by omega) (fun _ => c) hz)
theorem dm_swp (post : SX → Prop) (aw am au : Nat → Int32) (t0 : Nat → Int64) {a b : Nat} (ha : a < 8) (hb : b < 8) (hab : a ≠ b) (H : ∀ t : Nat → Int64, (∀ i j, i < 8 → j < 8 → t (i * 8 + j) = t0 (dm_tr b a i * 8 + j)) → post (aw, am, au, t)) : ∀ (d c : Nat) (t : Nat → Int64), c + d = 8 → (∀ i j, i < 8 → j < 8 → t (i * 8 + j) = if j < c then t0 (dm_tr b a i * 8 + j) else t0 (i * 8 + j)) → wX_swapRows_2 post (nI a) (nI b) (d + 1) (nI c) aw am au t := by
  intro d
  induction d with
  | zero =>
    intro c t h ht
    have e : c = 8 := by omega
    subst e
    refine br_t (nI_le (a := 8) (b := 8) (by omega) (by omega)) (H t ?_)
    intro i j hi hj
    rw [ht i j hi hj, if_pos hj]
  | succ d ih =>
    intro c t h ht
    have h8 : ¬ (8 : Int32) ≤ nI c := nI_ge (a := c) (b := 8) (by omega) (by omega)
    have hc : c < 8 := by omega
    have e1 := dm_ixc (a := a) (b := c) ha hc
    have e2 := dm_ixc (a := b) (b := c) hb hc
    have v1 := dm_ixi (a := a) (b := c) ha hc
    have v2 := dm_ixi (a := b) (b := c) hb hc
    refine br_f h8 ⟨v1, ?_⟩
    rw [e1, e2]
    refine nm_e ⟨v2, v1, nm_e ⟨v2, nm_e (nm_r (nI_1 c) (ih (c + 1) _ (by omega) ?_))⟩⟩
    intro i j hi hj
    by_cases hjc : j = c
    · subst hjc
      rw [if_pos (by omega)]
      by_cases hib : i = b
      · subst hib
        rw [pk_uLs, dm_tr_l, ht a j ha hj, if_neg (by omega)]
      · rw [pk_uLn (by omega)]
        by_cases hia : i = a
        · subst hia
          rw [pk_uLs, dm_tr_r, ht b j hb hj, if_neg (by omega)]
        · rw [pk_uLn (by omega), dm_tr_o hib hia, ht i j hi hj, if_neg (by omega)]
    · rw [pk_uLn (by omega), pk_uLn (by omega), ht i j hi hj]
      by_cases hl : j < c
      · rw [if_pos hl, if_pos (by omega)]
      · rw [if_neg hl, if_neg (by omega)]
theorem dm_mulbd {X P : Int} (hX : X.natAbs ≤ 82575360) (hP : P.natAbs ≤ 82575360) : (X * P).natAbs ≤ 6818690079129600 := by
  rw [Int.natAbs_mul]
  exact Nat.mul_le_mul hX hP
theorem dm_l64 {x p l y b : Int64} {X P L Y B N : Int} (hx : x.toInt = X) (hp : p.toInt = P) (hl : l.toInt = L) (hy : y.toInt = Y) (hb : b.toInt = B) (bx : X.natAbs ≤ 82575360) (bp : P.natAbs ≤ 82575360) (bl : L.natAbs ≤ 82575360) (bY : Y.natAbs ≤ 82575360) (hB : B ≠ 0) (e : X * P - L * Y = B * N) : ((x * p - l * y) / b).toInt = N := by
  have h1 := dm_mulbd bx bp
  have h2 := dm_mulbd bl bY
  have hN : N.natAbs ≤ (B * N).natAbs := by
    rw [Int.natAbs_mul]
    exact Nat.le_mul_of_pos_left _ (Int.natAbs_pos.mpr hB)
  rw [Int64.toInt_div, Int64.toInt_sub, Int64.toInt_mul, Int64.toInt_mul, hx, hp, hl, hy, hb]
  rw [Int.bmod_eq_of_le (n := X * P) (by omega) (by omega), Int.bmod_eq_of_le (n := L * Y) (by omega) (by omega), Int.bmod_eq_of_le (n := X * P - L * Y) (by omega) (by omega), e, Int.mul_tdiv_cancel_left _ hB]
  exact Int.bmod_eq_of_le (by omega) (by omega)
end
section
/-! elimination and the whole sum -/
theorem dm_el44 (post : SX → Prop) (J : Int32 → (Nat → Int32) → (Nat → Int32) → (Nat → Int32) → (Nat → Int64) → Prop) (aw am au : Nat → Int32) (O N : Nat → Nat → Int) {k r : Nat} (hkr : k < r) (hr : r < 8) {b x4 x7 : Int64} {B : Int} (hb : b.toInt = B) (hB : B ≠ 0) (h4 : x4.toInt = O k k) (h7 : x7.toInt = O r k)
    (bd : ∀ i j, k ≤ i → i < 8 → k ≤ j → j < 8 → (O i j).natAbs ≤ 82575360)
    (eq : ∀ j, k < j → j < 8 → O r j * O k k - O r k * O k j = B * N r j)
    (t0 : Nat → Int64) (h0k : ∀ j, k < j → j < 8 → (t0 (k * 8 + j)).toInt = O k j) (h0r : ∀ j, k < j → j < 8 → (t0 (r * 8 + j)).toInt = O r j)
    (H : ∀ t : Nat → Int64, (∀ i j, i < 8 → j < 8 → i ≠ r → t (i * 8 + j) = t0 (i * 8 + j)) → (∀ j, k < j → j < 8 → (t (r * 8 + j)).toInt = N r j) → J (nI (r + 1)) aw am au t) :
    ∀ (d c : Nat) (t : Nat → Int64), c + d = 8 → k < c → (∀ i j, i < 8 → j < 8 → i ≠ r → t (i * 8 + j) = t0 (i * 8 + j)) → (∀ j, k < j → j < c → (t (r * 8 + j)).toInt = N r j) → (∀ j, c ≤ j → j < 8 → t (r * 8 + j) = t0 (r * 8 + j)) → wX_eliminate_44 post J (nI k) b x4 (nI r) x7 (d + 1) (nI c) aw am au t := by
  have hb0 : ¬ b = 0 := by
    intro e
    rw [e] at hb
    exact hB hb.symm
  intro d
  induction d with
  | zero =>
    intro c t h hc hi hl hh
    have e : c = 8 := by omega
    subst e
    have e1 := dm_ixc (a := r) (b := k) hr (by omega)
    refine br_t (nI_le (a := 8) (b := 8) (by omega) (by omega)) ⟨dm_ixi hr (by omega), ?_⟩
    rw [e1]
    refine nm_e (nm_r (nI_1 r) (H _ ?_ ?_))
    · intro i j h1 h2 h3
      rw [pk_uLn (by omega)]
      exact hi i j h1 h2 h3
    · intro j h1 h2
      rw [pk_uLn (by omega)]
      exact hl j h1 h2
  | succ d ih =>
    intro c t h hc hi hl hh
    have h8 : ¬ (8 : Int32) ≤ nI c := nI_ge (a := c) (b := 8) (by omega) (by omega)
    have hc8 : c < 8 := by omega
    have e1 := dm_ixc (a := r) (b := c) hr hc8
    have e2 := dm_ixc (a := k) (b := c) (by omega) hc8
    have v1 := dm_ixi (a := r) (b := c) hr hc8
    have v2 := dm_ixi (a := k) (b := c) (by omega) hc8
    have hv : ((t (r * 8 + c) * x4 - x7 * t (k * 8 + c)) / b).toInt = N r c := by
      refine dm_l64 (X := O r c) (P := O k k) (L := O r k) (Y := O k c) (B := B) ?_ h4 h7 ?_ hb (bd r c (by omega) hr (by omega) hc8) (bd k k (by omega) (by omega) (by omega) (by omega)) (bd r k (by omega) hr (by omega) (by omega)) (bd k c (by omega) (by omega) (by omega) hc8) hB (eq c hc hc8)
      · rw [hh c (by omega) hc8]
        exact h0r c hc hc8
      · rw [hi k c (by omega) hc8 (by omega)]
        exact h0k c hc hc8
    refine br_f h8 ⟨v1, v2, ?_⟩
    rw [e1, e2]
    refine nm_e (br_f hb0 ⟨hb0, v1, nm_e (nm_r (nI_1 c) (ih (c + 1) _ (by omega) (by omega) ?_ ?_ ?_))⟩)
    · intro i j h1 h2 h3
      rw [pk_uLn (by omega)]
      exact hi i j h1 h2 h3
    · intro j h1 h2
      by_cases e : j = c
      · subst e
        rw [pk_uLs]
        exact hv
      · rw [pk_uLn (by omega)]
        exact hl j h1 (by omega)
    · intro j h1 h2
      rw [pk_uLn (by omega)]
      exact hh j (by omega) h2
theorem dm_el18 (post : SX → Prop) (aw am au : Nat → Int32) (O N : Nat → Nat → Int) {k : Nat} (hk : k < 8) {b x4 : Int64} {B : Int} (hb : b.toInt = B) (hB : B ≠ 0) (h4 : x4.toInt = O k k)
    (bd : k < 7 → ∀ i j, k ≤ i → i < 8 → k ≤ j → j < 8 → (O i j).natAbs ≤ 82575360)
    (eq : ∀ i j, k < i → i < 8 → k < j → j < 8 → O i j * O k k - O i k * O k j = B * N i j)
    (tt : Nat → Int64) (hkk : ∀ j, k ≤ j → j < 8 → (tt (k * 8 + j)).toInt = O k j)
    (H : ∀ t : Nat → Int64, t (k * 8 + k) = tt (k * 8 + k) → (∀ i j, k < i → i < 8 → k < j → j < 8 → (t (i * 8 + j)).toInt = N i j) → post (aw, am, au, t)) :
    ∀ (d r : Nat) (t : Nat → Int64), r + d = 8 → k < r → (∀ j, j < 8 → t (k * 8 + j) = tt (k * 8 + j)) → (∀ i j, r ≤ i → i < 8 → k ≤ j → j < 8 → (t (i * 8 + j)).toInt = O i j) → (∀ i j, k < i → i < r → k < j → j < 8 → (t (i * 8 + j)).toInt = N i j) → wX_eliminate_18 post (nI k) b x4 (d + 1) (nI r) aw am au t := by
  intro d
  induction d with
  | zero =>
    intro r t h hr h1 h2 h3
    have e : r = 8 := by omega
    subst e
    exact br_t (nI_le (a := 8) (b := 8) (by omega) (by omega)) (H t (h1 k hk) h3)
  | succ d ih =>
    intro r t h hr h1 h2 h3
    have h8 : ¬ (8 : Int32) ≤ nI r := nI_ge (a := r) (b := 8) (by omega) (by omega)
    have hr8 : r < 8 := by omega
    have e1 := dm_ixc (a := r) (b := k) hr8 hk
    refine br_f h8 ⟨dm_ixi hr8 hk, ?_⟩
    rw [e1]
    refine nm_e (nm_r (nI_1 k) ⟨8 - (k + 1) + 1, ?_⟩)
    refine dm_el44 post _ aw am au O N hr hr8 hb hB h4 (h2 r k (Nat.le_refl _) hr8 (Nat.le_refl _) hk) (bd (by omega)) (fun j a b => eq r j hr hr8 a b) t ?_ ?_ ?_ (8 - (k + 1)) (k + 1) t (by omega) (by omega) (fun _ _ _ _ _ => rfl) (fun j a b => absurd a (by omega)) (fun _ _ _ => rfl)
    · intro j a b
      rw [h1 j b]
      exact hkk j (by omega) b
    · intro j a b
      exact h2 r j (Nat.le_refl _) hr8 (by omega) b
    · intro t' g1 g2
      refine ih (r + 1) t' (by omega) (by omega) ?_ ?_ ?_
      · intro j a
        rw [g1 k j hk a (by omega)]
        exact h1 j a
      · intro i j a b c e
        rw [g1 i j b e (by omega)]
        exact h2 i j (by omega) b c e
      · intro i j a b c e
        by_cases f : i = r
        · subst f
          exact g2 j c e
        · rw [g1 i j (by omega) e f]
          exact h3 i j a (by omega) c e
theorem dm_elim {post : SX → Prop} (aw am au : Nat → Int32) (O N : Nat → Nat → Int) {k : Nat} (hk : k < 8) {b : Int64} {B : Int} (hb : b.toInt = B) (hB : B ≠ 0)
    (bd : k < 7 → ∀ i j, k ≤ i → i < 8 → k ≤ j → j < 8 → (O i j).natAbs ≤ 82575360)
    (eq : ∀ i j, k < i → i < 8 → k < j → j < 8 → O i j * O k k - O i k * O k j = B * N i j)
    (t : Nat → Int64) (ht : ∀ i j, k ≤ i → i < 8 → k ≤ j → j < 8 → (t (i * 8 + j)).toInt = O i j)
    (H : ∀ t' : Nat → Int64, t' (k * 8 + k) = t (k * 8 + k) → (∀ i j, k < i → i < 8 → k < j → j < 8 → (t' (i * 8 + j)).toInt = N i j) → post (aw, am, au, t')) : wpX_eliminate post (aw, am, au, t) (nI k) b := by
  have e1 := dm_ixc (a := k) (b := k) hk hk
  refine ⟨dm_ixi hk hk, ?_⟩
  rw [e1]
  refine nm_e (nm_r (nI_1 k) ⟨8 - (k + 1) + 1, ?_⟩)
  exact dm_el18 post aw am au O N hk hb hB (ht k k (Nat.le_refl _) hk (Nat.le_refl _) hk) bd eq t (fun j a b => ht k j (Nat.le_refl _) hk a b) H (8 - (k + 1)) (k + 1) t (by omega) (by omega) (fun _ _ => rfl) (fun i j a b c e => ht i j (by omega) b c e) (fun i j a b => absurd a (by omega))
/-- the table at stage k -/
def dm_In (A : Nat → Nat → Int) (Z k : Nat) (b : Int64) (t : Nat → Int64) : Prop :=
  (∀ i j, i < 8 → j < 8 → (A i j).natAbs ≤ 4) ∧ (dm_det (dm_dn 8) A).natAbs = Z ∧ (∀ m, m ≤ k → dm_e A m ≠ 0) ∧ b.toInt = dm_e A k ∧ (∀ i j, k ≤ i → i < 8 → k ≤ j → j < 8 → (t (i * 8 + j)).toInt = dm_E A k (A i) j)
theorem dm_su79 (post : Int32 → SX → Prop) (J : Int64 → Int32 → (Nat → Int32) → (Nat → Int32) → (Nat → Int32) → (Nat → Int64) → Prop) (aw am au : Nat → Int32) {A : Nat → Nat → Int} {Z k : Nat} (hk : k < 8) {b : Int64} {t : Nat → Int64} (I : dm_In A Z k b t) (hp : t (k * 8 + k) ≠ 0)
    (H : ∀ (b' : Int64) (t' : Nat → Int64), dm_In A Z (k + 1) b' t' → J b' (nI (k + 1)) aw am au t') : wX_sumUsed_79 post J b (nI k) aw am au t := by
  obtain ⟨i1, i2, i3, i4, i5⟩ := I
  have e1 := dm_ixc (a := k) (b := k) hk hk
  have hkk := i5 k k (Nat.le_refl _) hk (Nat.le_refl _) hk
  have hne : dm_e A (k + 1) ≠ 0 := by
    rw [dm_e_succ, ← hkk]
    intro z
    exact hp (Int64.toInt_inj.mp z)
  have hall : ∀ m, m ≤ k + 1 → dm_e A m ≠ 0 := by
    intro m hm
    by_cases e : m = k + 1
    · rw [e]; exact hne
    · exact i3 m (by omega)
  unfold wX_sumUsed_79
  refine dm_elim aw am au (fun i j => dm_E A k (A i) j) (fun i j => dm_E A (k + 1) (A i) j) hk i4 (i3 k (Nat.le_refl _)) (fun h7 i j _ a _ c => dm_E_bd i1 h7 a c) ?_ t i5 ?_
  · intro i j _ _ _ _
    show dm_E A k (A i) j * dm_E A k (A k) k - dm_E A k (A i) k * dm_E A k (A k) j = dm_e A k * dm_E A (k + 1) (A i) j
    rw [dm_bareiss A k hall (A i) j, dm_e_succ, Int.mul_comm (dm_E A k (A k) k)]
  · intro t' g1 g2
    dsimp only
    refine ⟨dm_ixi hk hk, ?_⟩
    rw [e1]
    refine nm_e (nm_r (nI_1 k) (H _ t' ⟨i1, i2, hall, ?_, ?_⟩))
    · rw [g1, hkk, dm_e_succ]
    · intro i j a b c e
      exact g2 i j (by omega) b (by omega) e
theorem dm_l2i {x : Int64} {Z : Nat} (h : x.toInt = (Z : Int)) (hZ : Z < 2 ^ 31) : x.toInt32 = nI Z := by
  rw [Int64.toInt_inj.mp (h.trans (lN_toInt hZ).symm), lN_i]
theorem dm_su44 (post : Int32 → SX → Prop) (aw am au : Nat → Int32) {Z : Nat} (hZ : Z < 2 ^ 31) (H : ∀ t, post (nI Z) (aw, am, au, t)) : ∀ (d k : Nat) (A : Nat → Nat → Int) (b : Int64) (t : Nat → Int64), k + d = 8 → dm_In A Z k b t → wX_sumUsed_44 post (d + 1) b (nI k) aw am au t := by
  intro d
  induction d with
  | zero =>
    intro k A b t h I
    have e : k = 8 := by omega
    subst e
    obtain ⟨i1, i2, i3, i4, i5⟩ := I
    have h1 : b.toInt.natAbs = Z := by
      rw [i4, dm_e_8, i2]
    refine br_t (nI_le (a := 8) (b := 8) (by omega) (by omega)) ?_
    have z0 : (0 : Int64).toInt = 0 := rfl
    by_cases c : (0 : Int64) ≤ b
    · refine br_t c ?_
      rw [Int64.le_iff_toInt_le, z0] at c
      rw [dm_l2i (Z := Z) (by omega) hZ]
      exact H t
    · refine br_f c ?_
      rw [Int64.le_iff_toInt_le, z0] at c
      rw [dm_l2i (Z := Z) ?_ hZ]
      · exact H t
      · rw [Int64.toInt_neg, Int.bmod_eq_of_le (by omega) (by omega)]
        omega
  | succ d ih =>
    intro k A b t h I
    have hk : k < 8 := by omega
    have h8 : ¬ (8 : Int32) ≤ nI k := nI_ge (a := k) (b := 8) (by omega) (by omega)
    refine br_f h8 ⟨8 - k + 1, ?_⟩
    refine dm_piv _ aw am au t hk ?_ (8 - k) k (by omega) (Nat.le_refl _) (fun i a b => absurd a (by omega))
    intro r hkr hr8 hne hz
    by_cases e8 : r = 8
    · subst e8
      refine br_t rfl ?_
      obtain ⟨i1, i2, i3, i4, i5⟩ := I
      have hd : dm_det (dm_dn 8) A = 0 := by
        refine dm_zero A hk (i3 k (Nat.le_refl _)) ?_
        intro i a b
        rw [← i5 i k a b (Nat.le_refl _) hk, hz i a b]
        rfl
      rw [hd] at i2
      have hz0 : Z = 0 := i2.symm
      subst hz0
      exact H t
    · have hr : r < 8 := by omega
      have n8 : ¬ nI r = 8 := fun z => e8 ((nI_eq (a := r) (b := 8) (by omega) (by omega)).mp z)
      refine br_f n8 ?_
      by_cases erk : r = k
      · subst erk
        refine br_t rfl ?_
        exact dm_su79 post _ aw am au hk I (hne hr) (fun b' t' I' => ih (r + 1) A b' t' (by omega) I')
      · have nrk : ¬ nI r = nI k := fun z => erk ((nI_eq (by omega) (by omega)).mp z)
        refine br_f nrk ⟨9, ?_⟩
        refine dm_swp _ aw am au t hr hk erk ?_ 8 0 t rfl (fun i j _ _ => (if_neg (Nat.not_lt_zero _)).symm)
        intro t' ht'
        dsimp only
        have I' : dm_In (fun i => A (dm_tr k r i)) Z k b t' := by
          obtain ⟨i1, i2, i3, i4, i5⟩ := I
          have ftr : ∀ i, i < 8 → dm_tr k r i < 8 := by
            intro i hi
            unfold dm_tr
            split
            · exact hr
            · split
              · exact hk
              · exact hi
          have ftk : ∀ i, k ≤ i → k ≤ dm_tr k r i := by
            intro i hi
            unfold dm_tr
            split
            · exact hkr
            · split
              · exact Nat.le_refl _
              · exact hi
          have low : ∀ m, m ≤ k → ∀ i, i < m → (fun i => A (dm_tr k r i)) i = A i := by
            intro m hm i hi
            show A (dm_tr k r i) = A i
            rw [dm_tr_o (by omega) (by omega)]
          refine ⟨fun i j a b => i1 _ j (ftr i a) b, ?_, ?_, ?_, ?_⟩
          · obtain ⟨q, hq⟩ : ∃ q, r = k + 1 + q := ⟨r - k - 1, by omega⟩
            subst hq
            rw [dm_det_tr (dm_dn 8) k q A (by rw [dm_dn_len]; omega), Int.natAbs_neg]
            exact i2
          · intro m hm
            rw [dm_e_congr (low m hm)]
            exact i3 m hm
          · rw [dm_e_congr (low k (Nat.le_refl _))]
            exact i4
          · intro i j a b c e
            rw [ht' i j b e, dm_E_congr (low k (Nat.le_refl _))]
            exact i5 _ j (ftk i a) (ftr i b) c e
        refine dm_su79 post _ aw am au hk I' ?_ (fun b' t'' I'' => ih (k + 1) _ b' t'' (by omega) I'')
        rw [ht' k k hk hk, dm_tr_l]
        exact hne hr
end
section
/-! the component's private sums -/
theorem dm_plce : ∀ p, p < 24 → dm_pl (dm_ce p) = p := by decide +kernel
theorem dm_cepl : ∀ x, x < 64 → dm_pl x < 24 → dm_ce (dm_pl x) = x := by decide +kernel
theorem dm_smallI : ∀ k, k < 5 → (nI k).toInt64.toInt = (k : Int) ∧ (-(nI k)).toInt64.toInt = -(k : Int) := by decide +kernel
theorem dm_su23 (post : Int32 → SX → Prop) (aw am au : Nat → Int32) (H : ∀ t : Nat → Int64, (∀ x, x < 64 → t x = if dm_pl x < 24 then dm_vl au (dm_pl x) else 0) → ∃ n, wX_sumUsed_44 post n 1 0 aw am au t) : ∀ (d p : Nat) (t : Nat → Int64), p + d = 24 → (∀ x, x < 64 → t x = if dm_pl x < p then dm_vl au (dm_pl x) else 0) → wX_sumUsed_23 post (d + 1) (nI p) aw am au t := by
  intro d
  induction d with
  | zero =>
    intro p t h ht
    have e : p = 24 := by omega
    subst e
    exact br_t (nI_le (a := 24) (b := 24) (by omega) (by omega)) (H t ht)
  | succ d ih =>
    intro p t h ht
    have h24 : ¬ (24 : Int32) ≤ nI p := nI_ge (a := p) (b := 24) (by omega) (by omega)
    refine br_f h24 ?_
    refine dm_enter (by omega) aw am au t ?_
    dsimp only
    refine nm_r (nI_1 p) (ih (p + 1) _ (by omega) ?_)
    intro x hx
    have hc := dm_plce p (by omega)
    by_cases e : x = dm_ce p
    · subst e
      rw [pk_uLs, hc, if_pos (by omega)]
    · rw [pk_uLn e, ht x hx]
      have hne : dm_pl x ≠ p := by
        intro z
        apply e
        rw [← z]
        exact (dm_cepl x hx (by omega)).symm
      by_cases l : dm_pl x < p
      · rw [if_pos l, if_pos (by omega)]
      · rw [if_neg l, if_neg (by omega)]
theorem dm_su2 (post : Int32 → SX → Prop) (aw am au : Nat → Int32) (H : ∀ t : Nat → Int64, (∀ x, x < 64 → t x = 0) → ∃ n, wX_sumUsed_23 post n 0 aw am au t) : ∀ (d p : Nat) (t : Nat → Int64), p + d = 64 → (∀ x, x < p → t x = 0) → wX_sumUsed_2 post (d + 1) (nI p) aw am au t := by
  intro d
  induction d with
  | zero =>
    intro p t h ht
    have e : p = 64 := by omega
    subst e
    exact br_t (nI_le (a := 64) (b := 64) (by omega) (by omega)) (H t ht)
  | succ d ih =>
    intro p t h ht
    have h24 : ¬ (64 : Int32) ≤ nI p := nI_ge (a := p) (b := 64) (by omega) (by omega)
    refine br_f h24 ⟨vp_in_nI (by omega) (by omega), ?_⟩
    rw [nI_clamp (by omega)]
    refine nm_e (nm_r (nI_1 p) (ih (p + 1) _ (by omega) ?_))
    intro x hx
    by_cases e : x = p
    · subst e
      exact pk_uLs
    · rw [pk_uLn e]
      exact ht x (by omega)
theorem dm_sum_used {post : Int32 → SX → Prop} (aw am au : Nat → Int32) (t0 : Nat → Int64) (w : Nat → Nat) (hw : ∀ p, p < 24 → au p = nI (w p)) (h4 : ∀ p, p < 24 → w p ≤ 4) (H : ∀ t, post (nI (dm_Z w)) (aw, am, au, t)) : wpX_sumUsed post (aw, am, au, t0) := by
  refine ⟨65, dm_su2 post aw am au ?_ 64 0 t0 rfl (fun x hx => absurd hx (Nat.not_lt_zero _))⟩
  intro t1 h1
  refine ⟨25, dm_su23 post aw am au ?_ 24 0 t1 rfl (fun x hx => by rw [h1 x hx, if_neg (Nat.not_lt_zero _)])⟩
  intro t2 h2
  have hZ := dm_Z_bd h4
  refine ⟨9, dm_su44 post aw am au (Z := dm_Z w) (by omega) H 8 0 (dm_A w) 1 t2 rfl ⟨fun i j _ _ => dm_A_bd h4 i j, ?_, ?_, ?_, ?_⟩⟩
  · rw [dm_kasteleyn]
    rfl
  · intro m hm
    have e : m = 0 := by omega
    subst e
    rw [dm_e_0]
    decide
  · rfl
  · intro i j _ hi _ hj
    rw [h2 (i * 8 + j) (by omega), dm_E_0]
    show _ = dm_en w (dm_pl (i * 8 + j))
    unfold dm_en
    by_cases l : dm_pl (i * 8 + j) < 24
    · rw [if_pos l, if_pos l]
      have hs := dm_smallI (w (dm_pl (i * 8 + j))) (by have := h4 _ l; omega)
      unfold dm_vl
      rw [hw _ l]
      cases dm_ng (dm_pl (i * 8 + j))
      · exact hs.1
      · exact hs.2
    · rw [if_neg l, if_neg l]
      rfl
theorem dm_upd_back (f : Nat → Int32) (k : Nat) (x : Int32) : upd (upd f k x) k (f k) = f := by
  funext j
  by_cases e : j = k
  · rw [e]; exact pk_us
  · rw [pk_un e, pk_un e]
theorem dm_upd_wz {au : Nat → Int32} {w : Nat → Nat} (hw : ∀ p, p < 24 → au p = nI (w p)) (q : Nat) : ∀ p, p < 24 → upd au q 0 p = nI (dm_wz w q p) := by
  intro p hp
  by_cases e : p = q
  · subst e
    rw [pk_us, dm_wz_s]
    rfl
  · rw [pk_un e, dm_wz_o w e]
    exact hw p hp
theorem dm_without {post : Int32 → SX → Prop} (aw am au : Nat → Int32) (t0 : Nat → Int64) (w : Nat → Nat) (hw : ∀ p, p < 24 → au p = nI (w p)) (h4 : ∀ p, p < 24 → w p ≤ 4) {q : Nat} (hq : q < 24) (H : ∀ t, post (nI (dm_Z (dm_wz w q))) (aw, am, au, t)) : wpX_sumWithout post (aw, am, au, t0) (nI q) := by
  have v := vp_in_nI hq (by omega : 24 < 2 ^ 31)
  have e : (nI q).toNatClampNeg = q := nI_clamp (by omega)
  unfold wpX_sumWithout
  dsimp only
  refine ⟨v, ?_⟩
  rw [e]
  refine nm_e ⟨v, nm_e ?_⟩
  refine dm_sum_used aw am (upd au q 0) t0 (dm_wz w q) (dm_upd_wz hw q) (dm_wz_bd h4 q) ?_
  intro t
  dsimp only
  refine ⟨v, nm_r (dm_upd_back au q 0) (H t)⟩
theorem dm_with {post : Int32 → SX → Prop} (aw am au : Nat → Int32) (t0 : Nat → Int64) (w : Nat → Nat) (hw : ∀ p, p < 24 → au p = nI (w p)) (h4 : ∀ p, p < 24 → w p ≤ 4) {q : Nat} (hq : q < 24) (H : ∀ t, post (nI (dm_S (fun m => m.testBit q) w)) (aw, am, au, t)) : wpX_sumWith post (aw, am, au, t0) (nI q) := by
  unfold wpX_sumWith
  dsimp only
  refine dm_sum_used aw am au t0 w hw h4 ?_
  intro t
  dsimp only
  refine dm_without aw am au t w hw h4 hq ?_
  intro t'
  dsimp only
  rw [dm_Z_split w hq, pk_sub (Nat.le_add_left _ _), Nat.add_sub_cancel]
  exact H t'
theorem dm_useW_l (post : SX → Prop) (aw am : Nat → Int32) (t0 : Nat → Int64) (H : ∀ au, (∀ p, p < 24 → au p = aw p) → post (aw, am, au, t0)) : ∀ (d p : Nat) (au : Nat → Int32), p + d = 24 → (∀ x, x < p → au x = aw x) → wX_useWeights_2 post (d + 1) (nI p) aw am au t0 := by
  intro d
  induction d with
  | zero =>
    intro p au h ha
    have e : p = 24 := by omega
    subst e
    exact br_t (nI_le (a := 24) (b := 24) (by omega) (by omega)) (H au ha)
  | succ d ih =>
    intro p au h ha
    have h24 : ¬ (24 : Int32) ≤ nI p := nI_ge (a := p) (b := 24) (by omega) (by omega)
    have v := vp_in_nI (n := p) (N := 24) (by omega) (by omega)
    refine br_f h24 ⟨v, v, ?_⟩
    rw [nI_clamp (by omega)]
    refine nm_e (nm_r (nI_1 p) (ih (p + 1) _ (by omega) ?_))
    intro x hx
    by_cases e : x = p
    · subst e
      exact pk_us
    · rw [pk_un e]
      exact ha x (by omega)
theorem dm_useW {post : SX → Prop} (aw am au0 : Nat → Int32) (t0 : Nat → Int64) (w : Nat → Nat) (hw : ∀ p, p < 24 → aw p = nI (w p)) (H : ∀ au, (∀ p, p < 24 → au p = nI (w p)) → post (aw, am, au, t0)) : wpX_useWeights post (aw, am, au0, t0) :=
  ⟨25, dm_useW_l post aw am t0 (fun au h => H au (fun p hp => (h p hp).trans (hw p hp))) 24 0 au0 rfl (fun x hx => absurd hx (Nat.not_lt_zero _))⟩
theorem dm_useO_l (post : SX → Prop) (aw am : Nat → Int32) (t0 : Nat → Int64) (w : Nat → Nat) (hw : ∀ p, p < 24 → aw p = nI (w p)) (h4 : ∀ p, p < 24 → w p ≤ 4) (H : ∀ au, (∀ p, p < 24 → au p = nI (dm_on w p)) → post (aw, am, au, t0)) : ∀ (d p : Nat) (au : Nat → Int32), p + d = 24 → (∀ x, x < p → au x = nI (dm_on w x)) → wX_useOnes_2 post (d + 1) (nI p) aw am au t0 := by
  intro d
  induction d with
  | zero =>
    intro p au h ha
    have e : p = 24 := by omega
    subst e
    exact br_t (nI_le (a := 24) (b := 24) (by omega) (by omega)) (H au ha)
  | succ d ih =>
    intro p au h ha
    have h24 : ¬ (24 : Int32) ≤ nI p := nI_ge (a := p) (b := 24) (by omega) (by omega)
    have v := vp_in_nI (n := p) (N := 24) (by omega) (by omega)
    have hp4 := h4 p (by omega)
    refine br_f h24 ⟨v, ?_⟩
    rw [nI_clamp (by omega), hw p (by omega)]
    by_cases hz : 0 < w p
    · refine br_f (nI_nle hz (by omega)) ⟨v, nm_e (nm_r (nI_1 p) (ih (p + 1) _ (by omega) ?_))⟩
      intro x hx
      by_cases e : x = p
      · subst e
        rw [pk_us]
        unfold dm_on
        rw [if_pos hz]
        rfl
      · rw [pk_un e]
        exact ha x (by omega)
    · have e0 : w p = 0 := by omega
      refine br_t (by rw [e0]; decide) ⟨v, nm_e (nm_r (nI_1 p) (ih (p + 1) _ (by omega) ?_))⟩
      intro x hx
      by_cases e : x = p
      · subst e
        rw [pk_us]
        unfold dm_on
        rw [if_neg hz]
        rfl
      · rw [pk_un e]
        exact ha x (by omega)
theorem dm_useO {post : SX → Prop} (aw am au0 : Nat → Int32) (t0 : Nat → Int64) (w : Nat → Nat) (hw : ∀ p, p < 24 → aw p = nI (w p)) (h4 : ∀ p, p < 24 → w p ≤ 4) (H : ∀ au, (∀ p, p < 24 → au p = nI (dm_on w p)) → post (aw, am, au, t0)) : wpX_useOnes post (aw, am, au0, t0) :=
  ⟨25, dm_useO_l post aw am t0 w hw h4 H 24 0 au0 rfl (fun x hx => absurd hx (Nat.not_lt_zero _))⟩
theorem dm_set20 (post : Int32 → SX → Prop) (aw am au : Nat → Int32) (w : Nat → Nat) (hw : ∀ p, p < 24 → au p = nI (w p)) (h4 : ∀ p, p < 24 → w p ≤ 4) (H : ∀ t, post (nI (dm_ns 24 (fun p => if dm_Z (dm_wz w p) = 0 then 1 else 0))) (aw, am, au, t)) : ∀ (d p : Nat) (t : Nat → Int64), p + d = 24 → wX_settled_20 post (d + 1) (nI (dm_ns p (fun p => if dm_Z (dm_wz w p) = 0 then 1 else 0))) (nI p) aw am au t := by
  intro d
  induction d with
  | zero =>
    intro p t h
    have e : p = 24 := by omega
    subst e
    exact br_t (nI_le (a := 24) (b := 24) (by omega) (by omega)) (H t)
  | succ d ih =>
    intro p t h
    have h24 : ¬ (24 : Int32) ≤ nI p := nI_ge (a := p) (b := 24) (by omega) (by omega)
    refine br_f h24 ?_
    refine dm_without aw am au t w hw h4 (by omega) ?_
    intro t'
    dsimp only
    have hi := ih (p + 1) t' (by omega)
    have hZ := dm_Z_bd (dm_wz_bd h4 p)
    by_cases z : dm_Z (dm_wz w p) = 0
    · refine br_t (by rw [z]; rfl) ?_
      refine nm_r ?_ (nm_r (nI_1 p) hi)
      rw [nI_1]
      show _ = nI (dm_ns p _ + (if dm_Z (dm_wz w p) = 0 then 1 else 0))
      rw [if_pos z]
    · refine br_f (nI_ne0 (by omega) (by omega)) (nm_r (nI_1 p) ?_)
      have e : dm_ns (p + 1) (fun p => if dm_Z (dm_wz w p) = 0 then 1 else 0) = dm_ns p (fun p => if dm_Z (dm_wz w p) = 0 then 1 else 0) := by
        show dm_ns p _ + (if dm_Z (dm_wz w p) = 0 then 1 else 0) = _
        rw [if_neg z, Nat.add_zero]
      rw [e] at hi
      exact hi
theorem dm_acr8 (post : Int32 → SX → Prop) (aw am au : Nat → Int32) (w : Nat → Nat) (hw : ∀ p, p < 24 → au p = nI (w p)) (h4 : ∀ p, p < 24 → w p ≤ 4) (H : ∀ t, post (nI (dm_ns 12 (fun p => dm_S (fun m => m.testBit p) w))) (aw, am, au, t)) : ∀ (d p : Nat) (t : Nat → Int64), p + d = 12 → wX_acrossTotal_8 post (d + 1) (nI (dm_ns p (fun p => dm_S (fun m => m.testBit p) w))) (nI p) aw am au t := by
  intro d
  induction d with
  | zero =>
    intro p t h
    have e : p = 12 := by omega
    subst e
    exact br_t (nI_le (a := 12) (b := 12) (by omega) (by omega)) (H t)
  | succ d ih =>
    intro p t h
    have h24 : ¬ (12 : Int32) ≤ nI p := nI_ge (a := p) (b := 12) (by omega) (by omega)
    refine br_f h24 ?_
    refine dm_with aw am au t w hw h4 (by omega) ?_
    intro t'
    dsimp only
    refine nm_r ?_ (nm_r (nI_1 p) (ih (p + 1) t' (by omega)))
    rw [nI_add]
    rfl
end
section
/-! methods that store: filling, turning, forcing; the two sides keep one array of weights -/
def dm_iv (x : Nat) : Nat := ([20, 16, 12, 21, 17, 13, 22, 18, 14, 23, 19, 15, 9, 6, 3, 0, 10, 7, 4, 1, 11, 8, 5, 2] : List Nat).getD x 24
def dm_ok (aw : Nat → Int32) : Prop := ∀ p, p < 24 → ∃ j : Nat, j ≤ 4 ∧ aw p = nI j
theorem dm_ok_w {aw : Nat → Int32} (h : dm_ok aw) : ∃ w : Nat → Nat, (∀ p, p < 24 → aw p = nI (w p)) ∧ (∀ p, p < 24 → w p ≤ 4) := by
  refine ⟨fun p => (aw p).toNatClampNeg, ?_, ?_⟩
  · intro p hp
    obtain ⟨j, hj, e⟩ := h p hp
    show aw p = nI (aw p).toNatClampNeg
    rw [e, nI_clamp (by omega)]
  · intro p hp
    obtain ⟨j, hj, e⟩ := h p hp
    show (aw p).toNatClampNeg ≤ 4
    rw [e, nI_clamp (by omega)]
    exact hj
theorem dm_ok_upd {aw : Nat → Int32} (h : dm_ok aw) (k : Nat) {j : Nat} (hj : j ≤ 4) : dm_ok (upd aw k (nI j)) := by
  intro p hp
  by_cases e : p = k
  · exact ⟨j, hj, by rw [e]; exact pk_us⟩
  · obtain ⟨i, hi, ei⟩ := h p hp
    exact ⟨i, hi, by rw [pk_un e]; exact ei⟩
def dm_fill (f : Nat → Int32) (c : Int32) (n : Nat) : Nat → Int32 := fun x => if x < n then c else f x
theorem dm_fill_0 (f : Nat → Int32) (c : Int32) : dm_fill f c 0 = f := by
  funext x
  exact if_neg (Nat.not_lt_zero _)
theorem dm_fill_s (f : Nat → Int32) (c : Int32) (n : Nat) : upd (dm_fill f c n) n c = dm_fill f c (n + 1) := by
  funext x
  by_cases e : x = n
  · subst e
    rw [pk_us]
    exact (if_pos (by omega)).symm
  · rw [pk_un e]
    unfold dm_fill
    by_cases l : x < n
    · rw [if_pos l, if_pos (by omega)]
    · rw [if_neg l, if_neg (by omega)]
theorem dm_fill_ok (f : Nat → Int32) {j : Nat} (hj : j ≤ 4) : dm_ok (dm_fill f (nI j) 24) := by
  intro p hp
  exact ⟨j, hj, if_pos hp⟩
theorem dm_initX (post : SX → Prop) (f am au : Nat → Int32) (t : Nat → Int64) (H : post (dm_fill f 1 24, am, au, t)) : ∀ d p : Nat, p + d = 24 → wX_init_38 post (d + 1) (nI p) (dm_fill f 1 p) am au t := by
  intro d
  induction d with
  | zero =>
    intro p h
    have e : p = 24 := by omega
    subst e
    exact br_t (nI_le (a := 24) (b := 24) (by omega) (by omega)) H
  | succ d ih =>
    intro p h
    have h24 : ¬ (24 : Int32) ≤ nI p := nI_ge (a := p) (b := 24) (by omega) (by omega)
    refine br_f h24 ⟨vp_in_nI (by omega) (by omega), nm_r ?_ (nm_r (nI_1 p) (ih (p + 1) (by omega)))⟩
    rw [nI_clamp (by omega), dm_fill_s]
theorem dm_initY (post : SY → Prop) (f ao : Nat → Int32) (H : post (dm_fill f 1 24, ao)) : ∀ d p : Nat, p + d = 24 → wY_init_22 post (d + 1) (nI p) (dm_fill f 1 p) ao := by
  intro d
  induction d with
  | zero =>
    intro p h
    have e : p = 24 := by omega
    subst e
    exact br_t (nI_le (a := 24) (b := 24) (by omega) (by omega)) H
  | succ d ih =>
    intro p h
    have h24 : ¬ (24 : Int32) ≤ nI p := nI_ge (a := p) (b := 24) (by omega) (by omega)
    refine br_f h24 ⟨vp_in_nI (by omega) (by omega), nm_r ?_ (nm_r (nI_1 p) (ih (p + 1) (by omega)))⟩
    rw [nI_clamp (by omega), dm_fill_s]
theorem dm_allX (post : Int32 → SX → Prop) (c : Int32) (f am au : Nat → Int32) (t : Nat → Int64) (H : post 0 (dm_fill f c 24, am, au, t)) : ∀ d p : Nat, p + d = 24 → wX_all_14 post c (d + 1) (nI p) (dm_fill f c p) am au t := by
  intro d
  induction d with
  | zero =>
    intro p h
    have e : p = 24 := by omega
    subst e
    exact br_t (nI_le (a := 24) (b := 24) (by omega) (by omega)) H
  | succ d ih =>
    intro p h
    have h24 : ¬ (24 : Int32) ≤ nI p := nI_ge (a := p) (b := 24) (by omega) (by omega)
    refine br_f h24 ⟨vp_in_nI (by omega) (by omega), nm_r ?_ (nm_r (nI_1 p) (ih (p + 1) (by omega)))⟩
    rw [nI_clamp (by omega), dm_fill_s]
theorem dm_allY (post : Int32 → SY → Prop) (c : Int32) (f ao : Nat → Int32) (H : post 0 (dm_fill f c 24, ao)) : ∀ d p : Nat, p + d = 24 → wY_all_14 post c (d + 1) (nI p) (dm_fill f c p) ao := by
  intro d
  induction d with
  | zero =>
    intro p h
    have e : p = 24 := by omega
    subst e
    exact br_t (nI_le (a := 24) (b := 24) (by omega) (by omega)) H
  | succ d ih =>
    intro p h
    have h24 : ¬ (24 : Int32) ≤ nI p := nI_ge (a := p) (b := 24) (by omega) (by omega)
    refine br_f h24 ⟨vp_in_nI (by omega) (by omega), nm_r ?_ (nm_r (nI_1 p) (ih (p + 1) (by omega)))⟩
    rw [nI_clamp (by omega), dm_fill_s]
/-! turning -/
def dm_tn (aw : Nat → Int32) : Nat → Int32 := fun x => if x < 24 then aw (dm_iv x) else aw x
theorem dm_ivT : ∀ x, x < 24 → dm_iv x < 24 ∧ dm_to (dm_iv x) = x ∧ dm_to x < 24 ∧ dm_iv (dm_to x) = x := by decide +kernel
theorem dm_tn_ok {aw : Nat → Int32} (h : dm_ok aw) : dm_ok (dm_tn aw) := by
  intro p hp
  obtain ⟨j, hj, e⟩ := h (dm_iv p) (dm_ivT p hp).1
  exact ⟨j, hj, by unfold dm_tn; rw [if_pos hp]; exact e⟩
theorem dm_toX : ∀ p, p < 24 → (if 12 ≤ nI p then (((dm_fs (nI p) - dm_fs (nI p) / 4 * 4) * 3) + 2) - dm_fs (nI p) / 4 else ((12 + ((dm_fs (nI p) - dm_fs (nI p) / 4 * 4) * 4)) + 3) - dm_fs (nI p) / 4) = nI (dm_to p) := by decide +kernel
theorem dm_toY : ∀ p, p < 24 → (if 12 ≤ nI p then (((((nI p - 12) - (nI p - 12) / 4 * 4) * 3) + 2) - ((nI p - 12) / 4)) else (((12 + ((nI p - nI p / 3 * 3) * 4)) + 3) - (nI p / 3))) = nI (dm_to p) := by decide +kernel
theorem dm_t73 (post : SX → Prop) (aw0 am au : Nat → Int32) (t : Nat → Int64) (H : ∀ aw, (∀ x, aw x = if x < 24 then am x else aw0 x) → post (aw, am, au, t)) : ∀ (d p : Nat) (aw : Nat → Int32), p + d = 24 → (∀ x, aw x = if x < p then am x else aw0 x) → wX_turn_73 post (d + 1) (nI p) aw am au t := by
  intro d
  induction d with
  | zero =>
    intro p aw h ha
    have e : p = 24 := by omega
    subst e
    exact br_t (nI_le (a := 24) (b := 24) (by omega) (by omega)) (H aw ha)
  | succ d ih =>
    intro p aw h ha
    have h24 : ¬ (24 : Int32) ≤ nI p := nI_ge (a := p) (b := 24) (by omega) (by omega)
    have v := vp_in_nI (n := p) (N := 24) (by omega) (by omega)
    refine br_f h24 ⟨v, v, ?_⟩
    rw [nI_clamp (by omega)]
    refine nm_e (nm_r (nI_1 p) (ih (p + 1) _ (by omega) ?_))
    intro x
    by_cases e : x = p
    · subst e
      rw [pk_us, if_pos (by omega)]
    · rw [pk_un e, ha x]
      by_cases l : x < p
      · rw [if_pos l, if_pos (by omega)]
      · rw [if_neg l, if_neg (by omega)]
theorem dm_t50 {post : SX → Prop} {J : Int32 → (Nat → Int32) → (Nat → Int32) → (Nat → Int32) → (Nat → Int64) → Prop} {p : Nat} (hp : p < 24) {z : Int32} {q : Nat} (hq : q < 24) (ez : z = nI q) (aw am au : Nat → Int32) (t : Nat → Int64) (h : J (nI (p + 1)) aw (upd am q (aw p)) au t) : wX_turn_50 post J (nI p) z aw am au t := by
  subst ez
  refine ⟨vp_in_nI hp (by omega), vp_in_nI hq (by omega), ?_⟩
  rw [nI_clamp (by omega), nI_clamp (by omega)]
  exact nm_e (nm_r (nI_1 p) h)
theorem dm_t2 (post : SX → Prop) (aw au : Nat → Int32) (t : Nat → Int64) (H : ∀ am, post (dm_tn aw, am, au, t)) : ∀ (d p : Nat) (am : Nat → Int32), p + d = 24 → (∀ q, q < p → am (dm_to q) = aw q) → wX_turn_2 post (d + 1) (nI p) aw am au t := by
  intro d
  induction d with
  | zero =>
    intro p am h ha
    have e : p = 24 := by omega
    subst e
    refine br_t (nI_le (a := 24) (b := 24) (by omega) (by omega)) ⟨25, dm_t73 post aw am au t ?_ 24 0 aw rfl (fun x => (if_neg (Nat.not_lt_zero _)).symm)⟩
    intro aw' h'
    have e : aw' = dm_tn aw := by
      funext x
      rw [h' x]
      unfold dm_tn
      by_cases l : x < 24
      · rw [if_pos l, if_pos l, ← ha (dm_iv x) (dm_ivT x l).1, (dm_ivT x l).2.1]
      · rw [if_neg l, if_neg l]
    rw [e]
    exact H am
  | succ d ih =>
    intro p am h ha
    have h24 : ¬ (24 : Int32) ≤ nI p := nI_ge (a := p) (b := 24) (by omega) (by omega)
    have hp : p < 24 := by omega
    have hT := dm_ivT p hp
    have hz := dm_toX p hp
    have hi := ih (p + 1) (upd am (dm_to p) (aw p)) (by omega) (by
      intro q hq
      by_cases e : q = p
      · subst e
        exact pk_us
      · rw [pk_un]
        · exact ha q (by omega)
        · intro z
          apply e
          rw [← (dm_ivT q (by omega)).2.2.2, z, hT.2.2.2])
    refine br_f h24 ?_
    refine dm_fs_w ?_
    refine ⟨by decide, nm_e ⟨by decide, nm_e ?_⟩⟩
    by_cases c : 12 ≤ nI p
    · rw [if_pos c] at hz
      exact br_t c (dm_t50 hp hT.2.2.1 hz aw am au t hi)
    · rw [if_neg c] at hz
      exact br_f c (dm_t50 hp hT.2.2.1 hz aw am au t hi)
theorem dm_t28 (post : SY → Prop) (aw0 ao : Nat → Int32) (ho : ∀ p, p < 24 → ao p = aw0 p) (H : post (dm_tn aw0, ao)) : ∀ (d p : Nat) (aw : Nat → Int32), p + d = 24 → (∀ q, q < p → aw (dm_to q) = aw0 q) → (∀ x, 24 ≤ x → aw x = aw0 x) → wY_turn_28 post (d + 1) (nI p) aw ao := by
  intro d
  induction d with
  | zero =>
    intro p aw h ha hx
    have e : p = 24 := by omega
    subst e
    refine br_t (nI_le (a := 24) (b := 24) (by omega) (by omega)) ?_
    have e : aw = dm_tn aw0 := by
      funext x
      unfold dm_tn
      by_cases l : x < 24
      · rw [if_pos l, ← ha (dm_iv x) (dm_ivT x l).1, (dm_ivT x l).2.1]
      · rw [if_neg l]
        exact hx x (by omega)
    rw [e]
    exact H
  | succ d ih =>
    intro p aw h ha hx
    have h24 : ¬ (24 : Int32) ≤ nI p := nI_ge (a := p) (b := 24) (by omega) (by omega)
    have hp : p < 24 := by omega
    have hT := dm_ivT p hp
    have hz := dm_toY p hp
    have hi := ih (p + 1) (upd aw (dm_to p) (aw0 p)) (by omega) (by
      intro q hq
      by_cases e : q = p
      · subst e
        exact pk_us
      · rw [pk_un]
        · exact ha q (by omega)
        · intro z
          apply e
          rw [← (dm_ivT q (by omega)).2.2.2, z, hT.2.2.2]) (by
      intro x l
      rw [pk_un (by omega)]
      exact hx x l)
    have v := vp_in_nI (n := p) (N := 24) hp (by omega)
    have v2 := vp_in_nI (n := dm_to p) (N := 24) hT.2.2.1 (by omega)
    have cl : (nI (dm_to p)).toNatClampNeg = dm_to p := nI_clamp (by omega)
    refine br_f h24 ?_
    by_cases c : 12 ≤ nI p
    · rw [if_pos c] at hz
      refine br_t c ⟨by decide, by decide, v, ?_⟩
      rw [hz, cl, nI_clamp (by omega), ho p hp]
      exact ⟨v2, nm_e (nm_r (nI_1 p) hi)⟩
    · rw [if_neg c] at hz
      refine br_f c ⟨by decide, by decide, v, ?_⟩
      rw [hz, cl, nI_clamp (by omega), ho p hp]
      exact ⟨v2, nm_e (nm_r (nI_1 p) hi)⟩
theorem dm_tY2 (post : SY → Prop) (aw : Nat → Int32) (H : ∀ ao, post (dm_tn aw, ao)) : ∀ (d p : Nat) (ao : Nat → Int32), p + d = 24 → (∀ q, q < p → ao q = aw q) → wY_turn_2 post (d + 1) (nI p) aw ao := by
  intro d
  induction d with
  | zero =>
    intro p ao h ha
    have e : p = 24 := by omega
    subst e
    exact br_t (nI_le (a := 24) (b := 24) (by omega) (by omega)) ⟨25, dm_t28 post aw ao ha (H ao) 24 0 aw rfl (fun q hq => absurd hq (Nat.not_lt_zero _)) (fun _ _ => rfl)⟩
  | succ d ih =>
    intro p ao h ha
    have h24 : ¬ (24 : Int32) ≤ nI p := nI_ge (a := p) (b := 24) (by omega) (by omega)
    have v := vp_in_nI (n := p) (N := 24) (by omega) (by omega)
    refine br_f h24 ⟨v, v, ?_⟩
    rw [nI_clamp (by omega)]
    refine nm_e (nm_r (nI_1 p) (ih (p + 1) _ (by omega) ?_))
    intro q hq
    by_cases e : q = p
    · subst e
      exact pk_us
    · rw [pk_un e]
      exact ha q (by omega)
/-! forcing, in lockstep -/
theorem dm_force_l (s pl : Int32) : ∀ (d p : Nat) (cnt : Int32) (aw : Nat → Int32), p + d = 24 → dm_ok aw → ∃ (r : Int32) (aw' : Nat → Int32), dm_ok aw' ∧ (∀ (post : Int32 → SX → Prop) (am au : Nat → Int32) (t : Nat → Int64), post r (aw', am, au, t) → wX_force_37 post s pl (d + 1) cnt (nI p) aw am au t) ∧ (∀ (post : Int32 → SY → Prop) (ao : Nat → Int32), post r (aw', ao) → wY_force_34 post s pl (d + 1) cnt (nI p) aw ao) := by
  intro d
  induction d with
  | zero =>
    intro p cnt aw h ok
    have e : p = 24 := by omega
    subst e
    have c := nI_le (a := 24) (b := 24) (by omega) (by omega)
    exact ⟨cnt, aw, ok, fun _ _ _ _ hp => br_t c hp, fun _ _ hp => br_t c hp⟩
  | succ d ih =>
    intro p cnt aw h ok
    have h24 : ¬ (24 : Int32) ≤ nI p := nI_ge (a := p) (b := 24) (by omega) (by omega)
    have v := vp_in_nI (n := p) (N := 24) (by omega) (by omega)
    have cl : (nI p).toNatClampNeg = p := nI_clamp (by omega)
    by_cases c : dm_cv (nI p) s = 0
    · obtain ⟨r, aw', ok', hX, hY⟩ := ih (p + 1) cnt aw (by omega) ok
      refine ⟨r, aw', ok', fun post am au t hp => br_f h24 ?_, fun post ao hp => br_f h24 ?_⟩
      · refine dm_cv_w ?_
        exact br_t c (nm_r (nI_1 p) (hX post am au t hp))
      · by_cases e : nI p = pl
        · exact br_t e (nm_r (nI_1 p) (hY post ao hp))
        · refine br_f e ?_
          refine dm_cvY_w ?_
          exact br_t c (nm_r (nI_1 p) (hY post ao hp))
    · by_cases e : nI p = pl
      · obtain ⟨r, aw', ok', hX, hY⟩ := ih (p + 1) cnt aw (by omega) ok
        refine ⟨r, aw', ok', fun post am au t hp => br_f h24 ?_, fun post ao hp => br_f h24 ?_⟩
        · refine dm_cv_w ?_
          exact br_f c (br_t e (nm_r (nI_1 p) (hX post am au t hp)))
        · exact br_t e (nm_r (nI_1 p) (hY post ao hp))
      · by_cases z : aw (nI p).toNatClampNeg = 0
        · obtain ⟨r, aw', ok', hX, hY⟩ := ih (p + 1) cnt aw (by omega) ok
          refine ⟨r, aw', ok', fun post am au t hp => br_f h24 ?_, fun post ao hp => br_f h24 ?_⟩
          · refine dm_cv_w ?_
            exact br_f c (br_f e ⟨v, br_t z (nm_r (nI_1 p) (hX post am au t hp))⟩)
          · refine br_f e ?_
            refine dm_cvY_w ?_
            exact br_f c ⟨v, br_t z (nm_r (nI_1 p) (hY post ao hp))⟩
        · obtain ⟨r, aw', ok', hX, hY⟩ := ih (p + 1) (cnt + 1) (upd aw (nI p).toNatClampNeg 0) (by omega) (dm_ok_upd ok _ (j := 0) (by omega))
          refine ⟨r, aw', ok', fun post am au t hp => br_f h24 ?_, fun post ao hp => br_f h24 ?_⟩
          · refine dm_cv_w ?_
            exact br_f c (br_f e ⟨v, br_f z ⟨v, nm_e (nm_e (nm_r (nI_1 p) (hX post am au t hp)))⟩⟩)
          · refine br_f e ?_
            refine dm_cvY_w ?_
            exact br_f c ⟨v, br_f z ⟨v, nm_e (nm_e (nm_r (nI_1 p) (hY post ao hp)))⟩⟩
end
section
/-! the owed rows -/
def i_Rel (_ : Nat) (u : SX) (v : SY) : Prop := v.1 = u.1 ∧ dm_ok u.1
theorem i_up {k : Nat} {u : SX} {v : SY} (h : i_Rel k u v) : i_Rel (k + 3) u v := h
theorem i_vc0 : wpX_init (fun u => wpY_init (fun v => i_Rel 0 u v)) := by
  have f0 := dm_fill_0 (fun _ => 0) 1
  refine ⟨25, ?_⟩
  rw [← f0]
  refine dm_initX _ (fun _ => 0) _ _ _ ?_ 24 0 rfl
  refine ⟨25, ?_⟩
  rw [← f0]
  exact dm_initY _ (fun _ => 0) _ ⟨rfl, dm_fill_ok (fun _ => 0) (j := 1) (by omega)⟩ 24 0 rfl
theorem dm_24 : ∀ x : Int32, nI 24 ≤ x → ¬ x < 24 := fun x h => Int32.not_lt.mpr h
theorem dm_23 {x : Int32} (h : nI 24 ≤ x) : ¬ x ≤ 23 := by
  rw [Int32.le_iff_toInt_le] at h ⊢
  have e1 : (nI 24).toInt = 24 := by decide
  have e2 : (23 : Int32).toInt = 23 := by decide
  omega
theorem dm_badX_n {post : Int32 → Prop} {x : Int32} (h : x < 0 ∨ nI 24 ≤ x) (hp : post 1) : wpX_bad post x := by
  by_cases c : x < 0
  · exact br_t c hp
  · rcases h with h | h
    · exact absurd h c
    · exact br_f c (br_f (dm_24 x h) hp)
theorem dm_badX_y {post : Int32 → Prop} {j : Nat} (h : j < 24) (hp : post 0) : wpX_bad post (nI j) :=
  br_f (nI_pos (by omega)) (br_t (nI_lt (a := j) (b := 24) h (by omega)) hp)
theorem dm_badY_n {post : Int32 → Prop} {aw ao : Nat → Int32} {x : Int32} (h : x < 0 ∨ nI 24 ≤ x) (hp : post 1) : wpY_bad post (aw, ao) x := by
  by_cases c : x < 0
  · exact br_t c hp
  · rcases h with h | h
    · exact absurd h c
    · exact br_f c (br_f (dm_23 h) hp)
theorem dm_badY_y {post : Int32 → Prop} {aw ao : Nat → Int32} {j : Nat} (h : j < 24) (hp : post 0) : wpY_bad post (aw, ao) (nI j) :=
  br_f (nI_pos (by omega)) (br_t (nI_le (a := j) (b := 23) (by omega) (by omega)) hp)
theorem dm_cs (x : Int32) : (x < 0 ∨ nI 24 ≤ x) ∨ ∃ j : Nat, j < 24 ∧ x = nI j := by
  rcases pk_ix x (n := 24) (by omega) with h | h | h
  · exact Or.inl (Or.inl h)
  · exact Or.inl (Or.inr h)
  · exact Or.inr h
theorem dm_10 : ¬ (1 : Int32) = 0 := by decide
theorem i_vc_weight {k : Nat} {u : SX} {v : SY} (I : i_Rel k u v) (hk : k + 3 ≤ 1536) (v1 : Int32) (v2 : Int32) : wpX_weight (fun r u' => wpY_weight (fun r' v' => r' = r ∧ i_Rel (k + 3) u' v') v v1 v2) u v1 v2 := by
  obtain ⟨aw, am, au, t⟩ := u
  obtain ⟨aw', ao⟩ := v
  obtain ⟨e, ok⟩ := I
  dsimp only at e ok
  subst e
  unfold wpX_weight
  dsimp only
  rcases dm_cs v1 with h | ⟨j, hj, rfl⟩
  · refine dm_badX_n h ?_
    refine br_f dm_10 ?_
    unfold wpY_weight
    dsimp only
    refine dm_badY_n h ?_
    exact br_f dm_10 ⟨rfl, rfl, ok⟩
  · have vi := vp_in_nI (n := j) (N := 24) hj (by omega)
    refine dm_badX_y hj ?_
    refine br_t rfl ?_
    by_cases c1 : v2 < 0
    · refine br_t c1 ?_
      unfold wpY_weight
      dsimp only
      refine dm_badY_y hj ?_
      exact br_t rfl (br_t c1 ⟨rfl, rfl, ok⟩)
    · by_cases c2 : v2 ≤ 4
      · obtain ⟨i, hi, rfl⟩ := nI_of2 (M := 4) (n := 4) (by decide) c1 c2
        refine br_f c1 (br_t c2 ⟨vi, nm_e ⟨vi, nm_e ?_⟩⟩)
        unfold wpY_weight
        dsimp only
        refine dm_badY_y hj ?_
        exact br_t rfl (br_f c1 (br_t c2 ⟨vi, nm_e ⟨vi, nm_e ⟨rfl, rfl, dm_ok_upd ok _ hi⟩⟩⟩))
      · refine br_f c1 (br_f c2 ?_)
        unfold wpY_weight
        dsimp only
        refine dm_badY_y hj ?_
        exact br_t rfl (br_f c1 (br_f c2 ⟨rfl, rfl, ok⟩))
theorem i_vc_all {k : Nat} {u : SX} {v : SY} (I : i_Rel k u v) (hk : k + 3 ≤ 1536) (v1 : Int32) : wpX_all (fun r u' => wpY_all (fun r' v' => r' = r ∧ i_Rel (k + 3) u' v') v v1) u v1 := by
  obtain ⟨aw, am, au, t⟩ := u
  obtain ⟨aw', ao⟩ := v
  obtain ⟨e, ok⟩ := I
  dsimp only at e ok
  subst e
  unfold wpX_all wpY_all
  dsimp only
  by_cases c1 : v1 < 0
  · exact br_t c1 (br_t c1 ⟨rfl, rfl, ok⟩)
  · by_cases c2 : v1 ≤ 4
    · obtain ⟨i, hi, rfl⟩ := nI_of2 (M := 4) (n := 4) (by decide) c1 c2
      refine br_f c1 (br_t c2 ⟨25, ?_⟩)
      have f0 := dm_fill_0 aw' (nI i)
      have hX := dm_allX (fun r u' => (nI i < 0 → -2 = r ∧ i_Rel (k + 3) u' (aw', ao)) ∧ (¬nI i < 0 → (nI i ≤ 4 → ∃ n14, wY_all_14 (fun r' v' => r' = r ∧ i_Rel (k + 3) u' v') (nI i) n14 0 aw' ao) ∧ (¬nI i ≤ 4 → -2 = r ∧ i_Rel (k + 3) u' (aw', ao)))) (nI i) aw' am au t (br_f c1 (br_t c2 ⟨25, by
        have hY := dm_allY (fun r' v' => r' = 0 ∧ i_Rel (k + 3) (dm_fill aw' (nI i) 24, am, au, t) v') (nI i) aw' ao ⟨rfl, rfl, dm_fill_ok aw' hi⟩ 24 0 rfl
        rw [f0] at hY
        exact hY⟩)) 24 0 rfl
      rw [f0] at hX
      exact hX
    · exact br_f c1 (br_f c2 (br_f c1 (br_f c2 ⟨rfl, rfl, ok⟩)))
theorem i_vc_turn {k : Nat} {u : SX} {v : SY} (I : i_Rel k u v) (hk : k + 3 ≤ 1536) : wpX_turn (fun u' => wpY_turn (fun v' => i_Rel (k + 3) u' v') v) u := by
  obtain ⟨aw, am, au, t⟩ := u
  obtain ⟨aw', ao⟩ := v
  obtain ⟨e, ok⟩ := I
  dsimp only at e ok
  subst e
  refine ⟨25, dm_t2 _ aw' au t ?_ 24 0 am rfl (fun q hq => absurd hq (Nat.not_lt_zero _))⟩
  intro am'
  exact ⟨25, dm_tY2 _ aw' (fun ao' => ⟨rfl, dm_tn_ok ok⟩) 24 0 ao rfl (fun q hq => absurd hq (Nat.not_lt_zero _))⟩
theorem i_vc_force {k : Nat} {u : SX} {v : SY} (I : i_Rel k u v) (hk : k + 3 ≤ 1536) (v1 : Int32) (v2 : Int32) : wpX_force (fun r u' => wpY_force (fun r' v' => r' = r ∧ i_Rel (k + 3) u' v') v v1 v2) u v1 v2 := by
  obtain ⟨aw, am, au, t⟩ := u
  obtain ⟨aw', ao⟩ := v
  obtain ⟨e, ok⟩ := I
  dsimp only at e ok
  subst e
  unfold wpX_force
  dsimp only
  rcases dm_cs v2 with h | ⟨j, hj, rfl⟩
  · refine dm_badX_n h ?_
    refine br_f dm_10 ?_
    unfold wpY_force
    dsimp only
    refine dm_badY_n h ?_
    exact br_f dm_10 ⟨rfl, rfl, ok⟩
  · refine dm_badX_y hj ?_
    refine br_t rfl ?_
    by_cases c1 : v1 < 0
    · refine br_t c1 ?_
      unfold wpY_force
      dsimp only
      refine dm_badY_y hj ?_
      exact br_t rfl (br_t c1 ⟨rfl, rfl, ok⟩)
    · by_cases c2 : v1 ≤ 15
      · have c3 : ¬ 15 < v1 := Int32.not_lt.mpr c2
        refine br_f c1 (br_t c2 ?_)
        refine dm_cv_w ?_
        by_cases c : dm_cv (nI j) v1 = 0
        · refine br_t c ?_
          unfold wpY_force
          dsimp only
          refine dm_badY_y hj ?_
          refine br_t rfl (br_f c1 (br_f c3 ?_))
          refine dm_cvY_w ?_
          exact br_t c ⟨rfl, rfl, ok⟩
        · obtain ⟨r, aw2, ok2, hX, hY⟩ := dm_force_l v1 (nI j) 24 0 0 aw' rfl ok
          refine br_f c ⟨25, hX _ am au t ?_⟩
          unfold wpY_force
          dsimp only
          refine dm_badY_y hj ?_
          refine br_t rfl (br_f c1 (br_f c3 ?_))
          refine dm_cvY_w ?_
          exact br_f c ⟨25, hY _ ao ⟨rfl, rfl, ok2⟩⟩
      · have c3 : 15 < v1 := Int32.not_le.mp c2
        refine br_f c1 (br_f c2 ?_)
        unfold wpY_force
        dsimp only
        refine dm_badY_y hj ?_
        exact br_t rfl (br_f c1 (br_t c3 ⟨rfl, rfl, ok⟩))
theorem i_vc_weightOf {k : Nat} {u : SX} {v : SY} (I : i_Rel k u v) (hk : k + 3 ≤ 1536) (v1 : Int32) : wpX_weightOf (fun r => wpY_weightOf (fun r' => r' = r ∧ i_Rel (k + 3) u v) v v1) u v1 := by
  obtain ⟨aw, am, au, t⟩ := u
  obtain ⟨aw', ao⟩ := v
  obtain ⟨e, ok⟩ := I
  dsimp only at e ok
  subst e
  unfold wpX_weightOf wpY_weightOf
  dsimp only
  rcases dm_cs v1 with h | ⟨j, hj, rfl⟩
  · refine dm_badX_n h ?_
    refine br_f dm_10 ?_
    refine dm_badY_n h ?_
    exact br_f dm_10 ⟨rfl, rfl, ok⟩
  · have vi := vp_in_nI (n := j) (N := 24) hj (by omega)
    refine dm_badX_y hj ?_
    refine br_t rfl ⟨vi, ?_⟩
    refine dm_badY_y hj ?_
    exact br_t rfl ⟨vi, rfl, rfl, ok⟩
theorem i_vc_total {k : Nat} {u : SX} {v : SY} (I : i_Rel k u v) (hk : k + 3 ≤ 1536) : wpX_total (fun r u' => wpY_total (fun r' => r' = r ∧ i_Rel (k + 3) u' v) v) u := by
  obtain ⟨aw, am, au, t⟩ := u
  obtain ⟨aw', ao⟩ := v
  obtain ⟨e, ok⟩ := I
  dsimp only at e ok
  subst e
  obtain ⟨w, hw, h4⟩ := dm_ok_w ok
  unfold wpX_total wpY_total
  dsimp only
  refine dm_useW aw' am au t w hw ?_
  intro au1 h1
  dsimp only
  refine dm_sum_used aw' am au1 t w h1 h4 ?_
  intro t1
  dsimp only
  refine dm_sumW0 aw' ao w hw ?_
  exact ⟨rfl, rfl, ok⟩
theorem i_vc_totalWith {k : Nat} {u : SX} {v : SY} (I : i_Rel k u v) (hk : k + 3 ≤ 1536) (v1 : Int32) : wpX_totalWith (fun r u' => wpY_totalWith (fun r' => r' = r ∧ i_Rel (k + 3) u' v) v v1) u v1 := by
  obtain ⟨aw, am, au, t⟩ := u
  obtain ⟨aw', ao⟩ := v
  obtain ⟨e, ok⟩ := I
  dsimp only at e ok
  subst e
  obtain ⟨w, hw, h4⟩ := dm_ok_w ok
  unfold wpX_totalWith wpY_totalWith
  dsimp only
  rcases dm_cs v1 with h | ⟨j, hj, rfl⟩
  · refine dm_badX_n h ?_
    refine br_f dm_10 ?_
    refine dm_badY_n h ?_
    exact br_f dm_10 ⟨rfl, rfl, ok⟩
  · refine dm_badX_y hj ?_
    refine br_t rfl ?_
    refine dm_useW aw' am au t w hw ?_
    intro au1 h1
    dsimp only
    refine dm_with aw' am au1 t w h1 h4 hj ?_
    intro t1
    dsimp only
    refine dm_badY_y hj ?_
    refine br_t rfl ?_
    refine dm_sumW1 aw' ao w hw hj ?_
    exact ⟨rfl, rfl, ok⟩
theorem dm_SS (w : Nat → Nat) (p : Nat) : dm_S (fun m => m.testBit p && m.testBit p) w = dm_S (fun m => m.testBit p) w := by
  apply dm_zl_congr
  intro m _
  show (if (m.testBit p && m.testBit p) = true then _ else _) = (if m.testBit p = true then _ else _)
  rw [Bool.and_self]
theorem i_vc_totalWithBoth {k : Nat} {u : SX} {v : SY} (I : i_Rel k u v) (hk : k + 3 ≤ 1536) (v1 : Int32) (v2 : Int32) : wpX_totalWithBoth (fun r u' => wpY_totalWithBoth (fun r' => r' = r ∧ i_Rel (k + 3) u' v) v v1 v2) u v1 v2 := by
  obtain ⟨aw, am, au, t⟩ := u
  obtain ⟨aw', ao⟩ := v
  obtain ⟨e, ok⟩ := I
  dsimp only at e ok
  subst e
  obtain ⟨w, hw, h4⟩ := dm_ok_w ok
  unfold wpX_totalWithBoth wpY_totalWithBoth
  dsimp only
  rcases dm_cs v1 with h | ⟨j, hj, rfl⟩
  · refine dm_badX_n h ?_
    refine br_f dm_10 ?_
    refine dm_badY_n h ?_
    exact br_f dm_10 ⟨rfl, rfl, ok⟩
  · refine dm_badX_y hj ?_
    refine br_t rfl ?_
    rcases dm_cs v2 with h | ⟨i, hi, rfl⟩
    · refine dm_badX_n h ?_
      refine br_f dm_10 ?_
      refine dm_badY_y hj ?_
      refine br_t rfl ?_
      refine dm_badY_n h ?_
      exact br_f dm_10 ⟨rfl, rfl, ok⟩
    · have vi := vp_in_nI (n := i) (N := 24) hi (by omega)
      have ci : (nI i).toNatClampNeg = i := nI_clamp (by omega)
      refine dm_badX_y hi ?_
      refine br_t rfl ?_
      refine dm_useW aw' am au t w hw ?_
      intro au1 h1
      dsimp only
      refine dm_with aw' am au1 t w h1 h4 hj ?_
      intro t1
      dsimp only
      by_cases c : j = i
      · subst c
        refine br_t rfl ?_
        refine dm_badY_y hj ?_
        refine br_t rfl ?_
        refine dm_badY_y hj ?_
        refine br_t rfl ?_
        refine dm_sumW2 aw' ao w hw hj hj ?_
        rw [dm_SS]
        exact ⟨rfl, rfl, ok⟩
      · have nij : ¬ nI j = nI i := fun z => c ((nI_eq (by omega) (by omega)).mp z)
        refine br_f nij ⟨vi, ?_⟩
        rw [ci]
        refine nm_e ?_
        refine dm_with aw' am (upd au1 i 0) t1 (dm_wz w i) (dm_upd_wz h1 i) (dm_wz_bd h4 i) hj ?_
        intro t2
        dsimp only
        refine dm_badY_y hj ?_
        refine br_t rfl ?_
        refine dm_badY_y hi ?_
        refine br_t rfl ?_
        refine dm_sumW2 aw' ao w hw hj hi ?_
        refine ⟨?_, rfl, ok⟩
        rw [dm_S_split (fun m => m.testBit j) w hi, pk_sub (Nat.le_add_left _ _), Nat.add_sub_cancel]
theorem i_vc_possible {k : Nat} {u : SX} {v : SY} (I : i_Rel k u v) (hk : k + 3 ≤ 1536) : wpX_possible (fun r u' => wpY_possible (fun r' => r' = r ∧ i_Rel (k + 3) u' v) v) u := by
  obtain ⟨aw, am, au, t⟩ := u
  obtain ⟨aw', ao⟩ := v
  obtain ⟨e, ok⟩ := I
  dsimp only at e ok
  subst e
  obtain ⟨w, hw, h4⟩ := dm_ok_w ok
  unfold wpX_possible
  dsimp only
  refine dm_useO aw' am au t w hw h4 ?_
  intro au1 h1
  dsimp only
  refine dm_sum_used aw' am au1 t (dm_on w) h1 (dm_on_bd w) ?_
  intro t1
  dsimp only
  refine dm_poss aw' ao w hw h4 ?_
  exact ⟨rfl, rfl, ok⟩
theorem i_vc_canUse {k : Nat} {u : SX} {v : SY} (I : i_Rel k u v) (hk : k + 3 ≤ 1536) (v1 : Int32) : wpX_canUse (fun r u' => wpY_canUse (fun r' => r' = r ∧ i_Rel (k + 3) u' v) v v1) u v1 := by
  obtain ⟨aw, am, au, t⟩ := u
  obtain ⟨aw', ao⟩ := v
  obtain ⟨e, ok⟩ := I
  dsimp only at e ok
  subst e
  obtain ⟨w, hw, h4⟩ := dm_ok_w ok
  unfold wpX_canUse wpY_canUse
  dsimp only
  rcases dm_cs v1 with h | ⟨j, hj, rfl⟩
  · refine dm_badX_n h ?_
    refine br_f dm_10 ?_
    refine dm_badY_n h ?_
    exact br_f dm_10 ⟨rfl, rfl, ok⟩
  · refine dm_badX_y hj ?_
    refine br_t rfl ?_
    refine dm_useO aw' am au t w hw h4 ?_
    intro au1 h1
    dsimp only
    refine dm_with aw' am au1 t (dm_on w) h1 (dm_on_bd w) hj ?_
    intro t1
    dsimp only
    have b1 := dm_S_bd (dm_on_bd w) (fun m => m.testBit j)
    have b2 := dm_S_bd h4 (fun m => m.testBit j)
    have cu := dm_can w (fun m => m.testBit j)
    by_cases z : dm_S (fun m => m.testBit j) w = 0
    · have z2 := cu.mpr z
      refine br_t (by rw [z2]; decide) ?_
      refine dm_badY_y hj ?_
      refine br_t rfl ?_
      refine dm_sumW1 aw' ao w hw hj ?_
      exact br_t (by rw [z]; decide) ⟨rfl, rfl, ok⟩
    · have z2 : dm_S (fun m => m.testBit j) (dm_on w) ≠ 0 := fun a => z (cu.mp a)
      refine br_f (nI_nle (by omega) (by omega)) ?_
      refine dm_badY_y hj ?_
      refine br_t rfl ?_
      refine dm_sumW1 aw' ao w hw hj ?_
      exact br_f (nI_nle (by omega) (by omega)) ⟨rfl, rfl, ok⟩
theorem dm_cnt (w : Nat → Nat) : dm_ns 24 (fun p => if (dm_cm w 256).testBit p = true then 1 else 0) = dm_ns 24 (fun p => if dm_Z (dm_wz (dm_on w) p) = 0 then 1 else 0) := by
  apply dm_ns_congr
  intro p hp
  have hs := dm_settle w hp
  by_cases c : (dm_cm w 256).testBit p = true
  · rw [if_pos c, if_pos (hs.mpr c)]
  · rw [if_neg c, if_neg (fun a => c (hs.mp a))]
theorem dm_cnt0 (w : Nat → Nat) (z : dm_Z (dm_on w) = 0) : dm_ns 24 (fun p => if (dm_cm w 256).testBit p = true then 1 else 0) = 24 := by
  rw [dm_ns_congr (g := fun _ => 1) (fun p hp => if_pos (dm_settle0 w z hp))]
  rfl
theorem i_vc_settled {k : Nat} {u : SX} {v : SY} (I : i_Rel k u v) (hk : k + 3 ≤ 1536) : wpX_settled (fun r u' => wpY_settled (fun r' => r' = r ∧ i_Rel (k + 3) u' v) v) u := by
  obtain ⟨aw, am, au, t⟩ := u
  obtain ⟨aw', ao⟩ := v
  obtain ⟨e, ok⟩ := I
  dsimp only at e ok
  subst e
  obtain ⟨w, hw, h4⟩ := dm_ok_w ok
  unfold wpX_settled
  dsimp only
  refine dm_useO aw' am au t w hw h4 ?_
  intro au1 h1
  dsimp only
  refine dm_sum_used aw' am au1 t (dm_on w) h1 (dm_on_bd w) ?_
  intro t1
  dsimp only
  have b1 := dm_Z_bd (dm_on_bd w)
  by_cases z : dm_Z (dm_on w) = 0
  · refine br_t (by rw [z]; rfl) ?_
    refine dm_ysettled aw' ao w hw h4 ?_
    exact ⟨congrArg nI (dm_cnt0 w z), rfl, ok⟩
  · refine br_f (nI_ne0 (by omega) (by omega)) ⟨25, ?_⟩
    refine dm_set20 _ aw' am au1 (dm_on w) h1 (dm_on_bd w) ?_ 24 0 t1 rfl
    intro t2
    refine dm_ysettled aw' ao w hw h4 ?_
    exact ⟨congrArg nI (dm_cnt w), rfl, ok⟩
theorem i_vc_acrossTotal {k : Nat} {u : SX} {v : SY} (I : i_Rel k u v) (hk : k + 3 ≤ 1536) : wpX_acrossTotal (fun r u' => wpY_acrossTotal (fun r' => r' = r ∧ i_Rel (k + 3) u' v) v) u := by
  obtain ⟨aw, am, au, t⟩ := u
  obtain ⟨aw', ao⟩ := v
  obtain ⟨e, ok⟩ := I
  dsimp only at e ok
  subst e
  obtain ⟨w, hw, h4⟩ := dm_ok_w ok
  unfold wpX_acrossTotal
  dsimp only
  refine dm_useW aw' am au t w hw ?_
  intro au1 h1
  dsimp only
  refine ⟨13, ?_⟩
  refine dm_acr8 _ aw' am au1 w h1 h4 ?_ 12 0 t rfl
  intro t1
  refine dm_yacr aw' ao w hw ?_
  exact ⟨rfl, rfl, ok⟩
end
